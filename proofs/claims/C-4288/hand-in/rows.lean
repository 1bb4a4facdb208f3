section
/-! rows of the kit (PURE-ROWS, BITS), pasted: stores, naturals, masks, shifts -/
theorem pk_us {f : Nat → Int32} {k : Nat} {x : Int32} : upd f k x k = x := if_pos rfl
theorem pk_un {f : Nat → Int32} {k j : Nat} {x : Int32} (h : j ≠ k) : upd f k x j = f j := if_neg h
theorem pk_sub {a b : Nat} (h : b ≤ a) : nI a - nI b = nI (a - b) := by
  obtain ⟨c, rfl⟩ : ∃ c, a = c + b := ⟨a - b, by omega⟩
  rw [← nI_add, Int32.add_sub_cancel, Nat.add_sub_cancel]
theorem pk_m1 (n : Nat) : nI (n + 1) + (-1) = nI n := by
  rw [← nI_1, Int32.add_assoc, show (1 : Int32) + (-1) = 0 from rfl, Int32.add_zero]
theorem pk_mul (a b : Nat) : nI a * nI b = nI (a * b) := (Int32.ofNat_mul a b).symm
theorem pk_div {a d : Nat} (ha : a < 2 ^ 31) (h0 : 0 < d) (hd : d < 2 ^ 31) : nI a / nI d = nI (a / d) := by
  apply Int32.toInt_inj.mp
  rw [lg_idiv_nonneg (by rw [nI_toInt ha]; omega) (by rw [nI_toInt hd]; omega), nI_toInt ha, nI_toInt hd, nI_toInt (Nat.lt_of_le_of_lt (Nat.div_le_self a d) ha)]
  first | rfl | exact (Int.natCast_ediv _ _).symm
theorem pk_rem {a d : Nat} (ha : a < 2 ^ 31) (h0 : 0 < d) (hd : d < 2 ^ 31) : nI a - nI a / nI d * nI d = nI (a % d) := by
  rw [pk_div ha h0 hd, pk_mul, pk_sub (Nat.div_mul_le_self a d)]
  exact congrArg nI (by have := Nat.div_add_mod' a d; omega)
theorem pk_sub_toInt {a b : Nat} (ha : a < 2 ^ 30) (hb : b < 2 ^ 30) : (nI a - nI b).toInt = (a : Int) - b := by
  rw [Int32.toInt_sub, nI_toInt (by omega), nI_toInt (by omega)]
  exact Int.bmod_eq_of_le (by omega) (by omega)
theorem pk_sneg {a b : Nat} (hb : b < 2 ^ 30) (h : a < b) : nI a - nI b < 0 := by
  rw [Int32.lt_iff_toInt_lt, pk_sub_toInt (by omega) hb, show (0 : Int32).toInt = 0 from by decide]
  omega
theorem pk_ix (x : Int32) {n : Nat} (hn : n < 2 ^ 31) : x < 0 ∨ nI n ≤ x ∨ ∃ j : Nat, j < n ∧ x = nI j := by
  by_cases h : x < 0
  · exact Or.inl h
  · obtain ⟨j, hj, rfl⟩ := nI_of h
    by_cases h2 : j < n
    · exact Or.inr (Or.inr ⟨j, h2, rfl⟩)
    · exact Or.inr (Or.inl (nI_le (by omega) hj))
theorem pk_le {x y : Int32} {A B : Prop} (a b : Nat) (f : a ≤ b → A) (g : b < a → B) (hx : x = nI a := by rfl) (hy : y = nI b := by rfl) (ha : a < 2 ^ 31 := by omega) (hb : b < 2 ^ 31 := by omega) : (x ≤ y → A) ∧ (¬ x ≤ y → B) := by
  subst hx hy
  rw [nI_leI ha hb]
  exact ⟨f, fun z => g (by omega)⟩
theorem pk_lt {x y : Int32} {A B : Prop} (a b : Nat) (f : a < b → A) (g : b ≤ a → B) (hx : x = nI a := by rfl) (hy : y = nI b := by rfl) (ha : a < 2 ^ 31 := by omega) (hb : b < 2 ^ 31 := by omega) : (x < y → A) ∧ (¬ x < y → B) := by
  subst hx hy
  rw [nI_ltI ha hb]
  exact ⟨f, fun z => g (by omega)⟩
theorem pk_eq {x y : Int32} {A B : Prop} (a b : Nat) (f : a = b → A) (g : a ≠ b → B) (hx : x = nI a := by rfl) (hy : y = nI b := by rfl) (ha : a < 2 ^ 31 := by omega) (hb : b < 2 ^ 31 := by omega) : (x = y → A) ∧ (¬ x = y → B) := by
  subst hx hy
  rw [nI_eq ha hb]
  exact ⟨f, g⟩
theorem pk_in {x : Int32} (n N : Nat) (h : n < N) (hx : x = nI n := by rfl) (hN : N < 2 ^ 31 := by omega) : vp_in x N := by
  subst hx
  exact vp_in_nI h hN
theorem pk_cl {x : Int32} (n : Nat) (hx : x = nI n := by rfl) (h : n < 2 ^ 31 := by omega) : x.toNatClampNeg = n := by
  subst hx
  exact nI_clamp h
theorem pk_tn {n : Nat} (h : n < 2 ^ 32) : (nI n).toBitVec.toNat = n := Nat.mod_eq_of_lt h
theorem pk_and (x : Int32) {m : Int32} (k : Nat) (hm : m.toBitVec.toNat = 2 ^ k - 1) : x &&& m = nI (x.toBitVec.toNat % 2 ^ k) := by
  apply Int32.toBitVec_inj.mp
  apply BitVec.eq_of_toNat_eq
  rw [Int32.toBitVec_and, BitVec.toNat_and, hm, Nat.and_two_pow_sub_one_eq_mod]
  show _ = (BitVec.ofNat 32 _).toNat
  rw [BitVec.toNat_ofNat]
  exact (Nat.mod_eq_of_lt (Nat.lt_of_le_of_lt (Nat.mod_le _ _) x.toBitVec.isLt)).symm
theorem pk_andN {n : Nat} (h : n < 2 ^ 32) {m : Int32} (k : Nat) (hm : m.toBitVec.toNat = 2 ^ k - 1) : nI n &&& m = nI (n % 2 ^ k) := by
  rw [pk_and _ k hm, pk_tn h]
theorem pk_andE (x : Int32) {m : Int32} (k : Nat) (hm : m.toBitVec.toNat = 2 ^ k - 1) : ∃ j : Nat, j < 2 ^ k ∧ x &&& m = nI j := ⟨_, Nat.mod_lt _ (Nat.two_pow_pos k), pk_and x k hm⟩
theorem pk_andIn (x : Int32) {m : Int32} (k : Nat) (hm : m.toBitVec.toNat = 2 ^ k - 1) (hk : k ≤ 30) : vp_in (x &&& m) (2 ^ k) := by
  obtain ⟨j, hj, e⟩ := pk_andE x k hm
  rw [e]
  exact vp_in_nI hj (Nat.lt_of_le_of_lt (Nat.pow_le_pow_right (by decide) hk) (by decide))
theorem pk_shl (a s : Int32) (k : Nat) (hs : (s.toBitVec.smod 32).toNat = k) : (a <<< s).toBitVec.toNat = a.toBitVec.toNat * 2 ^ k % 2 ^ 32 := by
  show (a.toBitVec <<< (s.toBitVec.smod 32).toNat).toNat = _
  rw [hs, BitVec.toNat_shiftLeft, Nat.shiftLeft_eq]
theorem pk_shlN {n : Nat} (s : Int32) (k : Nat) (hs : (s.toBitVec.smod 32).toNat = k) (h : n * 2 ^ k < 2 ^ 32) : nI n <<< s = nI (n * 2 ^ k) := by
  apply Int32.toBitVec_inj.mp
  apply BitVec.eq_of_toNat_eq
  have hn : n < 2 ^ 32 := Nat.lt_of_le_of_lt (Nat.le_mul_of_pos_right n (Nat.two_pow_pos k)) h
  rw [pk_shl _ _ k hs, pk_tn hn, pk_tn h, Nat.mod_eq_of_lt h]
theorem pk_shr (a s : Int32) (k : Nat) (hs : (s.toBitVec.smod 32).toNat = k) : (a >>> s).toInt = a.toInt >>> k := by
  show (a.toBitVec.sshiftRight (s.toBitVec.smod 32).toNat).toInt = _
  rw [hs, BitVec.toInt_sshiftRight]
  rfl
theorem pk_shrN {n : Nat} (h : n < 2 ^ 31) (s : Int32) (k : Nat) (hs : (s.toBitVec.smod 32).toNat = k) : nI n >>> s = nI (n / 2 ^ k) := by
  apply Int32.toInt_inj.mp
  have h2 : n / 2 ^ k ≤ n := Nat.div_le_self _ _
  rw [pk_shr _ _ k hs, nI_toInt h, nI_toInt (by omega), Int.shiftRight_eq_div_pow]
  rfl
theorem pk_ushr (x s : Int32) (k : Nat) (hs : ((s.toUInt32 &&& Int32.toUInt32 31).toBitVec % 32).toNat = k) : (x.toUInt32 >>> (s.toUInt32 &&& Int32.toUInt32 31)).toInt32.toBitVec.toNat = x.toBitVec.toNat / 2 ^ k := by
  have e : (x.toUInt32 >>> (s.toUInt32 &&& Int32.toUInt32 31)).toInt32.toBitVec = x.toBitVec >>> k := by
    rw [← hs]
    exact UInt32.toBitVec_shiftRight _ _
  rw [e, BitVec.toNat_ushiftRight, Nat.shiftRight_eq_div_pow]
theorem pk_ushrN {n : Nat} (hn : n < 2 ^ 32) (s : Int32) (k : Nat) (hs : ((s.toUInt32 &&& Int32.toUInt32 31).toBitVec % 32).toNat = k) : ((nI n).toUInt32 >>> (s.toUInt32 &&& Int32.toUInt32 31)).toInt32 = nI (n / 2 ^ k) := by
  apply Int32.toBitVec_inj.mp
  apply BitVec.eq_of_toNat_eq
  rw [pk_ushr _ s k hs, pk_tn hn, pk_tn (Nat.lt_of_le_of_lt (Nat.div_le_self _ _) hn)]
theorem s_l : ∀ n, n < 32 → ((nI n &&& 31).toBitVec.smod 32).toNat = n := by decide +kernel
theorem s_u : ∀ n, n < 32 → (((nI n).toUInt32 &&& Int32.toUInt32 31).toBitVec % 32).toNat = n := by decide +kernel
end
section
/-! the pure picture: truth values as ints, literals, signals, runs -/
def dk_b : Bool → Int32
  | true => 1
  | false => 0
theorem dk_b_inj {x y : Bool} (h : dk_b x = dk_b y) : x = y := by
  cases x <;> cases y <;> first | rfl | exact absurd h (by decide)
theorem dk_b_ge (x : Bool) : (0 : Int32) ≤ dk_b x := by cases x <;> decide
theorem dk_b_nlt (x : Bool) : ¬ dk_b x < 0 := by cases x <;> decide
theorem dk_b_ne (x : Bool) : ¬ (-1 : Int32) = dk_b x := by cases x <;> decide
theorem dk_xor (x y : Bool) : dk_b x ^^^ dk_b y = dk_b (x ^^ y) := by cases x <;> cases y <;> decide
theorem dk_mul (x y : Bool) : dk_b x * dk_b y = dk_b (x && y) := by cases x <;> cases y <;> decide
theorem dk_not (x : Bool) : 1 - dk_b x = dk_b (!x) := by cases x <;> decide
def dk_od (q : Nat) : Bool := decide (q % 2 = 1)
def dk_lv (e : Nat → Bool) (q : Nat) : Bool := e (q / 2) ^^ dk_od q
def dk_fr (σ : Nat → Bool) (f : Nat) : Nat → Bool := fun s => σ (16 * f + s)
theorem dk_and1 {q : Nat} (h : q < 2 ^ 31) : nI q &&& 1 = dk_b (dk_od q) := by
  rw [pk_andN (by omega) 1 (by decide)]
  unfold dk_od
  rcases Nat.mod_two_eq_zero_or_one q with e | e
  · rw [show q % 2 ^ 1 = 0 from e]; decide
  · rw [show q % 2 ^ 1 = 1 from e]; decide
theorem dk_tb (n k : Nat) : dk_od (n / 2 ^ k) = n.testBit k := (Nat.testBit_eq_decide_div_mod_eq).symm
theorem dk_shr {n k : Nat} (hn : n < 2 ^ 31) (hk : k < 32) : (nI n >>> (nI k &&& 31)) &&& 1 = dk_b (n.testBit k) := by
  rw [pk_shrN hn _ k (s_l k hk), dk_and1 (Nat.lt_of_le_of_lt (Nat.div_le_self _ _) hn), dk_tb]
theorem dk_ushr {n k : Nat} (hn : n < 2 ^ 31) (hk : k < 32) : (((nI n).toUInt32 >>> ((nI k).toUInt32 &&& Int32.toUInt32 31)).toInt32) &&& 1 = dk_b (n.testBit k) := by
  rw [pk_ushrN (by omega) _ k (s_u k hk), dk_and1 (Nat.lt_of_le_of_lt (Nat.div_le_self _ _) hn), dk_tb]
/-- any int's lowest bit -/
theorem dk_low (x : Int32) : ∃ i : Bool, x &&& 1 = dk_b i := by
  obtain ⟨j, hj, e⟩ := pk_andE x (m := 1) 1 (by decide)
  rw [e]
  have h : j = 0 ∨ j = 1 := by omega
  rcases h with rfl | rfl
  · exact ⟨false, by decide⟩
  · exact ⟨true, by decide⟩
theorem dk_lowb (i : Bool) : dk_b i &&& 1 = dk_b i := by cases i <;> decide

/-! the signals of a state and an input -/
def dk_bs (st : Nat) (i : Bool) : Nat → Bool := fun s => if s = 0 then false else if s < 5 then st.testBit (s - 1) else i
def dk_wk (L R : Nat → Nat) (e : Nat → Bool) : Nat → Nat → Bool
  | 0 => e
  | k + 1 => fun s => if s = 6 + k then (dk_lv (dk_wk L R e k) (L s) && dk_lv (dk_wk L R e k) (R s)) else dk_wk L R e k s
def dk_ev (G : Nat) (L R : Nat → Nat) (st : Nat) (i : Bool) : Nat → Bool := dk_wk L R (dk_bs st i) G
theorem dk_wk_s {L R : Nat → Nat} {e : Nat → Bool} {k s : Nat} (h : s < 6 + k) : ∀ d, dk_wk L R e (k + d) s = dk_wk L R e k s
  | 0 => rfl
  | d + 1 => by
    show (if s = 6 + (k + d) then _ else dk_wk L R e (k + d) s) = _
    rw [if_neg (by omega), dk_wk_s h d]
theorem dk_ev_lo {G : Nat} {L R : Nat → Nat} {st : Nat} {i : Bool} {s : Nat} (h : s < 6) : dk_ev G L R st i s = dk_bs st i s := by
  have := dk_wk_s (L := L) (R := R) (e := dk_bs st i) (k := 0) (s := s) h G
  rw [Nat.zero_add] at this
  exact this
theorem dk_ev_k {G : Nat} {L R : Nat → Nat} {st : Nat} {i : Bool} {k s : Nat} (hk : k ≤ G) (h : s < 6 + k) : dk_wk L R (dk_bs st i) k s = dk_ev G L R st i s := by
  have := dk_wk_s (L := L) (R := R) (e := dk_bs st i) (k := k) (s := s) h (G - k)
  rw [show k + (G - k) = G by omega] at this
  exact this.symm
theorem dk_lv_c {e e' : Nat → Bool} {q : Nat} (h : e (q / 2) = e' (q / 2)) : dk_lv e q = dk_lv e' q := by
  unfold dk_lv; rw [h]
theorem dk_ev_g {G : Nat} {L R : Nat → Nat} {st : Nat} {i : Bool} {g : Nat} (h6 : 6 ≤ g) (hg : g < 6 + G) (hL : L g < 2 * g) (hR : R g < 2 * g) : dk_ev G L R st i g = (dk_lv (dk_ev G L R st i) (L g) && dk_lv (dk_ev G L R st i) (R g)) := by
  obtain ⟨k, rfl⟩ : ∃ k, g = 6 + k := ⟨g - 6, by omega⟩
  rw [← dk_ev_k (k := k + 1) (by omega) (by omega)]
  show (if 6 + k = 6 + k then (dk_lv (dk_wk L R (dk_bs st i) k) (L (6 + k)) && dk_lv (dk_wk L R (dk_bs st i) k) (R (6 + k))) else _) = _
  rw [if_pos rfl, dk_lv_c (q := L (6 + k)) (dk_ev_k (G := G) (k := k) (by omega) (by omega)), dk_lv_c (q := R (6 + k)) (dk_ev_k (G := G) (k := k) (by omega) (by omega))]

/-! four bits -/
def dk_4 (a b c d : Bool) : Nat := a.toNat + 2 * b.toNat + 4 * c.toNat + 8 * d.toNat
theorem dk_4_lt : ∀ a b c d : Bool, dk_4 a b c d < 16 := by decide
theorem dk_4_1 : ∀ a b c d : Bool, (dk_4 a b c d).testBit 0 = a := by decide
theorem dk_4_2 : ∀ a b c d : Bool, (dk_4 a b c d).testBit 1 = b := by decide
theorem dk_4_3 : ∀ a b c d : Bool, (dk_4 a b c d).testBit 2 = c := by decide
theorem dk_4_4 : ∀ a b c d : Bool, (dk_4 a b c d).testBit 3 = d := by decide
theorem dk_4_of : ∀ m, m < 16 → dk_4 (m.testBit 0) (m.testBit 1) (m.testBit 2) (m.testBit 3) = m := by decide
theorem dk_l4 {P : Nat → Prop} (h1 : P 1) (h2 : P 2) (h3 : P 3) (h4 : P 4) : ∀ l, 1 ≤ l → l < 5 → P l := by
  intro l a b
  have h : l = 1 ∨ l = 2 ∨ l = 3 ∨ l = 4 := by omega
  rcases h with rfl | rfl | rfl | rfl <;> assumption
def dk_nx (N : Nat → Nat) (e : Nat → Bool) : Nat := dk_4 (dk_lv e (N 1)) (dk_lv e (N 2)) (dk_lv e (N 3)) (dk_lv e (N 4))
theorem dk_nx_lt (N : Nat → Nat) (e : Nat → Bool) : dk_nx N e < 16 := dk_4_lt _ _ _ _
theorem dk_nx_b (N : Nat → Nat) (e : Nat → Bool) : ∀ l, 1 ≤ l → l < 5 → (dk_nx N e).testBit (l - 1) = dk_lv e (N l) :=
  dk_l4 (dk_4_1 _ _ _ _) (dk_4_2 _ _ _ _) (dk_4_3 _ _ _ _) (dk_4_4 _ _ _ _)
theorem dk_16 {m k : Nat} (hm : m < 16) (hk : k < 16) (h : ∀ l, 1 ≤ l → l < 5 → m.testBit (l - 1) = k.testBit (l - 1)) : m = k := by
  have a1 : m.testBit 0 = k.testBit 0 := h 1 (by omega) (by omega)
  have a2 : m.testBit 1 = k.testBit 1 := h 2 (by omega) (by omega)
  have a3 : m.testBit 2 = k.testBit 2 := h 3 (by omega) (by omega)
  have a4 : m.testBit 3 = k.testBit 3 := h 4 (by omega) (by omega)
  rw [← dk_4_of m hm, ← dk_4_of k hk, a1, a2, a3, a4]

/-! the run of a number -/
def dk_st (G : Nat) (L R N : Nat → Nat) (len n : Nat) : Nat → Nat
  | 0 => n / 2 ^ (len + 1)
  | f + 1 => dk_nx N (dk_ev G L R (dk_st G L R N len n f) (n.testBit (len - f)))
def dk_e (G : Nat) (L R N : Nat → Nat) (len n f : Nat) : Nat → Bool := dk_ev G L R (dk_st G L R N len n f) (n.testBit (len - f))
def dk_sg (G : Nat) (L R N : Nat → Nat) (len n : Nat) : Nat → Bool := fun p => dk_e G L R N len n (p / 16) (p % 16)
theorem dk_st_lt {G : Nat} {L R N : Nat → Nat} {len n : Nat} (hn : n < 2 ^ (5 + len)) : ∀ f, dk_st G L R N len n f < 16
  | 0 => by
    show n / 2 ^ (len + 1) < 16
    rw [Nat.div_lt_iff_lt_mul (Nat.two_pow_pos _)]
    have : (2 : Nat) ^ (5 + len) = 16 * 2 ^ (len + 1) := by
      rw [show 5 + len = 4 + (len + 1) by omega, Nat.pow_add]
    omega
  | _ + 1 => dk_nx_lt _ _
theorem dk_sg_p {G : Nat} {L R N : Nat → Nat} {len n f s : Nat} (hs : s < 16) : dk_sg G L R N len n (16 * f + s) = dk_e G L R N len n f s := by
  unfold dk_sg
  rw [show (16 * f + s) / 16 = f by omega, show (16 * f + s) % 16 = s by omega]
theorem dk_sg_lv {G : Nat} {L R N : Nat → Nat} {len n f q : Nat} (hq : q < 32) : dk_lv (dk_fr (dk_sg G L R N len n) f) q = dk_lv (dk_e G L R N len n f) q :=
  dk_lv_c (dk_sg_p (by omega))
def dk_wf (G : Nat) (L R N : Nat → Nat) (bd : Nat) (B : Nat → Nat) : Prop :=
  G ≤ 10 ∧ (∀ g, 6 ≤ g → g < 6 + G → L g < 2 * g ∧ R g < 2 * g) ∧ (∀ l, 1 ≤ l → l < 5 → N l < 2 * (6 + G)) ∧ bd < 2 * (6 + G) ∧ (∀ l, 1 ≤ l → l < 5 → B l ≤ 2)
def dk_con (G len : Nat) (L R N : Nat → Nat) (σ : Nat → Bool) : Prop :=
  (∀ f g, f ≤ len → 6 ≤ g → g < 6 + G → σ (16 * f + g) = (dk_lv (dk_fr σ f) (L g) && dk_lv (dk_fr σ f) (R g))) ∧
  (∀ f l, f < len → 1 ≤ l → l < 5 → σ (16 * f + 16 + l) = dk_lv (dk_fr σ f) (N l))
theorem dk_sg_con {G : Nat} {L R N : Nat → Nat} {bd : Nat} {B : Nat → Nat} (wf : dk_wf G L R N bd B) (len n : Nat) : dk_con G len L R N (dk_sg G L R N len n) := by
  obtain ⟨hG, hg, hN, -, -⟩ := wf
  constructor
  · intro f g hf h6 h
    obtain ⟨a, b⟩ := hg g h6 h
    rw [dk_sg_p (by omega), dk_sg_lv (by omega), dk_sg_lv (by omega)]
    exact dk_ev_g h6 h a b
  · intro f l hf h1 h5
    have a := hN l h1 h5
    rw [dk_sg_lv (by omega), show 16 * f + 16 + l = 16 * (f + 1) + l by omega, dk_sg_p (by omega)]
    unfold dk_e
    rw [dk_ev_lo (by omega)]
    unfold dk_bs
    rw [if_neg (by omega), if_pos (by omega)]
    show (dk_nx N _).testBit (l - 1) = _
    rw [dk_nx_b N _ l h1 h5]
theorem dk_e_0 {G : Nat} {L R N : Nat → Nat} {len n f : Nat} : dk_e G L R N len n f 0 = false := by
  unfold dk_e; rw [dk_ev_lo (by omega)]; rfl
theorem dk_e_l {G : Nat} {L R N : Nat → Nat} {len n f l : Nat} (h1 : 1 ≤ l) (h5 : l < 5) : dk_e G L R N len n f l = (dk_st G L R N len n f).testBit (l - 1) := by
  unfold dk_e; rw [dk_ev_lo (by omega)]; unfold dk_bs; rw [if_neg (by omega), if_pos h5]
theorem dk_e_5 {G : Nat} {L R N : Nat → Nat} {len n f : Nat} : dk_e G L R N len n f 5 = n.testBit (len - f) := by
  unfold dk_e; rw [dk_ev_lo (by omega)]; rfl

/-! the decisions: latches 4, 3, 2, 1 of the first copy, then the inputs -/
def dk_dv (j : Nat) : Nat := if j < 4 then 4 - j else 16 * (j - 4) + 5
theorem dk_dv_lt {len j : Nat} (hl : len ≤ 6) (hj : j < 5 + len) : dk_dv j < 112 := by
  unfold dk_dv; split <;> omega
theorem dk_sg_dv {G : Nat} {L R N : Nat → Nat} {len n j : Nat} (hj : j < 5 + len) : dk_sg G L R N len n (dk_dv j) = n.testBit (4 + len - j) := by
  unfold dk_dv
  by_cases h : j < 4
  · rw [if_pos h, show 4 - j = 16 * 0 + (4 - j) by omega, dk_sg_p (by omega), dk_e_l (by omega) (by omega)]
    show (n / 2 ^ (len + 1)).testBit _ = _
    rw [Nat.testBit_div_two_pow]
    exact congrArg _ (by omega)
  · rw [if_neg h, dk_sg_p (by omega), dk_e_5]
    exact congrArg _ (by omega)
theorem dk_num : ∀ (K : Nat) (P : Nat → Bool), ∃ n, n < 2 ^ K ∧ ∀ i, i < K → n.testBit i = P i
  | 0, _ => ⟨0, by decide, fun i h => absurd h (by omega)⟩
  | K + 1, P => by
    obtain ⟨n, hn, h⟩ := dk_num K (fun i => P (i + 1))
    have hb : (P 0).toNat ≤ 1 := Bool.toNat_le (P 0)
    refine ⟨2 * n + (P 0).toNat, by rw [Nat.pow_succ]; omega, fun i hi => ?_⟩
    cases i with
    | zero =>
      rw [Nat.testBit_zero]
      cases hP : P 0
      · rw [decide_eq_false]; simp
      · rw [decide_eq_true]; simp
    | succ i =>
      rw [Nat.testBit_succ, show (2 * n + (P 0).toNat) / 2 = n by omega]
      exact h i (by omega)
theorem dk_hi {n K i : Nat} (hn : n < 2 ^ K) (hi : K ≤ i) : n.testBit i = false :=
  Nat.testBit_lt_two_pow (Nat.lt_of_lt_of_le hn (Nat.pow_le_pow_right (by decide) hi))
theorem dk_numeq {n m K : Nat} (hn : n < 2 ^ K) (hm : m < 2 ^ K) (h : ∀ i, i < K → n.testBit i = m.testBit i) : n = m := by
  apply Nat.eq_of_testBit_eq
  intro i
  by_cases hi : i < K
  · exact h i hi
  · rw [dk_hi hn (by omega), dk_hi hm (by omega)]
theorem dk_ltb {x y i : Nat} (hx : x.testBit i = false) (hy : y.testBit i = true) (h : ∀ j, i < j → x.testBit j = y.testBit j) : x < y := by
  have e : x / 2 ^ (i + 1) = y / 2 ^ (i + 1) := by
    apply Nat.eq_of_testBit_eq
    intro j
    rw [Nat.testBit_div_two_pow, Nat.testBit_div_two_pow]
    exact h _ (by omega)
  rw [Nat.testBit_eq_decide_div_mod_eq] at hx hy
  have hx := of_decide_eq_false hx
  have hy := of_decide_eq_true hy
  rw [Nat.pow_succ, ← Nat.div_div_eq_div_mul, ← Nat.div_div_eq_div_mul] at e
  have k : x / 2 ^ i < y / 2 ^ i := by
    generalize x / 2 ^ i = a at *
    generalize y / 2 ^ i = c at *
    omega
  exact Nat.lt_of_div_lt_div k
/-- lexicographically earlier by the first D decisions -/
def dk_lx (D : Nat) (τ σ : Nat → Bool) : Prop := ∃ j, j < D ∧ (∀ i, i < j → τ (dk_dv i) = σ (dk_dv i)) ∧ τ (dk_dv j) = false ∧ σ (dk_dv j) = true
theorem dk_lx_lt {G : Nat} {L R N : Nat → Nat} {len n m : Nat} (hn : n < 2 ^ (5 + len)) (hm : m < 2 ^ (5 + len)) (h : dk_lx (5 + len) (dk_sg G L R N len n) (dk_sg G L R N len m)) : n < m := by
  obtain ⟨j, hj, h1, h2, h3⟩ := h
  rw [dk_sg_dv hj] at h2 h3
  refine dk_ltb (i := 4 + len - j) h2 h3 (fun i hi => ?_)
  by_cases h : i < 5 + len
  · have := h1 (4 + len - i) (by omega)
    rw [dk_sg_dv (by omega), dk_sg_dv (by omega), show 4 + len - (4 + len - i) = i by omega] at this
    exact this
  · rw [dk_hi hn (by omega), dk_hi hm (by omega)]

/-! what is looked for -/
def dk_good (G : Nat) (L R N : Nat → Nat) (bd : Nat) (B : Nat → Nat) (len : Nat) (fb df : Bool) (n : Nat) : Prop :=
  (fb = true → ∀ l, 1 ≤ l → l < 5 → B l < 2 → (n / 2 ^ (len + 1)).testBit (l - 1) = decide (B l = 1)) ∧
  (∀ f, f < len → dk_lv (dk_e G L R N len n f) bd = false) ∧ dk_lv (dk_e G L R N len n len) bd = true ∧
  (df = true → ∀ f h, h < f → f ≤ len → dk_st G L R N len n f ≠ dk_st G L R N len n h)
end
section
/-! closure under the rules, and: what is closed and decided is a run -/
def dk_gc (V : Nat → Int32) (f g ql qr : Nat) : Prop := ∀ x y : Bool, V (16 * f + ql / 2) = dk_b (x ^^ dk_od ql) → V (16 * f + qr / 2) = dk_b (y ^^ dk_od qr) → V (16 * f + g) = dk_b (x && y)
def dk_lc (V : Nat → Int32) (f l q : Nat) : Prop := ∀ x : Bool, V (16 * f + q / 2) = dk_b (x ^^ dk_od q) → V (16 * f + 16 + l) = dk_b x
def dk_clo (G len : Nat) (L R N : Nat → Nat) (V : Nat → Int32) (f : Nat) : Prop :=
  (∀ g, 6 ≤ g → g < 6 + G → dk_gc V f g (L g) (R g)) ∧ (f < len → ∀ l, 1 ≤ l → l < 5 → dk_lc V f l (N l))
theorem dk_lvx (e : Nat → Bool) (q : Nat) : (dk_lv e q ^^ dk_od q) = e (q / 2) := by
  unfold dk_lv
  cases e (q / 2) <;> cases dk_od q <;> rfl
theorem dk_full_g {G : Nat} {L R : Nat → Nat} {V : Nat → Int32} {st f : Nat} {i : Bool} (hw : ∀ g, 6 ≤ g → g < 6 + G → L g < 2 * g ∧ R g < 2 * g) (h0 : ∀ s, s < 6 → V (16 * f + s) = dk_b (dk_ev G L R st i s)) (hc : ∀ g, 6 ≤ g → g < 6 + G → dk_gc V f g (L g) (R g)) : ∀ s, s < 6 + G → V (16 * f + s) = dk_b (dk_ev G L R st i s) := by
  intro s
  induction s using Nat.strongRecOn with
  | ind s ih =>
    intro hs
    by_cases h6 : s < 6
    · exact h0 s h6
    · obtain ⟨a, b⟩ := hw s (by omega) hs
      have hl := ih (L s / 2) (by omega) (by omega)
      have hr := ih (R s / 2) (by omega) (by omega)
      rw [← dk_lvx (dk_ev G L R st i) (L s)] at hl
      rw [← dk_lvx (dk_ev G L R st i) (R s)] at hr
      rw [hc s (by omega) hs _ _ hl hr, dk_ev_g (by omega) hs a b]
theorem dk_full {G len n : Nat} {L R N : Nat → Nat} {bd : Nat} {B : Nat → Nat} {V : Nat → Int32} (wf : dk_wf G L R N bd B) (hz : ∀ f, f ≤ len → V (16 * f) = dk_b false) (hd : ∀ j, j < 5 + len → V (dk_dv j) = dk_b (n.testBit (4 + len - j))) (hc : ∀ f, f ≤ len → dk_clo G len L R N V f) : ∀ f, f ≤ len → ∀ s, s < 6 + G → V (16 * f + s) = dk_b (dk_e G L R N len n f s) := by
  obtain ⟨hG, hg, hN, -, -⟩ := wf
  have inp : ∀ f, f ≤ len → V (16 * f + 5) = dk_b (n.testBit (len - f)) := by
    intro f hf
    have := hd (4 + f) (by omega)
    unfold dk_dv at this
    rw [if_neg (by omega), show 4 + f - 4 = f by omega, show 4 + len - (4 + f) = len - f by omega] at this
    exact this
  have go : ∀ f, f ≤ len → (∀ l, 1 ≤ l → l < 5 → V (16 * f + l) = dk_b ((dk_st G L R N len n f).testBit (l - 1))) → ∀ s, s < 6 + G → V (16 * f + s) = dk_b (dk_e G L R N len n f s) := by
    intro f hf hl
    refine dk_full_g hg (fun s hs => ?_) (hc f hf).1
    show _ = dk_b (dk_e G L R N len n f s)
    by_cases h0 : s = 0
    · subst h0; rw [dk_e_0]; exact hz f hf
    · by_cases h5 : s < 5
      · rw [dk_e_l (by omega) h5]; exact hl s (by omega) h5
      · have : s = 5 := by omega
        subst this
        rw [dk_e_5]; exact inp f hf
  intro f
  induction f with
  | zero =>
    intro hf
    refine go 0 hf (fun l h1 h5 => ?_)
    have := hd (4 - l) (by omega)
    unfold dk_dv at this
    rw [if_pos (by omega), show 4 - (4 - l) = l by omega, show 4 + len - (4 - l) = len + l by omega] at this
    rw [show 16 * 0 + l = l by omega, this]
    show _ = dk_b ((n / 2 ^ (len + 1)).testBit (l - 1))
    rw [Nat.testBit_div_two_pow, show l - 1 + (len + 1) = len + l by omega]
  | succ f ih =>
    intro hf
    refine go (f + 1) hf (fun l h1 h5 => ?_)
    have hq := hN l h1 h5
    have hk := ih (by omega) (N l / 2) (by omega)
    rw [← dk_lvx (dk_e G L R N len n f) (N l)] at hk
    have := (hc f (by omega)).2 (by omega) l h1 h5 _ hk
    rw [show 16 * (f + 1) + l = 16 * f + 16 + l by omega, this]
    show _ = dk_b ((dk_nx N _).testBit (l - 1))
    rw [dk_nx_b N _ l h1 h5]
    rfl
end
section
/-! the component's values: what is set, how many, the trail -/
def dk_rng (V : Nat → Int32) : Prop := ∀ p, p < 112 → V p = -1 ∨ ∃ x : Bool, V p = dk_b x
def dk_cn (V : Nat → Int32) : Nat → Nat
  | 0 => 0
  | k + 1 => dk_cn V k + (if V k < 0 then 0 else 1)
theorem dk_cn_le (V : Nat → Int32) : ∀ k, dk_cn V k ≤ k
  | 0 => Nat.le_refl _
  | k + 1 => by
    have := dk_cn_le V k
    show dk_cn V k + (if V k < 0 then 0 else 1) ≤ _
    split <;> omega
theorem dk_cn_lt {V : Nat → Int32} {p : Nat} (h : V p < 0) : ∀ k, p < k → dk_cn V k < k
  | 0, hk => absurd hk (by omega)
  | k + 1, hk => by
    have a := dk_cn_le V k
    show dk_cn V k + (if V k < 0 then 0 else 1) < _
    by_cases e : p = k
    · subst e; rw [if_pos h]; omega
    · have := dk_cn_lt h k (by omega)
      split <;> omega
theorem dk_cn_c {V V' : Nat → Int32} : ∀ k, (∀ p, p < k → V' p = V p) → dk_cn V' k = dk_cn V k
  | 0, _ => rfl
  | k + 1, h => by
    show dk_cn V' k + (if V' k < 0 then 0 else 1) = dk_cn V k + (if V k < 0 then 0 else 1)
    rw [h k (by omega), dk_cn_c k (fun p hp => h p (by omega))]
theorem dk_cn_u {V : Nat → Int32} {p : Nat} {v : Int32} (h : V p < 0) (hv : ¬ v < 0) : ∀ k, p < k → dk_cn (upd V p v) k = dk_cn V k + 1
  | 0, hk => absurd hk (by omega)
  | k + 1, hk => by
    show dk_cn (upd V p v) k + (if upd V p v k < 0 then 0 else 1) = dk_cn V k + (if V k < 0 then 0 else 1) + 1
    by_cases e : p = k
    · subst e
      rw [pk_us, if_pos h, if_neg hv, dk_cn_c p (fun q hq => pk_un (by omega))]
    · rw [dk_cn_u h hv k (by omega), pk_un (by omega)]
      omega
theorem dk_cn_0 {V : Nat → Int32} : ∀ k, (∀ p, p < k → V p < 0) → dk_cn V k = 0
  | 0, _ => rfl
  | k + 1, h => by
    show dk_cn V k + (if V k < 0 then 0 else 1) = 0
    rw [if_pos (h k (by omega)), dk_cn_0 k (fun p hp => h p (by omega))]
/-- the trail taken back from a + k to a -/
def dk_und (O : Nat → Int32) (a : Nat) : Nat → (Nat → Int32) → Nat → Int32
  | 0, V => V
  | k + 1, V => dk_und O a k (upd V (O (a + k)).toNatClampNeg (-1))
theorem dk_und_c {O O' : Nat → Int32} {a : Nat} : ∀ k V, (∀ t, t < a + k → O' t = O t) → dk_und O' a k V = dk_und O a k V
  | 0, _, _ => rfl
  | k + 1, V, h => by
    show dk_und O' a k (upd V (O' (a + k)).toNatClampNeg (-1)) = dk_und O a k (upd V (O (a + k)).toNatClampNeg (-1))
    rw [h (a + k) (by omega), dk_und_c k _ (fun t ht => h t (by omega))]
theorem dk_und_s {O : Nat → Int32} {a j : Nat} : ∀ k V, dk_und O a (j + k) V = dk_und O a j (dk_und O (a + j) k V)
  | 0, _ => rfl
  | k + 1, V => by
    show dk_und O a (j + k) (upd V (O (a + (j + k))).toNatClampNeg (-1)) = dk_und O a j (dk_und O (a + j) k (upd V (O (a + j + k)).toNatClampNeg (-1)))
    rw [dk_und_s k, Nat.add_assoc]
def dk_core (V O : Nat → Int32) (s : Nat) : Prop := dk_rng V ∧ s = dk_cn V 112 ∧ ∀ t, t < s → ∃ q, q < 112 ∧ O t = nI q
def dk_agr (σ : Nat → Bool) (V : Nat → Int32) : Prop := ∀ p, p < 112 → ¬ V p < 0 → V p = dk_b (σ p)
theorem dk_agr_v {σ : Nat → Bool} {V : Nat → Int32} {p : Nat} {x : Bool} (h : dk_agr σ V) (hp : p < 112) (e : V p = dk_b x) : σ p = x :=
  dk_b_inj ((h p hp (by rw [e]; exact dk_b_nlt x)).symm.trans e)
theorem dk_agr_lv {σ : Nat → Bool} {V : Nat → Int32} {f q : Nat} {x : Bool} (h : dk_agr σ V) (hf : f ≤ 6) (hq : q < 32) (e : V (16 * f + q / 2) = dk_b (x ^^ dk_od q)) : dk_lv (dk_fr σ f) q = x := by
  have a : σ (16 * f + q / 2) = (x ^^ dk_od q) := dk_agr_v h (by omega) e
  show (σ (16 * f + q / 2) ^^ dk_od q) = x
  rw [a]
  cases x <;> cases dk_od q <;> rfl
theorem dk_core_le {V O : Nat → Int32} {s : Nat} (C : dk_core V O s) : s ≤ 112 := by
  rw [C.2.1]; exact dk_cn_le V 112
/-- one or more values are set, or a contradiction is found -/
def dk_ext (M : (Nat → Bool) → Prop) (V O : Nat → Int32) (s : Nat) (b : Int32) (V' O' : Nat → Int32) (s' : Nat) (b' : Int32) : Prop :=
  dk_core V' O' s' ∧ s ≤ s' ∧ (∀ t, t < s → O' t = O t) ∧ (∀ a k k', a + k = s → a + k' = s' → dk_und O' a k' V' = dk_und O a k V) ∧
  (∀ p, ¬ V p < 0 → V' p = V p) ∧ (s' = s → V' = V) ∧ (b' = b ∨ b' = 1) ∧ (∀ σ, M σ → b = 0 → dk_agr σ V → dk_agr σ V' ∧ b' = 0)
theorem dk_ext_rf {M : (Nat → Bool) → Prop} {V O : Nat → Int32} {s : Nat} {b : Int32} (C : dk_core V O s) : dk_ext M V O s b V O s b :=
  ⟨C, Nat.le_refl _, fun _ _ => rfl, fun a k k' h h' => by rw [show k' = k by omega], fun _ _ => rfl, fun _ => rfl, Or.inl rfl, fun _ _ h h' => ⟨h', h⟩⟩
theorem dk_ext_tr {M : (Nat → Bool) → Prop} {V O : Nat → Int32} {s : Nat} {b : Int32} {V1 O1 : Nat → Int32} {s1 : Nat} {b1 : Int32} {V2 O2 : Nat → Int32} {s2 : Nat} {b2 : Int32} (E : dk_ext M V O s b V1 O1 s1 b1) (F : dk_ext M V1 O1 s1 b1 V2 O2 s2 b2) : dk_ext M V O s b V2 O2 s2 b2 := by
  obtain ⟨C1, l1, o1, u1, m1, e1, c1, σ1⟩ := E
  obtain ⟨C2, l2, o2, u2, m2, e2, c2, σ2⟩ := F
  refine ⟨C2, by omega, fun t ht => (o2 t (by omega)).trans (o1 t ht), fun a k k' h h' => ?_, fun p hp => ?_, fun h => ?_, ?_, fun σ hM hb ha => ?_⟩
  · rw [u2 a (s1 - a) k' (by omega) h', u1 a k (s1 - a) h (by omega)]
  · have := m1 p hp
    rw [m2 p (by rw [this]; exact hp), this]
  · rw [e2 (by omega), e1 (by omega)]
  · rcases c2 with h | h
    · rw [h]; exact c1
    · exact Or.inr h
  · obtain ⟨x, y⟩ := σ1 σ hM hb ha
    exact σ2 σ hM y x
theorem dk_ext_b {M : (Nat → Bool) → Prop} {V O : Nat → Int32} {s : Nat} {b : Int32} {V1 O1 : Nat → Int32} {s1 : Nat} {b1 : Int32} (E : dk_ext M V O s b V1 O1 s1 b1) (h : b1 = 0) : b = 0 := by
  rcases E.2.2.2.2.2.2.1 with e | e
  · rw [← e]; exact h
  · rw [h] at e; exact absurd e (by decide)
theorem dk_ext_push {M : (Nat → Bool) → Prop} {V O : Nat → Int32} {s p : Nat} {b : Int32} {x : Bool} (C : dk_core V O s) (hp : p < 112) (e : V p = -1) (hs : ∀ σ, M σ → dk_agr σ V → σ p = x) : dk_ext M V O s b (upd V p (dk_b x)) (upd O s (nI p)) (s + 1) b := by
  have hn : V p < 0 := by rw [e]; decide
  refine ⟨⟨fun q hq => ?_, ?_, fun t ht => ?_⟩, by omega, fun t ht => pk_un (by omega), fun a k k' h h' => ?_, fun q hq => ?_, fun h => absurd h (by omega), Or.inl rfl, fun σ hM hb ha => ⟨fun q hq hq' => ?_, hb⟩⟩
  · by_cases h : q = p
    · subst h; rw [pk_us]; exact Or.inr ⟨x, rfl⟩
    · rw [pk_un h]; exact C.1 q hq
  · rw [dk_cn_u hn (dk_b_nlt x) 112 hp, C.2.1]
  · by_cases h : t = s
    · subst h; rw [pk_us]; exact ⟨p, hp, rfl⟩
    · rw [pk_un h]; exact C.2.2 t (by omega)
  · obtain rfl : k' = k + 1 := by omega
    show dk_und (upd O s (nI p)) a k (upd (upd V p (dk_b x)) (upd O s (nI p) (a + k)).toNatClampNeg (-1)) = _
    rw [h, pk_us, nI_clamp (show p < 2 ^ 31 by omega), dk_und_c k _ (fun t ht => pk_un (by omega))]
    refine congrArg _ (funext fun q => ?_)
    by_cases hq : q = p
    · subst hq; rw [pk_us, e]
    · rw [pk_un hq, pk_un hq]
  · rw [pk_un]
    intro z
    subst z
    exact hq hn
  · by_cases h : q = p
    · subst h; rw [pk_us, hs σ hM ha]
    · rw [pk_un h] at hq' ⊢
      exact ha q hq hq'
theorem dk_ext_br {M : (Nat → Bool) → Prop} {V O : Nat → Int32} {s p : Nat} {b : Int32} {x y : Bool} (C : dk_core V O s) (hp : p < 112) (e : V p = dk_b y) (hx : ¬ V p = dk_b x) (hs : ∀ σ, M σ → dk_agr σ V → σ p = x) : dk_ext M V O s b V O s 1 :=
  ⟨C, Nat.le_refl _, fun _ _ => rfl, fun a k k' h h' => by rw [show k' = k by omega], fun _ _ => rfl, fun _ => rfl, Or.inr rfl, fun σ hM _ ha => absurd (by rw [e, ← hs σ hM ha, dk_agr_v ha hp e]) hx⟩
end
section
/-! put, valueOf, putLiteral, followGate -/
section
variable {G bd len s : Nat} {fb df b ch : Int32} {aL aR aN aB V O CH SB SC : Nat → Int32}
theorem dk_ix {f q : Nat} (hq : q < 32) : 16 * nI f + (nI q >>> ((1 : Int32) &&& 31)) = nI (16 * f + q / 2) := by
  rw [pk_shrN (show q < 2 ^ 31 by omega) _ 1 (by decide), ← nI_add, ← pk_mul]
  rfl
theorem dk_ix2 (f g : Nat) : 16 * nI f + nI g = nI (16 * f + g) := by
  rw [← nI_add, ← pk_mul]
  rfl
theorem dk_ix3 (f l : Nat) : 16 * nI f + 16 + nI l = nI (16 * f + 16 + l) := by
  rw [← nI_add, ← nI_add, ← pk_mul]
  rfl
theorem dk_put_o {post : SX → Prop} {p : Nat} {x : Bool} (hp : p < 112) (C : dk_core V O s) (e : V p = -1) (K : post (nI G, nI bd, nI len, fb, df, nI (s + 1), b, ch, aL, aR, aN, aB, upd V p (dk_b x), upd O s (nI p), CH, SB, SC)) : wpX_put post (nI G, nI bd, nI len, fb, df, nI s, b, ch, aL, aR, aN, aB, V, O, CH, SB, SC) (nI p) (dk_b x) := by
  have hi : vp_in (nI p) 112 := vp_in_nI hp (by decide)
  have hc : ¬ (0 : Int32) ≤ V p := by rw [e]; decide
  have hl : s < 112 := by rw [C.2.1]; exact dk_cn_lt (by rw [e]; decide) 112 hp
  unfold wpX_put
  dsimp only
  rw [nI_clamp (show p < 2 ^ 31 by omega)]
  refine ⟨hi, br_f hc ⟨hi, fun A hA => ⟨vp_in_nI hl (by decide), fun A2 hA2 => fun T hT => ?_⟩⟩⟩
  subst hA hA2 hT
  rw [nI_clamp (show s < 2 ^ 31 by omega), nI_1]
  exact K
theorem dk_put {post : SX → Prop} {M : (Nat → Bool) → Prop} {p : Nat} {x : Bool} (hp : p < 112) (C : dk_core V O s) (hs : ∀ σ, M σ → dk_agr σ V → σ p = x) (K : ∀ V' O' s' b', dk_ext M V O s b V' O' s' b' → (b' = 0 → V' p = dk_b x) → post (nI G, nI bd, nI len, fb, df, nI s', b', ch, aL, aR, aN, aB, V', O', CH, SB, SC)) : wpX_put post (nI G, nI bd, nI len, fb, df, nI s, b, ch, aL, aR, aN, aB, V, O, CH, SB, SC) (nI p) (dk_b x) := by
  rcases C.1 p hp with e | ⟨y, e⟩
  · exact dk_put_o hp C e (K _ _ _ _ (dk_ext_push C hp e hs) (fun _ => pk_us))
  · have hi : vp_in (nI p) 112 := vp_in_nI hp (by decide)
    have hc : (0 : Int32) ≤ V p := by rw [e]; exact dk_b_ge y
    unfold wpX_put
    dsimp only
    rw [nI_clamp (show p < 2 ^ 31 by omega)]
    refine ⟨hi, br_t hc ⟨hi, br_c (fun h => ?_) (fun h => ?_)⟩⟩
    · exact K _ _ _ _ (dk_ext_rf C) (fun _ => h)
    · exact K _ _ _ _ (dk_ext_br C hp e h hs) (fun z => absurd z (by decide))
theorem dk_vo {post : Int32 → Prop} {f q : Nat} (hf : f ≤ 6) (hq : q < 32) (C : dk_rng V) (K0 : V (16 * f + q / 2) = -1 → post (-1)) (K1 : ∀ x, V (16 * f + q / 2) = dk_b (x ^^ dk_od q) → post (dk_b x)) : wpX_valueOf post (nI G, nI bd, nI len, fb, df, nI s, b, ch, aL, aR, aN, aB, V, O, CH, SB, SC) (nI f) (nI q) := by
  have hp : 16 * f + q / 2 < 112 := by omega
  unfold wpX_valueOf
  dsimp only
  rw [dk_ix hq, nI_clamp (by omega)]
  refine ⟨vp_in_nI hp (by decide), fun y hy => ?_⟩
  subst hy
  rcases C _ hp with e | ⟨y, e⟩
  · exact br_f (by rw [e]; decide) (K0 e)
  · refine br_t (by rw [e]; exact dk_b_ge y) ?_
    rw [e, dk_and1 (by omega), dk_xor]
    refine K1 _ (e.trans (congrArg dk_b ?_))
    cases y <;> cases dk_od q <;> rfl
theorem dk_pl {post : SX → Prop} {M : (Nat → Bool) → Prop} {f q : Nat} {x : Bool} (hf : f ≤ 6) (hq : q < 32) (C : dk_core V O s) (hs : ∀ σ, M σ → dk_agr σ V → dk_lv (dk_fr σ f) q = x) (K : ∀ V' O' s' b', dk_ext M V O s b V' O' s' b' → (b' = 0 → V' (16 * f + q / 2) = dk_b (x ^^ dk_od q)) → post (nI G, nI bd, nI len, fb, df, nI s', b', ch, aL, aR, aN, aB, V', O', CH, SB, SC)) : wpX_putLiteral post (nI G, nI bd, nI len, fb, df, nI s, b, ch, aL, aR, aN, aB, V, O, CH, SB, SC) (nI f) (nI q) (dk_b x) := by
  unfold wpX_putLiteral
  dsimp only
  rw [dk_ix hq, dk_and1 (by omega), dk_xor]
  refine dk_put (M := M) (by omega) C (fun σ h a => ?_) K
  rw [← hs σ h a, dk_lvx]
  rfl
theorem dk_fg144 {post : SX → Prop} {M : (Nat → Bool) → Prop} {f g ql qr : Nat} {r' : Int32} (hf : f ≤ 6) (hg : g < 16) (hL : aL g = nI ql) (hql : ql < 32) (hqr : qr < 32) (C : dk_core V O s) (hM : ∀ σ, M σ → σ (16 * f + g) = (dk_lv (dk_fr σ f) ql && dk_lv (dk_fr σ f) qr)) (hr' : r' = 1 → V (16 * f + qr / 2) = dk_b (true ^^ dk_od qr)) (K : ∀ V' O' s' b', dk_ext M V O s b V' O' s' b' → post (nI G, nI bd, nI len, fb, df, nI s', b', ch, aL, aR, aN, aB, V', O', CH, SB, SC)) : wX_followGate_144 post (nI f) (nI g) r' (V (16 * f + g)) (nI G) (nI bd) (nI len) fb df (nI s) b ch aL aR aN aB V O CH SB SC := by
  have hi : vp_in (nI g) 16 := vp_in_nI hg (by decide)
  unfold wX_followGate_144
  rw [nI_clamp (by omega), hL]
  refine br_c (fun z => br_c (fun h => ⟨hi, ?_⟩) (fun _ => K _ _ _ _ (dk_ext_rf C))) (fun _ => K _ _ _ _ (dk_ext_rf C))
  refine dk_pl (M := M) (x := false) hf hql C (fun σ hσ a => ?_) (fun V' O' s' b' E _ => K V' O' s' b' E)
  have h1 := hM σ hσ
  rw [dk_agr_lv a hf hqr (hr' h), dk_agr_v (x := false) a (by omega) z] at h1
  revert h1
  cases dk_lv (dk_fr σ f) ql
  · exact fun _ => rfl
  · intro h; exact h.symm
theorem dk_fg86 {post : SX → Prop} {M : (Nat → Bool) → Prop} {f g ql qr : Nat} {r r' : Int32} (hf : f ≤ 6) (hg : g < 16) (hL : aL g = nI ql) (hR : aR g = nI qr) (hql : ql < 32) (hqr : qr < 32) (C : dk_core V O s) (hM : ∀ σ, M σ → σ (16 * f + g) = (dk_lv (dk_fr σ f) ql && dk_lv (dk_fr σ f) qr)) (hr : r = 1 → V (16 * f + ql / 2) = dk_b (true ^^ dk_od ql)) (hr' : r' = 1 → V (16 * f + qr / 2) = dk_b (true ^^ dk_od qr)) (K : ∀ V' O' s' b', dk_ext M V O s b V' O' s' b' → post (nI G, nI bd, nI len, fb, df, nI s', b', ch, aL, aR, aN, aB, V', O', CH, SB, SC)) : wX_followGate_86 post (nI f) (nI g) r r' (V (16 * f + g)) (nI G) (nI bd) (nI len) fb df (nI s) b ch aL aR aN aB V O CH SB SC := by
  have hi : vp_in (nI g) 16 := vp_in_nI hg (by decide)
  have h144 := dk_fg144 (fb := fb) (df := df) (ch := ch) (b := b) (G := G) (bd := bd) (len := len) (aR := aR) (aN := aN) (aB := aB) (CH := CH) (SB := SB) (SC := SC) hf hg hL hql hqr C hM hr' K
  unfold wX_followGate_86
  rw [nI_clamp (by omega), hL, hR]
  refine br_c (fun z => ⟨hi, ?_⟩) (fun _ => br_c (fun z => br_c (fun h => ⟨hi, ?_⟩) (fun _ => h144)) (fun _ => h144))
  · refine dk_pl (M := M) (x := true) hf hql C (fun σ hσ a => ?_) (fun V' O' s' b' E hv => ?_)
    · have h1 := hM σ hσ
      rw [dk_agr_v (x := true) a (by omega) z] at h1
      revert h1
      cases dk_lv (dk_fr σ f) ql
      · intro h; exact h.symm
      · exact fun _ => rfl
    · refine ⟨hi, ?_⟩
      rw [hR]
      refine dk_pl (M := M) (x := true) hf hqr E.1 (fun σ hσ a => ?_) (fun V2 O2 s2 b2 E2 _ => K V2 O2 s2 b2 (dk_ext_tr E E2))
      have h1 := hM σ hσ
      have hz : V' (16 * f + g) = dk_b true := (E.2.2.2.2.1 _ (by rw [z]; decide)).trans z
      rw [dk_agr_v (x := true) a (by omega) hz] at h1
      revert h1
      cases dk_lv (dk_fr σ f) ql <;> cases dk_lv (dk_fr σ f) qr <;> first | exact fun _ => rfl | (intro h; exact h.symm)
  · refine dk_pl (M := M) (x := false) hf hqr C (fun σ hσ a => ?_) (fun V' O' s' b' E _ => K V' O' s' b' E)
    have h1 := hM σ hσ
    rw [dk_agr_lv a hf hql (hr h), dk_agr_v (x := false) a (by omega) z] at h1
    revert h1
    cases dk_lv (dk_fr σ f) qr
    · exact fun _ => rfl
    · intro h; exact h.symm
theorem dk_fg {post : SX → Prop} {M : (Nat → Bool) → Prop} {f g ql qr : Nat} (hf : f ≤ 6) (hg : g < 16) (hL : aL g = nI ql) (hR : aR g = nI qr) (hql : ql < 32) (hqr : qr < 32) (C : dk_core V O s) (hM : ∀ σ, M σ → σ (16 * f + g) = (dk_lv (dk_fr σ f) ql && dk_lv (dk_fr σ f) qr)) (K : ∀ V' O' s' b', dk_ext M V O s b V' O' s' b' → (s' = s → b' = 0 → dk_gc V f g ql qr) → post (nI G, nI bd, nI len, fb, df, nI s', b', ch, aL, aR, aN, aB, V', O', CH, SB, SC)) : wpX_followGate post (nI G, nI bd, nI len, fb, df, nI s, b, ch, aL, aR, aN, aB, V, O, CH, SB, SC) (nI f) (nI g) := by
  have hi : vp_in (nI g) 16 := vp_in_nI hg (by decide)
  have hp : 16 * f + g < 112 := by omega
  have hz : vp_in (nI (16 * f + g)) 112 := vp_in_nI hp (by decide)
  have hX := dk_ix2 f g
  have hput : ∀ post' : SX → Prop, (∀ V' O' s' b', post (nI G, nI bd, nI len, fb, df, nI s', b', ch, aL, aR, aN, aB, V', O', CH, SB, SC) → post' (nI G, nI bd, nI len, fb, df, nI s', b', ch, aL, aR, aN, aB, V', O', CH, SB, SC)) → ∀ x : Bool, (∀ σ, M σ → dk_agr σ V → σ (16 * f + g) = x) → (V (16 * f + g) = dk_b x → dk_gc V f g ql qr) → wpX_put post' (nI G, nI bd, nI len, fb, df, nI s, b, ch, aL, aR, aN, aB, V, O, CH, SB, SC) (nI (16 * f + g)) (dk_b x) := by
    intro post' hpp x h1 h2
    exact dk_put (M := M) hp C h1 (fun V' O' s' b' E hv => hpp _ _ _ _ (K V' O' s' b' E (fun e e0 => h2 (by rw [← E.2.2.2.2.2.1 e]; exact hv e0))))
  have h47 : (∀ σ, M σ → dk_agr σ V → σ (16 * f + g) = false) → (V (16 * f + g) = dk_b false → dk_gc V f g ql qr) → wX_followGate_47 post (nI f) (nI g) (nI G) (nI bd) (nI len) fb df (nI s) b ch aL aR aN aB V O CH SB SC := by
    intro h1 h2
    unfold wX_followGate_47
    rw [hX]
    exact hput _ (fun _ _ _ _ h => h) false h1 h2
  have h86 : ∀ r r' : Int32, (r = 1 → V (16 * f + ql / 2) = dk_b (true ^^ dk_od ql)) → (r' = 1 → V (16 * f + qr / 2) = dk_b (true ^^ dk_od qr)) → dk_gc V f g ql qr → wX_followGate_86 post (nI f) (nI g) r r' (V (16 * f + g)) (nI G) (nI bd) (nI len) fb df (nI s) b ch aL aR aN aB V O CH SB SC :=
    fun r r' h h' h2 => dk_fg86 hf hg hL hR hql hqr C hM h h' (fun V' O' s' b' E => K V' O' s' b' E (fun _ _ => h2))
  unfold wpX_followGate
  dsimp only
  rw [nI_clamp (show g < 2 ^ 31 by omega), hL, hR, hX, nI_clamp (show 16 * f + g < 2 ^ 31 by omega)]
  refine ⟨hi, dk_vo hf hql C.1 (fun ea => ⟨hi, dk_vo hf hqr C.1 (fun eb => ⟨hz, nm_e ?_⟩) (fun y eb => ⟨hz, nm_e ?_⟩)⟩) (fun x ea => ⟨hi, dk_vo hf hqr C.1 (fun eb => ⟨hz, nm_e ?_⟩) (fun y eb => ⟨hz, nm_e ?_⟩)⟩)⟩
  · refine br_f (by decide) (br_f (by decide) (br_f (by decide) (h86 _ _ (fun z => absurd z (by decide)) (fun z => absurd z (by decide)) (fun x y h _ => ?_))))
    rw [ea] at h; exact absurd h (dk_b_ne _)
  · cases y
    · refine br_f (by decide) (br_t (by rfl) (h47 (fun σ hσ a => ?_) (fun h x y h1 h2 => ?_)))
      · rw [hM σ hσ, dk_agr_lv a hf hqr eb, Bool.and_false]
      · rw [ea] at h1; exact absurd h1 (dk_b_ne _)
    · refine br_f (by decide) (br_f (by decide) (br_f (by decide) (h86 _ _ (fun z => absurd z (by decide)) (fun _ => eb) (fun x y h _ => ?_))))
      rw [ea] at h; exact absurd h (dk_b_ne _)
  · cases x
    · refine br_t (by rfl) (h47 (fun σ hσ a => ?_) (fun h x y h1 h2 => ?_))
      · rw [hM σ hσ, dk_agr_lv a hf hql ea, Bool.false_and]
      · rw [eb] at h2; exact absurd h2 (dk_b_ne _)
    · refine br_f (by decide) (br_f (by decide) (br_t (by rfl) (br_f (by decide) (h86 _ _ (fun _ => ea) (fun z => absurd z (by decide)) (fun x y _ h => ?_)))))
      rw [eb] at h; exact absurd h (dk_b_ne _)
  · have hxy : ∀ x' y' : Bool, V (16 * f + ql / 2) = dk_b (x' ^^ dk_od ql) → V (16 * f + qr / 2) = dk_b (y' ^^ dk_od qr) → x' = x ∧ y' = y := by
      intro x' y' h1 h2
      have a1 := dk_b_inj (h1.symm.trans ea)
      have a2 := dk_b_inj (h2.symm.trans eb)
      constructor
      · revert a1; cases x <;> cases x' <;> cases dk_od ql <;> decide
      · revert a2; cases y <;> cases y' <;> cases dk_od qr <;> decide
    have hsd : ∀ σ, M σ → dk_agr σ V → σ (16 * f + g) = (x && y) := fun σ hσ a => by
      rw [hM σ hσ, dk_agr_lv a hf hql ea, dk_agr_lv a hf hqr eb]
    have hcl : V (16 * f + g) = dk_b (x && y) → dk_gc V f g ql qr := by
      intro h x' y' h1 h2
      obtain ⟨rfl, rfl⟩ := hxy x' y' h1 h2
      exact h
    cases x
    · exact br_t (by rfl) (h47 hsd hcl)
    · cases y
      · exact br_f (by decide) (br_t (by rfl) (h47 hsd hcl))
      · exact br_f (by decide) (br_f (by decide) (br_t (by rfl) (br_t (by rfl) (hput _ (fun _ _ _ _ h => h) true hsd hcl))))
end
end
section
/-! followCopy, follow: all that follows, up to a fixpoint -/
def dk_cir (G len : Nat) (L R N : Nat → Nat) (aL aR aN : Nat → Int32) : Prop :=
  G ≤ 10 ∧ len ≤ 6 ∧ (∀ g, 6 ≤ g → g < 6 + G → L g < 2 * g ∧ R g < 2 * g ∧ aL g = nI (L g) ∧ aR g = nI (R g)) ∧ (∀ l, 1 ≤ l → l < 5 → N l < 2 * (6 + G) ∧ aN l = nI (N l))
section
variable {G bd len : Nat} {L R N : Nat → Nat} {fb df ch : Int32} {aL aR aN aB CH SB SC : Nat → Int32}
theorem dk_fc28 {post : SX → Prop} {M : (Nat → Bool) → Prop} {f : Nat} (H : dk_cir G len L R N aL aR aN) (hf : f ≤ len) (hM : ∀ σ, M σ → dk_con G len L R N σ) : ∀ (d l : Nat) (V O : Nat → Int32) (s : Nat) (b : Int32) (n : Nat), l + d = 5 → 1 ≤ l → d < n → dk_core V O s → (∀ V' O' s' b', dk_ext M V O s b V' O' s' b' → (s' = s → b' = 0 → f < len → ∀ l', l ≤ l' → l' < 5 → dk_lc V f l' (N l')) → post (nI G, nI bd, nI len, fb, df, nI s', b', ch, aL, aR, aN, aB, V', O', CH, SB, SC)) → wX_followCopy_28 post (nI f) n (nI l) (nI G) (nI bd) (nI len) fb df (nI s) b ch aL aR aN aB V O CH SB SC := by
  obtain ⟨hG, hl6, -, hN⟩ := H
  intro d
  induction d with
  | zero =>
    intro l V O s b n hl h1 hn C K
    obtain ⟨n, rfl⟩ : ∃ m, n = m + 1 := ⟨n - 1, by omega⟩
    obtain rfl : l = 5 := by omega
    exact br_t (by decide) (K _ _ _ _ (dk_ext_rf C) (fun _ _ _ l' a b => absurd a (by omega)))
  | succ d ih =>
    intro l V O s b n hl h1 hn C K
    obtain ⟨n, rfl⟩ : ∃ m, n = m + 1 := ⟨n - 1, by omega⟩
    obtain ⟨hq, eN⟩ := hN l h1 (by omega)
    have hi : vp_in (nI l) 5 := vp_in_nI (by omega) (by decide)
    have hp : 16 * f + 16 + l < 112 ∨ ¬ f < len := by omega
    refine br_f (nI_ge (b := 5) (by omega) (by decide)) ?_
    by_cases hlen : f < len
    · have hp : 16 * f + 16 + l < 112 := by omega
      have hz : vp_in (nI (16 * f + 16 + l)) 112 := vp_in_nI hp (by decide)
      refine br_f (nI_ge hlen (by omega)) ⟨hi, ?_⟩
      rw [nI_clamp (show l < 2 ^ 31 by omega), eN]
      have step : ∀ V1 O1 s1 b1, dk_ext M V O s b V1 O1 s1 b1 → (s1 = s → b1 = 0 → dk_lc V f l (N l)) → wX_followCopy_28 post (nI f) n (nI (l + 1)) (nI G) (nI bd) (nI len) fb df (nI s1) b1 ch aL aR aN aB V1 O1 CH SB SC := by
        intro V1 O1 s1 b1 E1 h1'
        refine ih (l + 1) V1 O1 s1 b1 n (by omega) (by omega) (by omega) E1.1 (fun V' O' s' b' E h => K V' O' s' b' (dk_ext_tr E1 E) ?_)
        intro a c hf' l' hl1 hl2
        have l1 := E1.2.1
        have l2 := E.2.1
        have es : s1 = s := by omega
        have eV : V1 = V := E1.2.2.2.2.2.1 es
        by_cases hl' : l' = l
        · subst hl'
          exact h1' es (dk_ext_b E c)
        · have := h (by omega) c hf' l' (by omega) hl2
          rw [eV] at this
          exact this
      refine dk_vo (by omega) (by omega) C.1 (fun e => ?_) (fun x e => ?_)
      · rw [dk_ix3, nI_clamp (show 16 * f + 16 + l < 2 ^ 31 by omega)]
        refine ⟨hz, nm_e (br_t (by decide) ?_)⟩
        have vac : dk_lc V f l (N l) := by
          intro x h
          rw [e] at h
          exact absurd h (dk_b_ne _)
        rcases C.1 _ hp with u | ⟨y, u⟩
        · exact br_t (by rw [u]; decide) (nm_r (nI_1 l) (step V O s b (dk_ext_rf C) (fun _ _ => vac)))
        · refine br_f (by rw [u]; exact dk_b_nlt y) ⟨hi, ?_⟩
          rw [u]
          refine dk_pl (M := M) (by omega) (by omega) C (fun σ hσ a => ?_) (fun V1 O1 s1 b1 E1 hv => nm_r (nI_1 l) (step V1 O1 s1 b1 E1 (fun _ _ => vac)))
          rw [← (hM σ hσ).2 f l hlen h1 (by omega)]
          exact dk_agr_v a hp u
      · rw [dk_ix3, nI_clamp (show 16 * f + 16 + l < 2 ^ 31 by omega)]
        refine ⟨hz, nm_e (br_f (dk_b_nlt x) ?_)⟩
        refine dk_put (M := M) hp C (fun σ hσ a => ?_) (fun V1 O1 s1 b1 E1 hv => nm_r (nI_1 l) (step V1 O1 s1 b1 E1 (fun h1 h2 => ?_)))
        · rw [(hM σ hσ).2 f l hlen h1 (by omega)]
          exact dk_agr_lv a (by omega) (by omega) e
        · have e1 := hv h2
          rw [E1.2.2.2.2.2.1 h1] at e1
          intro x' e'
          have a1 := dk_b_inj (e'.symm.trans e)
          have : x' = x := by revert a1; cases x <;> cases x' <;> cases dk_od (N l) <;> decide
          rw [this]
          exact e1
    · exact br_t (nI_le (by omega) (by omega)) (K _ _ _ _ (dk_ext_rf C) (fun _ _ c => absurd c hlen))
theorem dk_fc3 {post : SX → Prop} {M : (Nat → Bool) → Prop} {f : Nat} (H : dk_cir G len L R N aL aR aN) (hf : f ≤ len) (hM : ∀ σ, M σ → dk_con G len L R N σ) : ∀ (d g : Nat) (V O : Nat → Int32) (s : Nat) (b : Int32) (n : Nat), g + d = 6 + G → 6 ≤ g → d < n → dk_core V O s → (∀ V' O' s' b', dk_ext M V O s b V' O' s' b' → (s' = s → b' = 0 → (∀ g', g ≤ g' → g' < 6 + G → dk_gc V f g' (L g') (R g')) ∧ (f < len → ∀ l, 1 ≤ l → l < 5 → dk_lc V f l (N l))) → post (nI G, nI bd, nI len, fb, df, nI s', b', ch, aL, aR, aN, aB, V', O', CH, SB, SC)) → wX_followCopy_3 post (nI f) n (nI g) (nI G) (nI bd) (nI len) fb df (nI s) b ch aL aR aN aB V O CH SB SC := by
  have h6 : (6 : Int32) + nI G = nI (6 + G) := nI_add 6 G
  intro d
  induction d with
  | zero =>
    intro g V O s b n hg h1 hn C K
    obtain ⟨n, rfl⟩ : ∃ m, n = m + 1 := ⟨n - 1, by omega⟩
    have hG := H.1
    refine br_t (by rw [h6]; exact nI_le (by omega) (by omega)) ⟨5, ?_⟩
    exact dk_fc28 H hf hM 4 1 V O s b 5 (by omega) (by omega) (by omega) C (fun V' O' s' b' E h => K V' O' s' b' E (fun a c => ⟨fun g' x y => absurd x (by omega), h a c⟩))
  | succ d ih =>
    intro g V O s b n hg h1 hn C K
    obtain ⟨n, rfl⟩ : ∃ m, n = m + 1 := ⟨n - 1, by omega⟩
    have hG := H.1
    have hl6 := H.2.1
    obtain ⟨qL, qR, eL, eR⟩ := H.2.2.1 g h1 (by omega)
    refine br_f (by rw [h6]; exact nI_ge (by omega) (by omega)) ?_
    refine dk_fg (M := M) (by omega) (by omega) eL eR (by omega) (by omega) C (fun σ hσ => (hM σ hσ).1 f g hf h1 (by omega)) (fun V1 O1 s1 b1 E1 hv => nm_r (nI_1 g) ?_)
    refine ih (g + 1) V1 O1 s1 b1 n (by omega) (by omega) (by omega) E1.1 (fun V' O' s' b' E h => K V' O' s' b' (dk_ext_tr E1 E) ?_)
    intro a c
    have l1 := E1.2.1
    have l2 := E.2.1
    have es : s1 = s := by omega
    have eV : V1 = V := E1.2.2.2.2.2.1 es
    obtain ⟨p1, p2⟩ := h (by omega) c
    rw [eV] at p1 p2
    refine ⟨fun g' x y => ?_, p2⟩
    by_cases hg' : g' = g
    · subst hg'
      exact hv es (dk_ext_b E c)
    · exact p1 g' (by omega) y
theorem dk_fc {post : SX → Prop} {M : (Nat → Bool) → Prop} {f : Nat} {V O : Nat → Int32} {s : Nat} {b : Int32} (H : dk_cir G len L R N aL aR aN) (hf : f ≤ len) (hM : ∀ σ, M σ → dk_con G len L R N σ) (C : dk_core V O s) (K : ∀ V' O' s' b', dk_ext M V O s b V' O' s' b' → (s' = s → b' = 0 → dk_clo G len L R N V f) → post (nI G, nI bd, nI len, fb, df, nI s', b', ch, aL, aR, aN, aB, V', O', CH, SB, SC)) : wpX_followCopy post (nI G, nI bd, nI len, fb, df, nI s, b, ch, aL, aR, aN, aB, V, O, CH, SB, SC) (nI f) := by
  unfold wpX_followCopy
  exact ⟨G + 1, dk_fc3 H hf hM G 6 V O s b (G + 1) (by omega) (by omega) (by omega) C (fun V' O' s' b' E h => K V' O' s' b' E (fun a c => h a c))⟩
theorem dk_f29 {post : SX → Prop} {J4 : Int32 → Int32 → Int32 → Int32 → Int32 → Int32 → Int32 → Int32 → Int32 → Int32 → (Nat → Int32) → (Nat → Int32) → (Nat → Int32) → (Nat → Int32) → (Nat → Int32) → (Nat → Int32) → (Nat → Int32) → (Nat → Int32) → (Nat → Int32) → Prop} {M : (Nat → Bool) → Prop} {r s0 : Nat} (hs0 : s0 ≤ 112) (H : dk_cir G len L R N aL aR aN) (hM : ∀ σ, M σ → dk_con G len L R N σ) : ∀ (d f : Nat) (V O : Nat → Int32) (s : Nat) (b : Int32) (n : Nat), f + d = len + 1 → d < n → dk_core V O s → (∀ V' O' s' b', dk_ext M V O s b V' O' s' b' → (s' = s → b' = 0 → ∀ f', f ≤ f' → f' ≤ len → dk_clo G len L R N V f') → (s' ≤ s0 → J4 0 (nI (r + 1)) (nI G) (nI bd) (nI len) fb df (nI s') b' ch aL aR aN aB V' O' CH SB SC) ∧ (s0 < s' → J4 1 (nI (r + 1)) (nI G) (nI bd) (nI len) fb df (nI s') b' ch aL aR aN aB V' O' CH SB SC)) → wX_follow_29 post J4 (nI r) (nI s0) n (nI f) (nI G) (nI bd) (nI len) fb df (nI s) b ch aL aR aN aB V O CH SB SC := by
  have hl6 := H.2.1
  intro d
  induction d with
  | zero =>
    intro f V O s b n hf hn C K
    obtain ⟨n, rfl⟩ : ∃ m, n = m + 1 := ⟨n - 1, by omega⟩
    have hs := dk_core_le C
    have k := K _ _ _ _ (dk_ext_rf C) (fun _ _ f' x y => absurd x (by omega))
    refine br_t (nI_lt (by omega) (by omega)) (pk_le s s0 (fun h => ?_) (fun h => ?_))
    · exact nm_r (nI_1 r) (k.1 h)
    · exact nm_r (nI_1 r) (k.2 h)
  | succ d ih =>
    intro f V O s b n hf hn C K
    obtain ⟨n, rfl⟩ : ∃ m, n = m + 1 := ⟨n - 1, by omega⟩
    refine br_f (nI_nlt (by omega) (by omega)) ?_
    refine dk_fc H (by omega) hM C (fun V1 O1 s1 b1 E1 hv => nm_r (nI_1 f) ?_)
    refine ih (f + 1) V1 O1 s1 b1 n (by omega) (by omega) E1.1 (fun V' O' s' b' E h => K V' O' s' b' (dk_ext_tr E1 E) ?_)
    intro a c
    have l1 := E1.2.1
    have l2 := E.2.1
    have es : s1 = s := by omega
    have eV : V1 = V := E1.2.2.2.2.2.1 es
    have p := h (by omega) c
    rw [eV] at p
    intro f' x y
    by_cases hf' : f' = f
    · subst hf'
      exact hv es (dk_ext_b E c)
    · exact p f' (by omega) y
theorem dk_f4 {post : SX → Prop} {M : (Nat → Bool) → Prop} (H : dk_cir G len L R N aL aR aN) (hM : ∀ σ, M σ → dk_con G len L R N σ) : ∀ (d r : Nat) (V O : Nat → Int32) (s : Nat) (b : Int32) (n : Nat), 112 ≤ s + d → r ≤ s → d + 2 ≤ n → dk_core V O s → (∀ V' O' s' b', dk_ext M V O s b V' O' s' b' → (b' = 0 → ∀ f, f ≤ len → dk_clo G len L R N V' f) → post (nI G, nI bd, nI len, fb, df, nI s', b', ch, aL, aR, aN, aB, V', O', CH, SB, SC)) → wX_follow_4 post n 1 (nI r) (nI G) (nI bd) (nI len) fb df (nI s) b ch aL aR aN aB V O CH SB SC := by
  intro d
  induction d with
  | zero =>
    intro r V O s b n hd hr hn C K
    obtain ⟨n, rfl⟩ : ∃ m, n = m + 1 + 1 := ⟨n - 2, by omega⟩
    have hs := dk_core_le C
    refine br_f (nI_ge (b := 113) (by omega) (by decide)) (br_f (by decide) (br_c (fun hb => ⟨len + 2, ?_⟩) (fun hb => K _ _ _ _ (dk_ext_rf C) (fun h => absurd h hb))))
    refine dk_f29 hs H hM (len + 1) 0 V O s b (len + 2) (by omega) (by omega) C (fun V' O' s' b' E hcl => ⟨fun h => ?_, fun h => ?_⟩)
    · have es : s' = s := by have := E.2.1; omega
      have k := K V' O' s' b' E (fun hb' f hf => by rw [E.2.2.2.2.2.1 es]; exact hcl es hb' f (by omega) hf)
      exact br_c (fun _ => k) (fun _ => br_t rfl k)
    · have := dk_core_le E.1
      omega
  | succ d ih =>
    intro r V O s b n hd hr hn C K
    obtain ⟨n, rfl⟩ : ∃ m, n = m + 1 + 1 := ⟨n - 2, by omega⟩
    have hs := dk_core_le C
    refine br_f (nI_ge (b := 113) (by omega) (by decide)) (br_f (by decide) (br_c (fun hb => ⟨len + 2, ?_⟩) (fun hb => K _ _ _ _ (dk_ext_rf C) (fun h => absurd h hb))))
    refine dk_f29 hs H hM (len + 1) 0 V O s b (len + 2) (by omega) (by omega) C (fun V' O' s' b' E hcl => ⟨fun h => ?_, fun h => ?_⟩)
    · have es : s' = s := by have := E.2.1; omega
      have k := K V' O' s' b' E (fun hb' f hf => by rw [E.2.2.2.2.2.1 es]; exact hcl es hb' f (by omega) hf)
      exact br_c (fun _ => k) (fun _ => br_t rfl k)
    · exact ih (r + 1) V' O' s' b' (n + 1) (by omega) (by omega) (by omega) E.1 (fun V2 O2 s2 b2 E2 h2 => K V2 O2 s2 b2 (dk_ext_tr E E2) h2)
theorem dk_follow {post : SX → Prop} {M : (Nat → Bool) → Prop} {V O : Nat → Int32} {s : Nat} {b : Int32} (H : dk_cir G len L R N aL aR aN) (hM : ∀ σ, M σ → dk_con G len L R N σ) (C : dk_core V O s) (K : ∀ V' O' s' b', dk_ext M V O s b V' O' s' b' → (b' = 0 → ∀ f, f ≤ len → dk_clo G len L R N V' f) → post (nI G, nI bd, nI len, fb, df, nI s', b', ch, aL, aR, aN, aB, V', O', CH, SB, SC)) : wpX_follow post (nI G, nI bd, nI len, fb, df, nI s, b, ch, aL, aR, aN, aB, V, O, CH, SB, SC) := by
  unfold wpX_follow
  exact ⟨114, dk_f4 H hM 112 0 V O s b 114 (by omega) (by omega) (by omega) C K⟩
end
end
section
/-! open, demand, value -/
def dk_mon (V V' : Nat → Int32) : Prop := ∀ p, ¬ V p < 0 → V' p = V p
theorem dk_mon_b {V V' : Nat → Int32} {p : Nat} {x : Bool} (h : dk_mon V V') (e : V p = dk_b x) : V' p = dk_b x := by
  rw [h p (by rw [e]; exact dk_b_nlt x), e]
theorem dk_mon_n {V V' : Nat → Int32} {p : Nat} (h : dk_mon V V') (e : ¬ V p < 0) : ¬ V' p < 0 := by
  rw [h p e]; exact e
theorem dk_ext_m {M : (Nat → Bool) → Prop} {V O : Nat → Int32} {s : Nat} {b : Int32} {V1 O1 : Nat → Int32} {s1 : Nat} {b1 : Int32} (E : dk_ext M V O s b V1 O1 s1 b1) : dk_mon V V1 := E.2.2.2.2.1
def dk_ini (len bd : Nat) (B : Nat → Nat) (fb : Int32) (V : Nat → Int32) : Prop :=
  (∀ f, f ≤ len → V (16 * f) = dk_b false) ∧ (∀ f, f < len → V (16 * f + bd / 2) = dk_b (false ^^ dk_od bd)) ∧ V (16 * len + bd / 2) = dk_b (true ^^ dk_od bd) ∧
  (¬ fb = 0 → ∀ l, 1 ≤ l → l < 5 → B l < 2 → V l = dk_b (decide (B l = 1)))
theorem dk_ini_m {len bd : Nat} {B : Nat → Nat} {fb : Int32} {V V' : Nat → Int32} (h : dk_mon V V') (I : dk_ini len bd B fb V) : dk_ini len bd B fb V' :=
  ⟨fun f hf => dk_mon_b h (I.1 f hf), fun f hf => dk_mon_b h (I.2.1 f hf), dk_mon_b h I.2.2.1, fun a l h1 h5 hB => dk_mon_b h (I.2.2.2 a l h1 h5 hB)⟩
theorem dk_nb {n : Nat} (h : n < 2) : nI n = dk_b (decide (n = 1)) := by
  have : n = 0 ∨ n = 1 := by omega
  rcases this with rfl | rfl <;> decide
section
variable {G bd len : Nat} {L R N B : Nat → Nat} {fb df ch : Int32} {aL aR aN aB CH SB SC : Nat → Int32}
theorem dk_op43 {post : SX → Prop} {M : (Nat → Bool) → Prop} (hl : len ≤ 6) (hM : ∀ σ, M σ → ∀ f, f ≤ len → σ (16 * f) = false) : ∀ (d f : Nat) (V O : Nat → Int32) (s : Nat) (b : Int32) (n : Nat), f + d = len + 1 → d < n → dk_core V O s → (∀ V' O' s' b', dk_ext M V O s b V' O' s' b' → (b' = 0 → ∀ f', f ≤ f' → f' ≤ len → V' (16 * f') = dk_b false) → post (nI G, nI bd, nI len, fb, df, nI s', b', ch, aL, aR, aN, aB, V', O', CH, SB, SC)) → wX_open_43 post (nI len) n (nI f) (nI G) (nI bd) (nI len) fb df (nI s) b ch aL aR aN aB V O CH SB SC := by
  intro d
  induction d with
  | zero =>
    intro f V O s b n hf hn C K
    obtain ⟨n, rfl⟩ : ∃ m, n = m + 1 := ⟨n - 1, by omega⟩
    exact br_t (nI_lt (by omega) (by omega)) (K _ _ _ _ (dk_ext_rf C) (fun _ f' x y => absurd x (by omega)))
  | succ d ih =>
    intro f V O s b n hf hn C K
    obtain ⟨n, rfl⟩ : ∃ m, n = m + 1 := ⟨n - 1, by omega⟩
    refine br_f (nI_nlt (by omega) (by omega)) ?_
    rw [show (16 : Int32) * nI f = nI (16 * f) from pk_mul 16 f]
    refine dk_put (M := M) (x := false) (by omega) C (fun σ hσ _ => hM σ hσ f (by omega)) (fun V1 O1 s1 b1 E1 hv => nm_r (nI_1 f) ?_)
    refine ih (f + 1) V1 O1 s1 b1 n (by omega) (by omega) E1.1 (fun V' O' s' b' E h => K V' O' s' b' (dk_ext_tr E1 E) (fun c f' x y => ?_))
    by_cases hf' : f' = f
    · subst hf'
      exact dk_mon_b (dk_ext_m E) (hv (dk_ext_b E c))
    · exact h c f' (by omega) y
theorem dk_op22 {post : SX → Prop} {O : Nat → Int32} (K : ∀ V' : Nat → Int32, (∀ p, p < 112 → V' p = -1) → ∃ n43, wX_open_43 post (nI len) n43 0 (nI G) (nI bd) (nI len) fb df 0 0 0 aL aR aN aB V' O CH SB SC) : ∀ (d k : Nat) (V : Nat → Int32) (n : Nat), k + d = 112 → d < n → (∀ p, p < k → V p = -1) → wX_open_22 post (nI len) (nI G) (nI bd) (nI len) fb df 0 0 0 n (nI k) aL aR aN aB V O CH SB SC := by
  intro d
  induction d with
  | zero =>
    intro k V n hk hn h
    obtain ⟨n, rfl⟩ : ∃ m, n = m + 1 := ⟨n - 1, by omega⟩
    obtain rfl : k = 112 := by omega
    exact br_t (by decide) (K V h)
  | succ d ih =>
    intro k V n hk hn h
    obtain ⟨n, rfl⟩ : ∃ m, n = m + 1 := ⟨n - 1, by omega⟩
    refine br_f (nI_ge (b := 112) (by omega) (by decide)) ⟨vp_in_nI (by omega) (by decide), fun V1 hV1 => nm_r (nI_1 k) ?_⟩
    rw [nI_clamp (show k < 2 ^ 31 by omega)] at hV1
    subst hV1
    refine ih (k + 1) _ n (by omega) (by omega) (fun p hp => ?_)
    by_cases e : p = k
    · subst e; exact pk_us
    · rw [pk_un e]; exact h p (by omega)
theorem dk_open {post : SX → Prop} {M : (Nat → Bool) → Prop} {V O : Nat → Int32} {l0 s0 b0 c0 : Int32} (hl : len ≤ 6) (hM : ∀ σ, M σ → ∀ f, f ≤ len → σ (16 * f) = false) (K : ∀ V' O' s' b', dk_core V' O' s' → (∀ σ, M σ → dk_agr σ V' ∧ b' = 0) → (b' = 0 ∨ b' = 1) → (b' = 0 → ∀ f, f ≤ len → V' (16 * f) = dk_b false) → post (nI G, nI bd, nI len, fb, df, nI s', b', nI 0, aL, aR, aN, aB, V', O', CH, SB, SC)) : wpX_open post (nI G, nI bd, l0, fb, df, s0, b0, c0, aL, aR, aN, aB, V, O, CH, SB, SC) (nI len) := by
  unfold wpX_open
  refine ⟨113, dk_op22 (fun V' hV' => ⟨len + 2, ?_⟩) 112 0 V 113 (by omega) (by omega) (fun p hp => absurd hp (by omega))⟩
  have c0 : dk_cn V' 112 = 0 := dk_cn_0 112 (fun p hp => by rw [hV' p hp]; decide)
  have C : dk_core V' O 0 := ⟨fun p hp => Or.inl (hV' p hp), c0.symm, fun t ht => absurd ht (by omega)⟩
  refine dk_op43 (M := M) (ch := nI 0) hl hM (len + 1) 0 V' O 0 0 (len + 2) (by omega) (by omega) C (fun V2 O2 s2 b2 E h => K V2 O2 s2 b2 E.1 (fun σ hσ => ?_) E.2.2.2.2.2.2.1 (fun e f hf => h e f (by omega) hf))
  exact E.2.2.2.2.2.2.2 σ hσ rfl (fun p hp z => absurd (by rw [hV' p hp]; decide) z)
theorem dk_dm41 {post : SX → Prop} {M : (Nat → Bool) → Prop} (hB : ∀ l, 1 ≤ l → l < 5 → B l ≤ 2 ∧ aB l = nI (B l)) (hM : ¬ fb = 0 → ∀ σ, M σ → ∀ l, 1 ≤ l → l < 5 → B l < 2 → σ l = decide (B l = 1)) : ∀ (d l : Nat) (V O : Nat → Int32) (s : Nat) (b : Int32) (n : Nat), l + d = 5 → 1 ≤ l → d < n → dk_core V O s → (∀ V' O' s' b', dk_ext M V O s b V' O' s' b' → (b' = 0 → ¬ fb = 0 → ∀ l', l ≤ l' → l' < 5 → B l' < 2 → V' l' = dk_b (decide (B l' = 1))) → post (nI G, nI bd, nI len, fb, df, nI s', b', ch, aL, aR, aN, aB, V', O', CH, SB, SC)) → wX_demand_41 post n (nI l) (nI G) (nI bd) (nI len) fb df (nI s) b ch aL aR aN aB V O CH SB SC := by
  intro d
  induction d with
  | zero =>
    intro l V O s b n hl h1 hn C K
    obtain ⟨n, rfl⟩ : ∃ m, n = m + 1 := ⟨n - 1, by omega⟩
    obtain rfl : l = 5 := by omega
    exact br_t (by decide) (K _ _ _ _ (dk_ext_rf C) (fun _ _ l' a b => absurd a (by omega)))
  | succ d ih =>
    intro l V O s b n hl h1 hn C K
    obtain ⟨n, rfl⟩ : ∃ m, n = m + 1 := ⟨n - 1, by omega⟩
    obtain ⟨hB2, eB⟩ := hB l h1 (by omega)
    have hi : vp_in (nI l) 5 := vp_in_nI (by omega) (by decide)
    refine br_f (nI_ge (b := 5) (by omega) (by decide)) ?_
    have step : ∀ V1 O1 s1 b1, dk_ext M V O s b V1 O1 s1 b1 → (b1 = 0 → ¬ fb = 0 → B l < 2 → V1 l = dk_b (decide (B l = 1))) → wX_demand_41 post n (nI (l + 1)) (nI G) (nI bd) (nI len) fb df (nI s1) b1 ch aL aR aN aB V1 O1 CH SB SC := by
      intro V1 O1 s1 b1 E1 h1'
      refine ih (l + 1) V1 O1 s1 b1 n (by omega) (by omega) (by omega) E1.1 (fun V' O' s' b' E h => K V' O' s' b' (dk_ext_tr E1 E) ?_)
      intro c hf l' x y z
      by_cases hl' : l' = l
      · subst hl'
        exact dk_mon_b (dk_ext_m E) (h1' (dk_ext_b E c) hf z)
      · exact h c hf l' (by omega) y z
    refine br_c (fun hf => nm_r (nI_1 l) (step _ _ _ _ (dk_ext_rf C) (fun _ h => absurd hf h))) (fun hf => ⟨hi, ?_⟩)
    rw [nI_clamp (show l < 2 ^ 31 by omega), eB]
    refine pk_le 2 (B l) (fun h2 => nm_r (nI_1 l) (step _ _ _ _ (dk_ext_rf C) (fun _ _ h => absurd h (by omega)))) (fun h2 => ⟨hi, ?_⟩)
    rw [dk_nb h2]
    exact dk_put (M := M) (by omega) C (fun σ hσ _ => hM hf σ hσ l h1 (by omega) h2) (fun V1 O1 s1 b1 E1 hv => nm_r (nI_1 l) (step _ _ _ _ E1 (fun c _ _ => hv c)))
theorem dk_dm2 {post : SX → Prop} {M : (Nat → Bool) → Prop} (hl6 : len ≤ 6) (hbd : bd < 32) (hB : ∀ l, 1 ≤ l → l < 5 → B l ≤ 2 ∧ aB l = nI (B l)) (hM : ¬ fb = 0 → ∀ σ, M σ → ∀ l, 1 ≤ l → l < 5 → B l < 2 → σ l = decide (B l = 1)) (hM0 : ∀ σ, M σ → ∀ f, f < len → dk_lv (dk_fr σ f) bd = false) (hM1 : ∀ σ, M σ → dk_lv (dk_fr σ len) bd = true) : ∀ (d f : Nat) (V O : Nat → Int32) (s : Nat) (b : Int32) (n : Nat), f + d = len → d < n → dk_core V O s → (∀ V' O' s' b', dk_ext M V O s b V' O' s' b' → (b' = 0 → (∀ f', f ≤ f' → f' < len → V' (16 * f' + bd / 2) = dk_b (false ^^ dk_od bd)) ∧ V' (16 * len + bd / 2) = dk_b (true ^^ dk_od bd) ∧ (¬ fb = 0 → ∀ l, 1 ≤ l → l < 5 → B l < 2 → V' l = dk_b (decide (B l = 1)))) → post (nI G, nI bd, nI len, fb, df, nI s', b', ch, aL, aR, aN, aB, V', O', CH, SB, SC)) → wX_demand_2 post n (nI f) (nI G) (nI bd) (nI len) fb df (nI s) b ch aL aR aN aB V O CH SB SC := by
  intro d
  induction d with
  | zero =>
    intro f V O s b n hf hn C K
    obtain ⟨n, rfl⟩ : ∃ m, n = m + 1 := ⟨n - 1, by omega⟩
    refine br_t (nI_le (by omega) (by omega)) ?_
    refine dk_pl (M := M) (x := true) hl6 hbd C (fun σ hσ _ => hM1 σ hσ) (fun V1 O1 s1 b1 E1 hv => ⟨5, ?_⟩)
    refine dk_dm41 (M := M) hB hM 4 1 V1 O1 s1 b1 5 (by omega) (by omega) (by omega) E1.1 (fun V' O' s' b' E h => K V' O' s' b' (dk_ext_tr E1 E) (fun c => ⟨fun f' x y => absurd x (by omega), dk_mon_b (dk_ext_m E) (hv (dk_ext_b E c)), h c⟩))
  | succ d ih =>
    intro f V O s b n hf hn C K
    obtain ⟨n, rfl⟩ : ∃ m, n = m + 1 := ⟨n - 1, by omega⟩
    refine br_f (nI_ge (by omega) (by omega)) ?_
    refine dk_pl (M := M) (x := false) (by omega) hbd C (fun σ hσ _ => hM0 σ hσ f (by omega)) (fun V1 O1 s1 b1 E1 hv => nm_r (nI_1 f) ?_)
    refine ih (f + 1) V1 O1 s1 b1 n (by omega) (by omega) E1.1 (fun V' O' s' b' E h => K V' O' s' b' (dk_ext_tr E1 E) (fun c => ⟨fun f' x y => ?_, (h c).2⟩))
    by_cases hf' : f' = f
    · subst hf'
      exact dk_mon_b (dk_ext_m E) (hv (dk_ext_b E c))
    · exact (h c).1 f' (by omega) y
theorem dk_demand {post : SX → Prop} {M : (Nat → Bool) → Prop} {V O : Nat → Int32} {s : Nat} {b : Int32} (hl6 : len ≤ 6) (hbd : bd < 32) (hB : ∀ l, 1 ≤ l → l < 5 → B l ≤ 2 ∧ aB l = nI (B l)) (hM : ¬ fb = 0 → ∀ σ, M σ → ∀ l, 1 ≤ l → l < 5 → B l < 2 → σ l = decide (B l = 1)) (hM0 : ∀ σ, M σ → ∀ f, f < len → dk_lv (dk_fr σ f) bd = false) (hM1 : ∀ σ, M σ → dk_lv (dk_fr σ len) bd = true) (C : dk_core V O s) (hz : b = 0 → ∀ f, f ≤ len → V (16 * f) = dk_b false) (K : ∀ V' O' s' b', dk_ext M V O s b V' O' s' b' → (b' = 0 → dk_ini len bd B fb V') → post (nI G, nI bd, nI len, fb, df, nI s', b', ch, aL, aR, aN, aB, V', O', CH, SB, SC)) : wpX_demand post (nI G, nI bd, nI len, fb, df, nI s, b, ch, aL, aR, aN, aB, V, O, CH, SB, SC) := by
  unfold wpX_demand
  exact ⟨len + 1, dk_dm2 (M := M) hl6 hbd hB hM hM0 hM1 len 0 V O s b (len + 1) (by omega) (by omega) C (fun V' O' s' b' E h => K V' O' s' b' E (fun c => ⟨fun f hf => dk_mon_b (dk_ext_m E) (hz (dk_ext_b E c) f hf), fun f hf => (h c).1 f (by omega) hf, (h c).2.1, (h c).2.2⟩))⟩
end
end
section
/-! sameState, repeats, choose -/
def dk_same (V : Nat → Int32) (f h : Nat) : Prop := ∀ l, 1 ≤ l → l < 5 → ¬ V (16 * f + l) < 0 ∧ V (16 * f + l) = V (16 * h + l)
/-- at is the first open decision from j0 on, -1 if there is none -/
def dk_at (V : Nat → Int32) (D j0 : Nat) (r : Int32) : Prop :=
  (r = -1 ∧ ∀ j, j0 ≤ j → j < D → ¬ V (dk_dv j) < 0) ∨ (∃ j, j0 ≤ j ∧ j < D ∧ r = nI (dk_dv j) ∧ V (dk_dv j) < 0 ∧ ∀ i, j0 ≤ i → i < j → ¬ V (dk_dv i) < 0)
theorem dk_at_k {V : Nat → Int32} {D j0 : Nat} {r : Int32} (h : dk_at V D (j0 + 1) r) (hn : ¬ V (dk_dv j0) < 0) : dk_at V D j0 r := by
  rcases h with ⟨e, h⟩ | ⟨j, a, c, e, o, h⟩
  · refine Or.inl ⟨e, fun j h0 hD => ?_⟩
    by_cases z : j = j0
    · rw [z]; exact hn
    · exact h j (by omega) hD
  · refine Or.inr ⟨j, by omega, c, e, o, fun i h0 hj => ?_⟩
    by_cases z : i = j0
    · rw [z]; exact hn
    · exact h i (by omega) hj
theorem dk_at_o {V : Nat → Int32} {D j0 : Nat} (hD : j0 < D) (ho : V (dk_dv j0) < 0) : dk_at V D j0 (nI (dk_dv j0)) :=
  Or.inr ⟨j0, Nat.le_refl _, hD, rfl, ho, fun i h0 hj => absurd h0 (by omega)⟩
theorem dk_dv_i (f : Nat) : dk_dv (4 + f) = 16 * f + 5 := by
  unfold dk_dv
  rw [if_neg (by omega), show 4 + f - 4 = f by omega]
theorem dk_dv_l {l : Nat} (h1 : 1 ≤ l) (h5 : l < 5) : dk_dv (4 - l) = l := by
  unfold dk_dv
  rw [if_pos (by omega)]
  omega
section
variable {G bd len s c : Nat} {fb df b ch : Int32} {aL aR aN aB V O CH SB SC : Nat → Int32}
theorem dk_ss2 {post : Int32 → Prop} {f h : Nat} (hf : f ≤ 6) (hh : h ≤ 6) (K0 : ¬ dk_same V f h → post 0) (K1 : dk_same V f h → post 1) : ∀ (d l n : Nat), l + d = 5 → 1 ≤ l → d < n → (∀ l', 1 ≤ l' → l' < l → ¬ V (16 * f + l') < 0 ∧ V (16 * f + l') = V (16 * h + l')) → wX_sameState_2 post (nI f) (nI h) (nI G) (nI bd) (nI len) fb df (nI s) b ch aL aR aN aB V O CH SB SC n (nI l) := by
  intro d
  induction d with
  | zero =>
    intro l n hl h1 hn I
    obtain ⟨n, rfl⟩ : ∃ m, n = m + 1 := ⟨n - 1, by omega⟩
    obtain rfl : l = 5 := by omega
    exact br_t (by decide) (K1 I)
  | succ d ih =>
    intro l n hl h1 hn I
    obtain ⟨n, rfl⟩ : ∃ m, n = m + 1 := ⟨n - 1, by omega⟩
    refine br_f (nI_ge (b := 5) (by omega) (by decide)) ?_
    rw [dk_ix2, dk_ix2, nI_clamp (show 16 * f + l < 2 ^ 31 by omega), nI_clamp (show 16 * h + l < 2 ^ 31 by omega)]
    refine ⟨vp_in_nI (by omega) (by decide), nm_e (br_c (fun z => K0 (fun S => (S l h1 (by omega)).1 z)) (fun z => ⟨vp_in_nI (by omega) (by decide), br_c (fun e => nm_r (nI_1 l) ?_) (fun e => K0 (fun S => e (S l h1 (by omega)).2))⟩))⟩
    refine ih (l + 1) n (by omega) (by omega) (by omega) (fun l' a c => ?_)
    by_cases q : l' = l
    · subst q; exact ⟨z, e⟩
    · exact I l' a (by omega)
theorem dk_ss {post : Int32 → Prop} {f h : Nat} (hf : f ≤ 6) (hh : h ≤ 6) (K0 : ¬ dk_same V f h → post 0) (K1 : dk_same V f h → post 1) : wpX_sameState post (nI G, nI bd, nI len, fb, df, nI s, b, ch, aL, aR, aN, aB, V, O, CH, SB, SC) (nI f) (nI h) := by
  unfold wpX_sameState
  exact ⟨5, dk_ss2 hf hh K0 K1 4 1 5 (by omega) (by omega) (by omega) (fun l' a c => absurd a (by omega))⟩
theorem dk_rp12 {post : Int32 → Prop} {J2 : Int32 → Prop} {f : Nat} (hf : f ≤ 6) (K1 : ∀ h, h < f → dk_same V f h → post 1) (K0 : (∀ h, h < f → ¬ dk_same V f h) → J2 (nI (f + 1))) : ∀ (d h n : Nat), h + d = f → d < n → (∀ h', h' < h → ¬ dk_same V f h') → wX_repeats_12 post J2 (nI f) (nI G) (nI bd) (nI len) fb df (nI s) b ch aL aR aN aB V O CH SB SC n (nI h) := by
  intro d
  induction d with
  | zero =>
    intro h n hh hn I
    obtain ⟨n, rfl⟩ : ∃ m, n = m + 1 := ⟨n - 1, by omega⟩
    obtain rfl : h = f := by omega
    exact br_t (nI_le (by omega) (by omega)) (nm_r (nI_1 h) (K0 I))
  | succ d ih =>
    intro h n hh hn I
    obtain ⟨n, rfl⟩ : ∃ m, n = m + 1 := ⟨n - 1, by omega⟩
    refine br_f (nI_ge (by omega) (by omega)) ?_
    refine dk_ss hf (by omega) (fun S => br_t rfl (nm_r (nI_1 h) ?_)) (fun S => br_f (by decide) (K1 h (by omega) S))
    refine ih (h + 1) n (by omega) (by omega) (fun h' q => ?_)
    by_cases e : h' = h
    · subst e; exact S
    · exact I h' (by omega)
theorem dk_rp2 {post : Int32 → Prop} (hl : len ≤ 6) (K1 : ∀ f h, h < f → f ≤ len → dk_same V f h → post 1) (K0 : (∀ f h, h < f → f ≤ len → ¬ dk_same V f h) → post 0) : ∀ (d f n : Nat), f + d = len + 1 → d < n → (∀ f' h, h < f' → f' < f → ¬ dk_same V f' h) → wX_repeats_2 post (nI G) (nI bd) (nI len) fb df (nI s) b ch aL aR aN aB V O CH SB SC n (nI f) := by
  intro d
  induction d with
  | zero =>
    intro f n hf hn I
    obtain ⟨n, rfl⟩ : ∃ m, n = m + 1 := ⟨n - 1, by omega⟩
    exact br_t (nI_lt (by omega) (by omega)) (K0 (fun f' h a c => I f' h a (by omega)))
  | succ d ih =>
    intro f n hf hn I
    obtain ⟨n, rfl⟩ : ∃ m, n = m + 1 := ⟨n - 1, by omega⟩
    refine br_f (nI_nlt (by omega) (by omega)) ⟨f + 1, ?_⟩
    refine dk_rp12 (by omega) (fun h a S => K1 f h a (by omega) S) (fun S => ?_) f 0 (f + 1) (by omega) (by omega) (fun h' q => absurd q (by omega))
    refine ih (f + 1) n (by omega) (by omega) (fun f' h a q => ?_)
    by_cases e : f' = f
    · subst e; exact S h a
    · exact I f' h a (by omega)
theorem dk_rp {post : Int32 → Prop} (hl : len ≤ 6) (K1 : ∀ f h, h < f → f ≤ len → dk_same V f h → post 1) (K0 : (∀ f h, h < f → f ≤ len → ¬ dk_same V f h) → post 0) : wpX_repeats post (nI G, nI bd, nI len, fb, df, nI s, b, ch, aL, aR, aN, aB, V, O, CH, SB, SC) := by
  unfold wpX_repeats
  exact ⟨len + 2, dk_rp2 hl K1 K0 (len + 1) 0 (len + 2) (by omega) (by omega) (fun f' h a q => absurd q (by omega))⟩
theorem dk_ch44 {post : Int32 → SX → Prop} (hl : len ≤ 6) (C : dk_core V O s) (hc : ∀ j, j < 5 + len → V (dk_dv j) < 0 → c ≤ j) (K0 : (∀ j, j < 5 + len → ¬ V (dk_dv j) < 0) → post 0 (nI G, nI bd, nI len, fb, df, nI s, b, nI c, aL, aR, aN, aB, V, O, CH, SB, SC)) (K1 : ∀ j, j < 5 + len → V (dk_dv j) = -1 → (∀ i, i < j → ¬ V (dk_dv i) < 0) → post 1 (nI G, nI bd, nI len, fb, df, nI (s + 1), b, nI (c + 1), aL, aR, aN, aB, upd V (dk_dv j) (dk_b false), upd O s (nI (dk_dv j)), upd CH c (nI (dk_dv j)), upd SB c (nI s), upd SC c (dk_b false))) : ∀ (d l : Nat) (r : Int32) (n : Nat), l + d = 5 → 1 ≤ l → d < n → dk_at V (5 + len) (5 - l) r → wX_choose_44 post (nI G) (nI bd) (nI len) fb df (nI s) b (nI c) aL aR aN aB V O CH SB SC n r (nI l) := by
  intro d
  induction d with
  | zero =>
    intro l r n hl' h1 hn A
    obtain ⟨n, rfl⟩ : ∃ m, n = m + 1 := ⟨n - 1, by omega⟩
    obtain rfl : l = 5 := by omega
    refine br_t (by decide) ?_
    rcases A with ⟨rfl, h⟩ | ⟨j, -, hj, rfl, ho, h⟩
    · exact br_f (by decide) (K0 (fun j hj => h j (by omega) hj))
    · have hd := dk_dv_lt hl hj
      have hcj := hc j hj ho
      have e : V (dk_dv j) = -1 := by
        rcases C.1 _ hd with e | ⟨x, e⟩
        · exact e
        · rw [e] at ho; exact absurd ho (dk_b_nlt x)
      have hi : vp_in (nI c) 12 := vp_in_nI (by omega) (by decide)
      refine br_t (nI_pos' (by omega)) ⟨hi, fun A1 h1 => ⟨hi, fun A2 h2 => ⟨hi, fun A3 h3 => nm_r (nI_1 c) ?_⟩⟩⟩
      rw [nI_clamp (show c < 2 ^ 31 by omega)] at h1 h2 h3
      subst h1 h2 h3
      exact dk_put_o (x := false) hd C e (K1 j hj e (fun i hi => h i (by omega) hi))
  | succ d ih =>
    intro l r n hl' h1 hn A
    obtain ⟨n, rfl⟩ : ∃ m, n = m + 1 := ⟨n - 1, by omega⟩
    refine br_f (nI_ge (b := 5) (by omega) (by decide)) ⟨vp_in_nI (by omega) (by decide), ?_⟩
    rw [nI_clamp (show l < 2 ^ 31 by omega)]
    have ev := dk_dv_l h1 (show l < 5 by omega)
    rw [show 5 - l = (4 - l) + 1 by omega] at A
    rcases C.1 l (by omega) with e | ⟨x, e⟩
    · refine br_f (by rw [e]; decide) (nm_r (nI_1 l) (ih (l + 1) _ n (by omega) (by omega) (by omega) ?_))
      have := dk_at_o (V := V) (D := 5 + len) (j0 := 4 - l) (by omega) (by rw [ev, e]; decide)
      rw [ev] at this
      rw [show 5 - (l + 1) = 4 - l by omega]
      exact this
    · refine br_t (by rw [e]; exact dk_b_ge x) (nm_r (nI_1 l) (ih (l + 1) _ n (by omega) (by omega) (by omega) ?_))
      rw [show 5 - (l + 1) = 4 - l by omega]
      exact dk_at_k A (by rw [ev, e]; exact dk_b_nlt x)
theorem dk_ch7 {post : Int32 → SX → Prop} (hl : len ≤ 6) (C : dk_core V O s) (K : ∀ r, dk_at V (5 + len) 4 r → ∃ n44, wX_choose_44 post (nI G) (nI bd) (nI len) fb df (nI s) b (nI c) aL aR aN aB V O CH SB SC n44 r 1) : ∀ (f : Nat) (r : Int32) (n : Nat), f ≤ len → f + 1 < n → dk_at V (5 + len) (5 + f) r → wX_choose_7 post (nI G) (nI bd) (nI len) fb df (nI s) b (nI c) aL aR aN aB V O CH SB SC n r (nI f) := by
  intro f
  induction f with
  | zero =>
    intro r n hf hn A
    obtain ⟨n, rfl⟩ : ∃ m, n = m + 1 + 1 := ⟨n - 2, by omega⟩
    refine br_f (by decide) ?_
    have ev := dk_dv_i 0
    rw [show (16 : Int32) * nI 0 + 5 = nI (16 * 0 + 5) from dk_ix2 0 5, nI_clamp (by omega)]
    refine ⟨vp_in_nI (by omega) (by decide), ?_⟩
    rcases C.1 (16 * 0 + 5) (by omega) with e | ⟨x, e⟩
    · refine br_f (by rw [e]; decide) (nm_e (nm_e (br_t (by decide) (K _ ?_))))
      have := dk_at_o (V := V) (D := 5 + len) (j0 := 4 + 0) (by omega) (by rw [ev, e]; decide)
      rw [ev] at this
      exact this
    · exact br_t (by rw [e]; exact dk_b_ge x) (nm_e (br_t (by decide) (K _ (dk_at_k (j0 := 4 + 0) A (by rw [ev, e]; exact dk_b_nlt x)))))
  | succ f ih =>
    intro r n hf hn A
    obtain ⟨n, rfl⟩ : ∃ m, n = m + 1 := ⟨n - 1, by omega⟩
    refine br_f (nI_pos (by omega)) ?_
    have ev := dk_dv_i (f + 1)
    rw [show (16 : Int32) * nI (f + 1) + 5 = nI (16 * (f + 1) + 5) from dk_ix2 (f + 1) 5, nI_clamp (by omega)]
    refine ⟨vp_in_nI (by omega) (by decide), ?_⟩
    rcases C.1 (16 * (f + 1) + 5) (by omega) with e | ⟨x, e⟩
    · refine br_f (by rw [e]; decide) (nm_e (nm_r (pk_m1 f) (ih _ n (by omega) (by omega) ?_)))
      have := dk_at_o (V := V) (D := 5 + len) (j0 := 4 + (f + 1)) (by omega) (by rw [ev, e]; decide)
      rw [ev] at this
      rw [show 5 + f = 4 + (f + 1) by omega]
      exact this
    · refine br_t (by rw [e]; exact dk_b_ge x) (nm_r (pk_m1 f) (ih _ n (by omega) (by omega) ?_))
      rw [show 5 + f = 4 + (f + 1) by omega]
      exact dk_at_k (by rw [show 4 + (f + 1) + 1 = 5 + (f + 1) by omega]; exact A) (by rw [ev, e]; exact dk_b_nlt x)
theorem dk_choose {post : Int32 → SX → Prop} (hl : len ≤ 6) (C : dk_core V O s) (hc : ∀ j, j < 5 + len → V (dk_dv j) < 0 → c ≤ j) (K0 : (∀ j, j < 5 + len → ¬ V (dk_dv j) < 0) → post 0 (nI G, nI bd, nI len, fb, df, nI s, b, nI c, aL, aR, aN, aB, V, O, CH, SB, SC)) (K1 : ∀ j, j < 5 + len → V (dk_dv j) = -1 → (∀ i, i < j → ¬ V (dk_dv i) < 0) → post 1 (nI G, nI bd, nI len, fb, df, nI (s + 1), b, nI (c + 1), aL, aR, aN, aB, upd V (dk_dv j) (dk_b false), upd O s (nI (dk_dv j)), upd CH c (nI (dk_dv j)), upd SB c (nI s), upd SC c (dk_b false))) : wpX_choose post (nI G, nI bd, nI len, fb, df, nI s, b, nI c, aL, aR, aN, aB, V, O, CH, SB, SC) := by
  unfold wpX_choose
  exact ⟨len + 2, dk_ch7 hl C (fun r A => ⟨5, dk_ch44 hl C hc K0 K1 4 1 r 5 (by omega) (by omega) (by omega) A⟩) len (-1) (len + 2) (by omega) (by omega) (Or.inl ⟨rfl, fun j h0 hj => absurd h0 (by omega)⟩)⟩
end
end
section
/-! the choices as a list of (what was set before, which decision, its second value?), and goBack -/
def dk_stk (I : (Nat → Int32) → Prop) (D : Nat) (O CH SB SC : Nat → Int32) : List ((Nat → Int32) × Nat × Bool) → (Nat → Int32) → Nat → Int32 → Prop
  | [], V, _, b => b = 0 → I V
  | (W, j, y) :: l, V, s, _ =>
    dk_core W O (dk_cn W 112) ∧ dk_cn W 112 ≤ s ∧ j < D ∧ W (dk_dv j) = -1 ∧ (∀ i, i < j → ¬ W (dk_dv i) < 0) ∧ dk_mon W V ∧ V (dk_dv j) = dk_b y ∧
    (∀ k, dk_cn W 112 + k = s → dk_und O (dk_cn W 112) k V = W) ∧ CH l.length = nI (dk_dv j) ∧ SB l.length = nI (dk_cn W 112) ∧ SC l.length = dk_b y ∧
    dk_stk I D O CH SB SC l W (dk_cn W 112) 0
def dk_pend (σ : Nat → Bool) : List ((Nat → Int32) × Nat × Bool) → Prop
  | [] => False
  | (W, j, y) :: l => (y = false ∧ dk_agr σ W ∧ σ (dk_dv j) = true) ∨ dk_pend σ l
def dk_nd : List ((Nat → Int32) × Nat × Bool) → Nat
  | [] => 0
  | (_, _, y) :: l => dk_nd l + 1 + (if y = true then 2 ^ (11 - l.length) - 1 else 0)
theorem dk_core_c {V O O' : Nat → Int32} {s : Nat} (C : dk_core V O s) (h : ∀ t, t < s → O' t = O t) : dk_core V O' s :=
  ⟨C.1, C.2.1, fun t ht => by rw [h t ht]; exact C.2.2 t ht⟩
theorem dk_mon_t {V V1 V2 : Nat → Int32} (a : dk_mon V V1) (c : dk_mon V1 V2) : dk_mon V V2 := fun p hp => by
  rw [c p (by rw [a p hp]; exact hp), a p hp]
theorem dk_agr_m {σ : Nat → Bool} {V V1 : Nat → Int32} (a : dk_mon V V1) (h : dk_agr σ V1) : dk_agr σ V := fun p hp z => by
  rw [← a p z]
  exact h p hp (by rw [a p z]; exact z)
theorem dk_stk_c {I : (Nat → Int32) → Prop} {D : Nat} {O CH SB SC O' CH' SB' SC' : Nat → Int32} : ∀ (l : List ((Nat → Int32) × Nat × Bool)) (V : Nat → Int32) (s : Nat) (b : Int32), dk_stk I D O CH SB SC l V s b → (∀ t, t < s → O' t = O t) → (∀ i, i < l.length → CH' i = CH i ∧ SB' i = SB i ∧ SC' i = SC i) → dk_stk I D O' CH' SB' SC' l V s b
  | [], _, _, _, S, _, _ => S
  | (W, j, y) :: l, V, s, b, S, ho, hc => by
    obtain ⟨C, h1, h2, h3, h4, h5, h6, h7, c1, c2, c3, S'⟩ := S
    obtain ⟨e1, e2, e3⟩ := hc l.length (Nat.lt_succ_self _)
    refine ⟨dk_core_c C (fun t ht => ho t (by omega)), h1, h2, h3, h4, h5, h6, fun k hk => ?_, e1.trans c1, e2.trans c2, e3.trans c3, dk_stk_c l W _ 0 S' (fun t ht => ho t (by omega)) (fun i hi => hc i (Nat.lt_succ_of_lt hi))⟩
    rw [dk_und_c k V (fun t ht => ho t (by omega))]
    exact h7 k hk
theorem dk_stk_e {I : (Nat → Int32) → Prop} (Im : ∀ V V', dk_mon V V' → I V → I V') {D : Nat} {O CH SB SC : Nat → Int32} {M : (Nat → Bool) → Prop} {V : Nat → Int32} {s : Nat} {b : Int32} {V' O' : Nat → Int32} {s' : Nat} {b' : Int32} (E : dk_ext M V O s b V' O' s' b') : ∀ (l : List ((Nat → Int32) × Nat × Bool)), dk_stk I D O CH SB SC l V s b → dk_stk I D O' CH SB SC l V' s' b'
  | [], S => fun h => Im V V' (dk_ext_m E) (S (dk_ext_b E h))
  | (W, j, y) :: l, S => by
    obtain ⟨C, h1, h2, h3, h4, h5, h6, h7, c1, c2, c3, S'⟩ := S
    have hs := E.2.1
    have ho := E.2.2.1
    refine ⟨dk_core_c C (fun t ht => ho t (by omega)), by omega, h2, h3, h4, dk_mon_t h5 (dk_ext_m E), dk_mon_b (dk_ext_m E) h6, fun k hk => ?_, c1, c2, c3, dk_stk_c l W _ 0 S' (fun t ht => ho t (by omega)) (fun i hi => ⟨rfl, rfl, rfl⟩)⟩
    rw [E.2.2.2.1 (dk_cn W 112) (s - dk_cn W 112) k (by omega) hk]
    exact h7 _ (by omega)
theorem dk_stk_I {I : (Nat → Int32) → Prop} (Im : ∀ V V', dk_mon V V' → I V → I V') {D : Nat} {O CH SB SC : Nat → Int32} : ∀ (l : List ((Nat → Int32) × Nat × Bool)) (V : Nat → Int32) (s : Nat) (b : Int32), dk_stk I D O CH SB SC l V s b → b = 0 → I V
  | [], _, _, _, S, h => S h
  | (W, j, y) :: l, V, s, b, S, _ => by
    obtain ⟨C, h1, h2, h3, h4, h5, h6, h7, c1, c2, c3, S'⟩ := S
    exact Im W V h5 (dk_stk_I Im l W _ 0 S' rfl)
theorem dk_stk_d {I : (Nat → Int32) → Prop} {D : Nat} {O CH SB SC : Nat → Int32} : ∀ (l : List ((Nat → Int32) × Nat × Bool)) (V : Nat → Int32) (s : Nat) (b : Int32), dk_stk I D O CH SB SC l V s b → ∀ i, i < l.length → ¬ V (dk_dv i) < 0
  | [], _, _, _, _ => fun i hi => absurd hi (Nat.not_lt_zero i)
  | (W, j, y) :: l, V, s, b, S => by
    obtain ⟨C, h1, h2, h3, h4, h5, h6, h7, c1, c2, c3, S'⟩ := S
    have ih := dk_stk_d l W _ 0 S'
    intro i hi
    have hi' : i < l.length + 1 := hi
    have hj : l.length ≤ j := by
      rcases Nat.lt_or_ge j l.length with a | a
      · exact absurd (by rw [h3]; decide) (ih j a)
      · exact a
    by_cases e : i = j
    · rw [e, h6]; exact dk_b_nlt y
    · exact dk_mon_n h5 (h4 i (by omega))
theorem dk_stk_lx {I : (Nat → Int32) → Prop} {len : Nat} (hl : len ≤ 6) {O CH SB SC : Nat → Int32} {σ τ : Nat → Bool} : ∀ (l : List ((Nat → Int32) × Nat × Bool)) (V : Nat → Int32) (s : Nat) (b : Int32), dk_stk I (5 + len) O CH SB SC l V s b → dk_agr τ V → dk_pend σ l → dk_lx (5 + len) τ σ
  | [], _, _, _, _, _, P => P.elim
  | (W, j, y) :: l, V, s, b, S, A, P => by
    obtain ⟨C, h1, h2, h3, h4, h5, h6, h7, c1, c2, c3, S'⟩ := S
    have AW : dk_agr τ W := dk_agr_m h5 A
    rcases P with ⟨hy, hσ, hj⟩ | P
    · refine ⟨j, h2, fun i hi => ?_, ?_, hj⟩
      · have hd := dk_dv_lt hl (show i < 5 + len by omega)
        exact dk_b_inj ((AW _ hd (h4 i hi)).symm.trans (hσ _ hd (h4 i hi)))
      · rw [hy] at h6
        exact dk_agr_v A (dk_dv_lt hl h2) h6
    · exact dk_stk_lx hl l W _ 0 S' AW P
theorem dk_nd_le : ∀ l : List ((Nat → Int32) × Nat × Bool), l.length ≤ 11 → dk_nd l + 2 ^ (12 - l.length) ≤ 4096
  | [], _ => by decide
  | (W, j, y) :: l, h => by
    have h' : l.length + 1 ≤ 11 := h
    have ih := dk_nd_le l (by omega)
    show dk_nd l + 1 + (if y = true then 2 ^ (11 - l.length) - 1 else 0) + 2 ^ (12 - (l.length + 1)) ≤ 4096
    rw [show 12 - l.length = (11 - l.length) + 1 by omega, Nat.pow_succ] at ih
    rw [show 12 - (l.length + 1) = 11 - l.length by omega]
    have := Nat.two_pow_pos (11 - l.length)
    split <;> omega
theorem dk_stk_p {I : (Nat → Int32) → Prop} {D : Nat} {O CH SB SC CH' SB' SC' : Nat → Int32} {W : Nat → Int32} {w j : Nat} {x : Bool} {l : List ((Nat → Int32) × Nat × Bool)} {b' : Int32} (C : dk_core W O w) (hj : j < D) (hd : dk_dv j < 112) (e : W (dk_dv j) = -1) (h : ∀ i, i < j → ¬ W (dk_dv i) < 0) (S : dk_stk I D O CH SB SC l W w 0) (c1 : CH' l.length = nI (dk_dv j)) (c2 : SB' l.length = nI w) (c3 : SC' l.length = dk_b x) (cc : ∀ i, i < l.length → CH' i = CH i ∧ SB' i = SB i ∧ SC' i = SC i) : dk_stk I D (upd O w (nI (dk_dv j))) CH' SB' SC' ((W, j, x) :: l) (upd W (dk_dv j) (dk_b x)) (w + 1) b' := by
  have E : dk_ext (fun σ => σ (dk_dv j) = x) W O w 0 (upd W (dk_dv j) (dk_b x)) (upd O w (nI (dk_dv j))) (w + 1) 0 := dk_ext_push C hd e (fun σ h _ => h)
  have hw := C.2.1
  have ho := E.2.2.1
  refine ⟨?_, by omega, hj, e, h, dk_ext_m E, pk_us, fun k hk => ?_, c1, by rw [c2, hw], c3, ?_⟩
  · rw [← hw]
    exact dk_core_c C ho
  · rw [← hw] at hk ⊢
    exact E.2.2.2.1 w 0 k (by omega) hk
  · rw [← hw]
    exact dk_stk_c l W w 0 S ho cc
def dk_inv (M : (Nat → Bool) → Prop) (I : (Nat → Int32) → Prop) (D : Nat) (O CH SB SC : Nat → Int32) (l : List ((Nat → Int32) × Nat × Bool)) (V : Nat → Int32) (s : Nat) (b : Int32) : Prop :=
  dk_core V O s ∧ l.length ≤ 11 ∧ dk_stk I D O CH SB SC l V s b ∧ ∀ σ, M σ → (dk_agr σ V ∧ b = 0) ∨ dk_pend σ l
section
variable {G bd len : Nat} {fb df b : Int32} {aL aR aN aB O CH SB SC : Nat → Int32}
theorem dk_gb22 {post : Int32 → SX → Prop} {J2 : Int32 → Int32 → Int32 → (Nat → Int32) → (Nat → Int32) → (Nat → Int32) → (Nat → Int32) → (Nat → Int32) → (Nat → Int32) → (Nat → Int32) → (Nat → Int32) → (Nat → Int32) → Prop} {x1 c w p : Nat} {W : Nat → Int32} (hc : c < 12) (hSB : SB c = nI w) (C : dk_core W O w) (hCH : CH c = nI p) (hp : p < 112) (e : W p = -1) (h0 : SC c = 0 → post 1 (nI G, nI bd, nI len, fb, df, nI (w + 1), 0, nI (c + 1), aL, aR, aN, aB, upd W p (dk_b true), upd O w (nI p), CH, SB, upd SC c (dk_b true))) (h1 : ¬ SC c = 0 → J2 (nI (x1 + 1)) (nI w) (nI c) aL aR aN aB W O CH SB SC) : ∀ (k : Nat) (V : Nat → Int32) (n : Nat), k < n → w + k ≤ 112 → (∀ t, t < w + k → ∃ q, q < 112 ∧ O t = nI q) → dk_und O w k V = W → wX_goBack_22 post J2 (nI x1) (nI c) (nI G) (nI bd) (nI len) fb df b (nI (c + 1)) n (nI (w + k)) aL aR aN aB V O CH SB SC := by
  have hi : vp_in (nI c) 12 := vp_in_nI hc (by decide)
  intro k
  induction k with
  | zero =>
    intro V n hn hw hO hu
    obtain ⟨n, rfl⟩ : ∃ m, n = m + 1 := ⟨n - 1, by omega⟩
    obtain rfl : V = W := hu
    refine ⟨hi, ?_⟩
    rw [nI_clamp (show c < 2 ^ 31 by omega), hSB]
    refine br_t (nI_le (by omega) (by omega)) ⟨hi, br_c (fun z => ⟨hi, fun A hA => ⟨hi, ?_⟩⟩) (fun z => nm_r (nI_pred c) (nm_r (nI_1 x1) (h1 z)))⟩
    subst hA
    rw [hCH]
    exact dk_put_o (x := true) hp C e (h0 z)
  | succ k ih =>
    intro V n hn hw hO hu
    obtain ⟨n, rfl⟩ : ∃ m, n = m + 1 := ⟨n - 1, by omega⟩
    refine ⟨hi, ?_⟩
    rw [nI_clamp (show c < 2 ^ 31 by omega), hSB]
    obtain ⟨q, hq, eq⟩ := hO (w + k) (by omega)
    refine br_f (nI_ge (by omega) (by omega)) (nm_r (nI_pred (w + k)) ⟨vp_in_nI (by omega) (by decide), ?_⟩)
    rw [nI_clamp (show w + k < 2 ^ 31 by omega)]
    refine ⟨by rw [eq]; exact vp_in_nI hq (by decide), nm_e ?_⟩
    exact ih _ n (by omega) (by omega) (fun t ht => hO t (by omega)) hu
theorem dk_gb2 {post : Int32 → SX → Prop} {M : (Nat → Bool) → Prop} {I : (Nat → Int32) → Prop} {nd0 : Nat} (hl6 : len ≤ 6) (K0 : (∀ σ, ¬ M σ) → ∀ (V' : Nat → Int32) (s' c' : Int32), post 0 (nI G, nI bd, nI len, fb, df, s', b, c', aL, aR, aN, aB, V', O, CH, SB, SC)) (K1 : ∀ V' O' s' l' SC', dk_inv M I (5 + len) O' CH SB SC' l' V' s' 0 → nd0 ≤ dk_nd l' → post 1 (nI G, nI bd, nI len, fb, df, nI s', 0, nI l'.length, aL, aR, aN, aB, V', O', CH, SB, SC')) : ∀ (l : List ((Nat → Int32) × Nat × Bool)) (V : Nat → Int32) (s : Nat) (bb : Int32) (x1 n : Nat), x1 + l.length ≤ 11 → l.length < n → dk_core V O s → dk_stk I (5 + len) O CH SB SC l V s bb → (∀ σ, M σ → dk_pend σ l) → nd0 + 1 ≤ dk_nd l + 2 ^ (12 - l.length) → wX_goBack_2 post (nI G) (nI bd) (nI len) fb df b n (nI x1) (nI s) (nI l.length) aL aR aN aB V O CH SB SC := by
  intro l
  induction l with
  | nil =>
    intro V s bb x1 n hx hn C S P hd
    have hx' : x1 ≤ 11 := by simpa using hx
    obtain ⟨n, rfl⟩ : ∃ m, n = m + 1 := ⟨n - 1, by have : 0 < n := hn; omega⟩
    exact br_f (nI_ge (b := 12) (by omega) (by decide)) (br_t (by decide) (K0 (fun σ h => P σ h) V (nI s) _))
  | cons t l ih =>
    obtain ⟨W, j, y⟩ := t
    intro V s bb x1 n hx hn C S P hd
    rw [List.length_cons] at hx hn
    obtain ⟨n, rfl⟩ : ∃ m, n = m + 1 := ⟨n - 1, by omega⟩
    obtain ⟨CW, h1, h2, h3, h4, h5, h6, h7, c1, c2, c3, S'⟩ := S
    have hdv := dk_dv_lt hl6 h2
    have hs := dk_core_le C
    have hd' : nd0 + 1 ≤ dk_nd l + 1 + (if y = true then 2 ^ (11 - l.length) - 1 else 0) + 2 ^ (12 - (l.length + 1)) := hd
    rw [show 12 - (l.length + 1) = 11 - l.length by omega] at hd'
    have hpos := Nat.two_pow_pos (11 - l.length)
    refine br_f (nI_ge (b := 12) (by omega) (by decide)) (br_f (nI_nle (Nat.succ_pos _) (by rw [List.length_cons]; omega)) (nm_r (nI_pred l.length) ⟨(s - dk_cn W 112) + 1, ?_⟩))
    have hsw : s = dk_cn W 112 + (s - dk_cn W 112) := by omega
    have key := dk_gb22 (G := G) (bd := bd) (len := len) (fb := fb) (df := df) (b := b) (aL := aL) (aR := aR) (aN := aN) (aB := aB) (SC := SC) (post := post) (J2 := wX_goBack_2 post (nI G) (nI bd) (nI len) fb df b n) (x1 := x1) (c := l.length) (w := dk_cn W 112) (p := dk_dv j) (W := W) (by omega) c2 CW c1 hdv h3 ?_ ?_ (s - dk_cn W 112) V (s - dk_cn W 112 + 1) (by omega) (by omega) (fun t ht => C.2.2 t (by omega)) (h7 _ (by omega))
    · rw [← hsw] at key
      exact key
    · intro z
      have hy : y = false := by rw [z] at c3; cases y; rfl; exact absurd c3 (by decide)
      subst hy
      have E : dk_ext (fun σ => σ (dk_dv j) = true) W O (dk_cn W 112) 0 (upd W (dk_dv j) (dk_b true)) (upd O (dk_cn W 112) (nI (dk_dv j))) (dk_cn W 112 + 1) 0 := dk_ext_push CW hdv h3 (fun σ h _ => h)
      refine K1 _ _ _ ((W, j, true) :: l) _ ⟨E.1, by rw [List.length_cons]; omega, dk_stk_p CW h2 hdv h3 h4 S' c1 c2 pk_us (fun i hi => ⟨rfl, rfl, pk_un (by omega)⟩), fun σ hσ => ?_⟩ ?_
      · rcases P σ hσ with ⟨-, hA, hj⟩ | q
        · exact Or.inl (E.2.2.2.2.2.2.2 σ hj rfl hA)
        · exact Or.inr (Or.inr q)
      · show nd0 ≤ dk_nd l + 1 + (if true = true then 2 ^ (11 - l.length) - 1 else 0)
        rw [if_pos rfl]
        rw [if_neg (by decide)] at hd'
        omega
    · intro z
      have hy : y = true := by cases y; exact absurd c3 z; rfl
      subst hy
      refine ih W (dk_cn W 112) 0 (x1 + 1) n (by omega) (by omega) CW S' (fun σ hσ => ?_) ?_
      · rcases P σ hσ with ⟨q, -, -⟩ | q
        · exact absurd q (by decide)
        · exact q
      · rw [if_pos rfl] at hd'
        rw [show 12 - l.length = (11 - l.length) + 1 by omega, Nat.pow_succ]
        omega
theorem dk_gb {post : Int32 → SX → Prop} {M : (Nat → Bool) → Prop} {I : (Nat → Int32) → Prop} {nd0 : Nat} {l : List ((Nat → Int32) × Nat × Bool)} {V : Nat → Int32} {s : Nat} (hl6 : len ≤ 6) (K0 : (∀ σ, ¬ M σ) → ∀ (V' : Nat → Int32) (s' c' : Int32), post 0 (nI G, nI bd, nI len, fb, df, s', b, c', aL, aR, aN, aB, V', O, CH, SB, SC)) (K1 : ∀ V' O' s' l' SC', dk_inv M I (5 + len) O' CH SB SC' l' V' s' 0 → nd0 ≤ dk_nd l' → post 1 (nI G, nI bd, nI len, fb, df, nI s', 0, nI l'.length, aL, aR, aN, aB, V', O', CH, SB, SC')) (hl : l.length ≤ 11) (C : dk_core V O s) (S : dk_stk I (5 + len) O CH SB SC l V s b) (P : ∀ σ, M σ → dk_pend σ l) (hd : nd0 + 1 ≤ dk_nd l + 2 ^ (12 - l.length)) : wpX_goBack post (nI G, nI bd, nI len, fb, df, nI s, b, nI l.length, aL, aR, aN, aB, V, O, CH, SB, SC) := by
  unfold wpX_goBack
  exact ⟨l.length + 1, dk_gb2 hl6 K0 K1 l V s b 0 (l.length + 1) (by omega) (by omega) C S P hd⟩
end
end
section
/-! the search, over any set M of assignments that keep the circuit and the demands -/
section
variable {G bd len : Nat} {L R N B : Nat → Nat} {fb df : Int32} {aL aR aN aB : Nat → Int32}
theorem dk_s22 {post : Int32 → SX → Prop} {M : (Nat → Bool) → Prop} {I : (Nat → Int32) → Prop} (H : dk_cir G len L R N aL aR aN) (hM : ∀ σ, M σ → dk_con G len L R N σ) (hMd : ¬ df = 0 → ∀ σ, M σ → ∀ f h, h < f → f ≤ len → ∃ l, 1 ≤ l ∧ l < 5 ∧ σ (16 * f + l) ≠ σ (16 * h + l)) (Im : ∀ V V', dk_mon V V' → I V → I V')
    (K0 : (∀ σ, ¬ M σ) → ∀ (V O CH SB SC : Nat → Int32) (s' b' c' : Int32), post 0 (nI G, nI bd, nI len, fb, df, s', b', c', aL, aR, aN, aB, V, O, CH, SB, SC))
    (K1 : ∀ (V O CH SB SC : Nat → Int32) (s' c' : Int32), dk_rng V → (∀ j, j < 5 + len → ¬ V (dk_dv j) < 0) → (∀ f, f ≤ len → dk_clo G len L R N V f) → I V → (¬ df = 0 → ∀ f h, h < f → f ≤ len → ¬ dk_same V f h) → (∀ σ, M σ → dk_agr σ V ∨ ∀ τ, dk_agr τ V → dk_lx (5 + len) τ σ) → post 1 (nI G, nI bd, nI len, fb, df, s', 0, c', aL, aR, aN, aB, V, O, CH, SB, SC)) :
    ∀ (d : Nat) (l : List ((Nat → Int32) × Nat × Bool)) (V O CH SB SC : Nat → Int32) (s : Nat) (b : Int32) (x n : Nat), 4096 ≤ dk_nd l + d → d < n → x ≤ dk_nd l → dk_inv M I (5 + len) O CH SB SC l V s b → wX_search_22 post n (nI x) (nI G) (nI bd) (nI len) fb df (nI s) b (nI l.length) aL aR aN aB V O CH SB SC := by
  have hl6 := H.2.1
  intro d
  induction d with
  | zero =>
    intro l V O CH SB SC s b x n hd hn hx J
    have h := dk_nd_le l J.2.1
    have := Nat.two_pow_pos (12 - l.length)
    omega
  | succ d ih =>
    intro l V O CH SB SC s b x n hd hn hx J
    obtain ⟨n, rfl⟩ : ∃ m, n = m + 1 := ⟨n - 1, by omega⟩
    obtain ⟨C, hlen, S, P⟩ := J
    have hnd := dk_nd_le l hlen
    have hp2 : 2 ≤ 2 ^ (12 - l.length) := by
      rw [show 12 - l.length = (11 - l.length) + 1 by omega, Nat.pow_succ]
      have := Nat.two_pow_pos (11 - l.length)
      omega
    refine br_f (nI_ge (b := 5000) (by omega) (by decide)) ?_
    refine dk_follow H hM C (fun V1 O1 s1 b1 E hcl => ?_)
    have S1 := dk_stk_e Im E l S
    have P1 : ∀ σ, M σ → (dk_agr σ V1 ∧ b1 = 0) ∨ dk_pend σ l := by
      intro σ hσ
      rcases P σ hσ with ⟨a, hb⟩ | q
      · exact Or.inl (E.2.2.2.2.2.2.2 σ hσ hb a)
      · exact Or.inr q
    have wrong : (∀ σ, M σ → dk_pend σ l) → wX_search_55 post (wX_search_22 post n) (nI x) (nI G) (nI bd) (nI len) fb df (nI s1) b1 (nI l.length) aL aR aN aB V1 O1 CH SB SC := by
      intro Q
      unfold wX_search_55 wX_search_60
      refine br_f (by decide) ?_
      refine dk_gb (nd0 := dk_nd l + 1) hl6 (fun h V' s' c' => br_t rfl (K0 h _ _ _ _ _ _ _ _)) (fun V' O' s' l' SC' J' hn' => br_f (by decide) (nm_r (nI_1 x) ?_)) hlen E.1 S1 Q (by omega)
      exact ih l' V' O' CH SB SC' s' 0 (x + 1) n (by omega) (by omega) (by omega) J'
    have right : b1 = 0 → (¬ df = 0 → ∀ f h, h < f → f ≤ len → ¬ dk_same V1 f h) → wX_search_59 post (wX_search_22 post n) (nI x) (nI G) (nI bd) (nI len) fb df (nI s1) b1 (nI l.length) aL aR aN aB V1 O1 CH SB SC := by
      intro hb hS
      unfold wX_search_59 wX_search_60
      subst hb
      have hc : ∀ j, j < 5 + len → V1 (dk_dv j) < 0 → l.length ≤ j := by
        intro j _ ho
        rcases Nat.lt_or_ge j l.length with a | a
        · exact absurd ho (dk_stk_d l V1 s1 0 S1 j a)
        · exact a
      refine br_t rfl (dk_choose hl6 E.1 hc (fun hall => br_t rfl ?_) (fun j hj e hlo => br_f (by decide) (nm_r (nI_1 x) ?_)))
      · refine K1 _ _ _ _ _ _ _ E.1.1 hall (hcl rfl) (dk_stk_I Im l V1 s1 0 S1 rfl) hS (fun σ hσ => ?_)
        rcases P1 σ hσ with ⟨a, -⟩ | q
        · exact Or.inl a
        · exact Or.inr (fun τ hτ => dk_stk_lx hl6 l V1 s1 0 S1 hτ q)
      · have hd := dk_dv_lt hl6 hj
        have hcj := hc j hj (by rw [e]; decide)
        have E2 : dk_ext (fun σ => σ (dk_dv j) = false) V1 O1 s1 0 (upd V1 (dk_dv j) (dk_b false)) (upd O1 s1 (nI (dk_dv j))) (s1 + 1) 0 := dk_ext_push E.1 hd e (fun σ h _ => h)
        have hnd' : dk_nd ((V1, j, false) :: l) = dk_nd l + 1 := rfl
        refine ih ((V1, j, false) :: l) _ _ _ _ _ (s1 + 1) 0 (x + 1) n (by omega) (by omega) (by omega) ⟨E2.1, by rw [List.length_cons]; omega, dk_stk_p E.1 hj hd e hlo S1 pk_us pk_us pk_us (fun i hi => ⟨pk_un (by omega), pk_un (by omega), pk_un (by omega)⟩), fun σ hσ => ?_⟩
        rcases P1 σ hσ with ⟨a, -⟩ | q
        · cases hv : σ (dk_dv j)
          · exact Or.inl (E2.2.2.2.2.2.2.2 σ hv rfl a)
          · exact Or.inr (Or.inl ⟨rfl, a, hv⟩)
        · exact Or.inr (Or.inr q)
    refine br_c (fun hb => br_c (fun hdf => right hb (fun h => absurd hdf h)) (fun hdf => ?_)) (fun hb => wrong (fun σ hσ => (P1 σ hσ).resolve_left (fun h => hb h.2)))
    refine dk_rp hl6 (fun f h hh hf Sm => br_f (by decide) (wrong (fun σ hσ => (P1 σ hσ).resolve_left (fun a => ?_)))) (fun hno => br_t rfl (right hb (fun _ => hno)))
    obtain ⟨k, k1, k5, hne⟩ := hMd hdf σ hσ f h hh hf
    obtain ⟨u1, u2⟩ := Sm k k1 k5
    refine hne (dk_b_inj ?_)
    rw [← a.1 (16 * f + k) (by omega) u1, ← a.1 (16 * h + k) (by omega) (by rw [← u2]; exact u1), u2]
theorem dk_search {post : Int32 → SX → Prop} {M : (Nat → Bool) → Prop} {V O CH SB SC : Nat → Int32} {l0 f0 d0 s0 b0 c0 : Int32} {p q : Bool} (H : dk_cir G len L R N aL aR aN) (hbd : bd < 2 * (6 + G)) (hB : ∀ l, 1 ≤ l → l < 5 → B l ≤ 2 ∧ aB l = nI (B l)) (hM : ∀ σ, M σ → dk_con G len L R N σ) (hMz : ∀ σ, M σ → ∀ f, f ≤ len → σ (16 * f) = false) (hMb : p = true → ∀ σ, M σ → ∀ l, 1 ≤ l → l < 5 → B l < 2 → σ l = decide (B l = 1)) (hM0 : ∀ σ, M σ → ∀ f, f < len → dk_lv (dk_fr σ f) bd = false) (hM1 : ∀ σ, M σ → dk_lv (dk_fr σ len) bd = true) (hMd : q = true → ∀ σ, M σ → ∀ f h, h < f → f ≤ len → ∃ l, 1 ≤ l ∧ l < 5 ∧ σ (16 * f + l) ≠ σ (16 * h + l))
    (K0 : (∀ σ, ¬ M σ) → ∀ (V O CH SB SC : Nat → Int32) (s' b' c' : Int32), post 0 (nI G, nI bd, nI len, dk_b p, dk_b q, s', b', c', aL, aR, aN, aB, V, O, CH, SB, SC))
    (K1 : ∀ (V O CH SB SC : Nat → Int32) (s' c' : Int32), dk_rng V → (∀ j, j < 5 + len → ¬ V (dk_dv j) < 0) → (∀ f, f ≤ len → dk_clo G len L R N V f) → dk_ini len bd B (dk_b p) V → (q = true → ∀ f h, h < f → f ≤ len → ¬ dk_same V f h) → (∀ σ, M σ → dk_agr σ V ∨ ∀ τ, dk_agr τ V → dk_lx (5 + len) τ σ) → post 1 (nI G, nI bd, nI len, dk_b p, dk_b q, s', 0, c', aL, aR, aN, aB, V, O, CH, SB, SC)) : wpX_search post (nI G, nI bd, l0, f0, d0, s0, b0, c0, aL, aR, aN, aB, V, O, CH, SB, SC) (nI len) (dk_b p) (dk_b q) := by
  have hl6 := H.2.1
  have hG := H.1
  have t1 : ∀ z : Bool, narrow .boolean (.int (dk_b z)) = .int (dk_b z) := by intro z; cases z <;> rfl
  have t2 : ∀ z : Bool, fits .boolean (.int (dk_b z)) = true := by intro z; cases z <;> rfl
  have nz : ∀ z : Bool, ¬ dk_b z = 0 → z = true := by intro z; cases z <;> decide
  unfold wpX_search
  refine ⟨t1 p, t2 p, t1 q, t2 q, ?_⟩
  refine dk_open (M := M) hl6 hMz (fun V1 O1 s1 b1 C1 ha hb hz => ?_)
  refine dk_demand (M := M) hl6 (by omega) hB (fun h => hMb (nz p h)) hM0 hM1 C1 hz (fun V2 O2 s2 b2 E hI => ⟨4097, ?_⟩)
  refine dk_s22 (I := dk_ini len bd B (dk_b p)) H hM (fun h => hMd (nz q h)) (fun _ _ => dk_ini_m) K0 (fun V O CH SB SC s' c' h1 h2 h3 h4 h5 h6 => K1 V O CH SB SC s' c' h1 h2 h3 h4 (fun hq => h5 (by rw [hq]; decide)) h6) 4096 [] V2 O2 CH SB SC s2 b2 0 4097 (by show 4096 ≤ 0 + 4096; omega) (by omega) (by omega) ⟨E.1, by show 0 ≤ 11; omega, hI, fun σ hσ => Or.inl ?_⟩
  obtain ⟨a1, a2⟩ := ha σ hσ
  exact E.2.2.2.2.2.2.2 σ hσ a2 a1
end
end
section
/-! the component's search by the numbers of runs; depth, holds, proof, witness, input -/
def dk_xar (G : Nat) (L R N B : Nat → Nat) (aL aR aN aB : Nat → Int32) : Prop :=
  (∀ g, 6 ≤ g → g < 6 + G → aL g = nI (L g) ∧ aR g = nI (R g)) ∧ (∀ l, 1 ≤ l → l < 5 → aN l = nI (N l) ∧ aB l = nI (B l))
def dk_ex (G : Nat) (L R N : Nat → Nat) (bd : Nat) (B : Nat → Nat) (p q : Bool) (len : Nat) : Prop := ∃ n, n < 2 ^ (5 + len) ∧ dk_good G L R N bd B len p q n
theorem dk_lx_c {D : Nat} {τ τ' σ : Nat → Bool} (h : ∀ j, j < D → τ' (dk_dv j) = τ (dk_dv j)) (x : dk_lx D τ σ) : dk_lx D τ' σ := by
  obtain ⟨j, hj, a, c, d⟩ := x
  exact ⟨j, hj, fun i hi => (h i (by omega)).trans (a i hi), (h j hj).trans c, d⟩
theorem dk_bdec (x : Bool) : decide (dk_b x = 1) = x := by cases x <;> decide
theorem dk_lv_of {e : Nat → Bool} {q : Nat} {x : Bool} (h : e (q / 2) = (x ^^ dk_od q)) : dk_lv e q = x := by
  unfold dk_lv
  rw [h]
  cases x <;> cases dk_od q <;> rfl
section
variable {G bd : Nat} {L R N B : Nat → Nat} {aL aR aN aB : Nat → Int32}
theorem dk_xs {post : Int32 → SX → Prop} {len : Nat} {V O CH SB SC : Nat → Int32} {l0 f0 d0 s0 b0 c0 : Int32} {p q : Bool} (wf : dk_wf G L R N bd B) (A : dk_xar G L R N B aL aR aN aB) (hl : len ≤ 6)
    (K0 : (∀ n, n < 2 ^ (5 + len) → ¬ dk_good G L R N bd B len p q n) → ∀ (V O CH SB SC : Nat → Int32) (l' f' d' s' b' c' : Int32), post 0 (nI G, nI bd, l', f', d', s', b', c', aL, aR, aN, aB, V, O, CH, SB, SC))
    (K1 : ∀ n, n < 2 ^ (5 + len) → dk_good G L R N bd B len p q n → (∀ m, m < n → ¬ dk_good G L R N bd B len p q m) → ∀ (V O CH SB SC : Nat → Int32) (l' f' d' s' b' c' : Int32), (∀ f, f ≤ len → ∀ s, s < 6 + G → V (16 * f + s) = dk_b (dk_e G L R N len n f s)) → post 1 (nI G, nI bd, l', f', d', s', b', c', aL, aR, aN, aB, V, O, CH, SB, SC)) : wpX_search post (nI G, nI bd, l0, f0, d0, s0, b0, c0, aL, aR, aN, aB, V, O, CH, SB, SC) (nI len) (dk_b p) (dk_b q) := by
  have wf' := wf
  obtain ⟨hG, hg, hN, hbd, hB⟩ := wf
  refine dk_search (M := fun σ => ∃ n, n < 2 ^ (5 + len) ∧ dk_good G L R N bd B len p q n ∧ σ = dk_sg G L R N len n) (B := B) (L := L) (R := R) (N := N) ⟨hG, hl, fun g a c => ⟨(hg g a c).1, (hg g a c).2, (A.1 g a c).1, (A.1 g a c).2⟩, fun l a c => ⟨hN l a c, (A.2 l a c).1⟩⟩ hbd (fun l a c => ⟨hB l a c, (A.2 l a c).2⟩) ?_ ?_ ?_ ?_ ?_ ?_ ?_ ?_
  · rintro σ ⟨n, -, -, rfl⟩
    exact dk_sg_con wf' len n
  · rintro σ ⟨n, -, -, rfl⟩ f hf
    exact (dk_sg_p (f := f) (s := 0) (by omega)).trans dk_e_0
  · rintro hp σ ⟨n, -, g, rfl⟩ l h1 h5 h2
    have := dk_sg_p (G := G) (L := L) (R := R) (N := N) (len := len) (n := n) (f := 0) (s := l) (by omega)
    rw [show 16 * 0 + l = l by omega, dk_e_l h1 h5] at this
    rw [this]
    exact g.1 hp l h1 h5 h2
  · rintro σ ⟨n, -, g, rfl⟩ f hf
    rw [dk_sg_lv (by omega)]
    exact g.2.1 f hf
  · rintro σ ⟨n, -, g, rfl⟩
    rw [dk_sg_lv (by omega)]
    exact g.2.2.1
  · rintro hq σ ⟨n, hn, g, rfl⟩ f h hh hf
    apply Classical.byContradiction
    intro hno
    refine g.2.2.2 hq f h hh hf (dk_16 (dk_st_lt hn f) (dk_st_lt hn h) (fun l h1 h5 => ?_))
    apply Classical.byContradiction
    intro hne
    refine hno ⟨l, h1, h5, ?_⟩
    rw [dk_sg_p (by omega), dk_sg_p (by omega), dk_e_l h1 h5, dk_e_l h1 h5]
    exact hne
  · intro h V O CH SB SC s' b' c'
    exact K0 (fun n hn g => h _ ⟨n, hn, g, rfl⟩) _ _ _ _ _ _ _ _ _ _ _
  · intro V O CH SB SC s' c' hr hdv hcl hI hS hall
    obtain ⟨n, hn, hb⟩ := dk_num (5 + len) (fun i => decide (V (dk_dv (4 + len - i)) = 1))
    have hd : ∀ j, j < 5 + len → V (dk_dv j) = dk_b (n.testBit (4 + len - j)) := by
      intro j hj
      rw [hb (4 + len - j) (by omega), show 4 + len - (4 + len - j) = j by omega]
      rcases hr _ (dk_dv_lt hl hj) with e | ⟨x, e⟩
      · exact absurd (by rw [e]; decide) (hdv j hj)
      · rw [e, dk_bdec]
    have full := dk_full wf' hI.1 hd hcl
    have lits : ∀ f, f ≤ len → ∀ x : Bool, V (16 * f + bd / 2) = dk_b (x ^^ dk_od bd) → dk_lv (dk_e G L R N len n f) bd = x := by
      intro f hf x h
      rw [full f hf (bd / 2) (by omega)] at h
      exact dk_lv_of (dk_b_inj h)
    have good : dk_good G L R N bd B len p q n := by
      refine ⟨fun hp l h1 h5 h2 => ?_, fun f hf => lits f (by omega) false (hI.2.1 f hf), lits len (by omega) true hI.2.2.1, fun hq f h hh hf e => ?_⟩
      · have a := full 0 (by omega) l (by omega)
        rw [show 16 * 0 + l = l by omega, dk_e_l h1 h5, hI.2.2.2 (by rw [hp]; decide) l h1 h5 h2] at a
        exact (dk_b_inj a).symm
      · refine hS hq f h hh hf (fun l h1 h5 => ?_)
        rw [full f hf l (by omega), full h (by omega) l (by omega), dk_e_l h1 h5, dk_e_l h1 h5, e]
        exact ⟨dk_b_nlt _, rfl⟩
    refine K1 n hn good (fun m hm g => ?_) V O CH SB SC _ _ _ _ _ _ full
    have hm' : m < 2 ^ (5 + len) := by omega
    rcases hall _ ⟨m, hm', g, rfl⟩ with a | a
    · have : n = m := dk_numeq hn hm' (fun i hi => ?_)
      · omega
      · have h1 := hd (4 + len - i) (by omega)
        have h2 := a _ (dk_dv_lt hl (show 4 + len - i < 5 + len by omega)) (hdv _ (by omega))
        rw [dk_sg_dv (by omega)] at h2
        rw [show 4 + len - (4 + len - i) = i by omega] at h1 h2
        exact dk_b_inj (h1.symm.trans h2)
    · have h := a (fun p => decide (V p = 1)) (fun p hp z => by
        rcases hr p hp with e | ⟨x, e⟩
        · exact absurd (by rw [e]; decide) z
        · show V p = dk_b (decide (V p = 1))
          rw [e, dk_bdec])
      have h' := dk_lx_lt hn hm' (dk_lx_c (τ' := dk_sg G L R N len n) (fun j hj => by rw [dk_sg_dv hj, hd j hj, dk_bdec]) h)
      omega
theorem dk_xd14 {post : Int32 → SX → Prop} {k : Nat} (wf : dk_wf G L R N bd B) (A : dk_xar G L R N B aL aR aN aB) (hk : k ≤ 6)
    (K0 : (∀ m, m ≤ k → ¬ dk_ex G L R N bd B true false m) → ∀ (V O CH SB SC : Nat → Int32) (l' f' d' s' b' c' : Int32), post (-1) (nI G, nI bd, l', f', d', s', b', c', aL, aR, aN, aB, V, O, CH, SB, SC))
    (K1 : ∀ m, m ≤ k → (∀ m', m' < m → ¬ dk_ex G L R N bd B true false m') → ∀ n, n < 2 ^ (5 + m) → dk_good G L R N bd B m true false n → (∀ n', n' < n → ¬ dk_good G L R N bd B m true false n') → ∀ (V O CH SB SC : Nat → Int32) (l' f' d' s' b' c' : Int32), (∀ f, f ≤ m → ∀ s, s < 6 + G → V (16 * f + s) = dk_b (dk_e G L R N m n f s)) → post (nI m) (nI G, nI bd, l', f', d', s', b', c', aL, aR, aN, aB, V, O, CH, SB, SC)) :
    ∀ (d m n : Nat) (V O CH SB SC : Nat → Int32) (l' f' d' s' b' c' : Int32), m + d = k + 1 → d < n → (∀ m', m' < m → ¬ dk_ex G L R N bd B true false m') → wX_depth_14 post (nI k) n (nI m) (nI G) (nI bd) l' f' d' s' b' c' aL aR aN aB V O CH SB SC := by
  intro d
  induction d with
  | zero =>
    intro m n V O CH SB SC l' f' d' s' b' c' hm hn hno
    obtain ⟨n, rfl⟩ : ∃ m, n = m + 1 := ⟨n - 1, by omega⟩
    exact br_t (nI_lt (by omega) (by omega)) (K0 (fun m' h => hno m' (by omega)) _ _ _ _ _ _ _ _ _ _ _)
  | succ d ih =>
    intro m n V O CH SB SC l' f' d' s' b' c' hm hn hno
    obtain ⟨n, rfl⟩ : ∃ m, n = m + 1 := ⟨n - 1, by omega⟩
    refine br_f (nI_nlt (by omega) (by omega)) ?_
    refine dk_xs (p := true) (q := false) wf A (by omega) (fun h V O CH SB SC l' f' d' s' b' c' => br_t rfl (nm_r (nI_1 m) ?_)) (fun n' hn' g hlt V O CH SB SC l' f' d' s' b' c' hf => br_f (by decide) (K1 m (by omega) hno n' hn' g hlt V O CH SB SC _ _ _ _ _ _ hf))
    refine ih (m + 1) n _ _ _ _ _ _ _ _ _ _ _ (by omega) (by omega) (fun m' h' => ?_)
    by_cases e : m' = m
    · subst e
      rintro ⟨n', hn', g⟩
      exact h n' hn' g
    · exact hno m' (by omega)
theorem dk_xdepth {post : Int32 → SX → Prop} {k : Nat} {V O CH SB SC : Nat → Int32} {l0 f0 d0 s0 b0 c0 : Int32} (wf : dk_wf G L R N bd B) (A : dk_xar G L R N B aL aR aN aB) (hk : k ≤ 6)
    (K0 : (∀ m, m ≤ k → ¬ dk_ex G L R N bd B true false m) → ∀ (V O CH SB SC : Nat → Int32) (l' f' d' s' b' c' : Int32), post (-1) (nI G, nI bd, l', f', d', s', b', c', aL, aR, aN, aB, V, O, CH, SB, SC))
    (K1 : ∀ m, m ≤ k → (∀ m', m' < m → ¬ dk_ex G L R N bd B true false m') → ∀ n, n < 2 ^ (5 + m) → dk_good G L R N bd B m true false n → (∀ n', n' < n → ¬ dk_good G L R N bd B m true false n') → ∀ (V O CH SB SC : Nat → Int32) (l' f' d' s' b' c' : Int32), (∀ f, f ≤ m → ∀ s, s < 6 + G → V (16 * f + s) = dk_b (dk_e G L R N m n f s)) → post (nI m) (nI G, nI bd, l', f', d', s', b', c', aL, aR, aN, aB, V, O, CH, SB, SC)) : wpX_depth post (nI G, nI bd, l0, f0, d0, s0, b0, c0, aL, aR, aN, aB, V, O, CH, SB, SC) (nI k) := by
  unfold wpX_depth
  refine br_f (nI_pos (by omega)) (br_t (nI_le (b := 6) hk (by decide)) ⟨k + 2, ?_⟩)
  exact dk_xd14 wf A hk K0 K1 (k + 1) 0 (k + 2) V O CH SB SC _ _ _ _ _ _ (by omega) (by omega) (fun m' h => absurd h (by omega))
theorem dk_xholds {post : Int32 → SX → Prop} {k : Nat} {V O CH SB SC : Nat → Int32} {l0 f0 d0 s0 b0 c0 : Int32} (wf : dk_wf G L R N bd B) (A : dk_xar G L R N B aL aR aN aB) (hk : k ≤ 6)
    (K0 : ¬ dk_ex G L R N bd B false true k → ∀ (V O CH SB SC : Nat → Int32) (l' f' d' s' b' c' : Int32), post 1 (nI G, nI bd, l', f', d', s', b', c', aL, aR, aN, aB, V, O, CH, SB, SC))
    (K1 : dk_ex G L R N bd B false true k → ∀ (V O CH SB SC : Nat → Int32) (l' f' d' s' b' c' : Int32), post 0 (nI G, nI bd, l', f', d', s', b', c', aL, aR, aN, aB, V, O, CH, SB, SC)) : wpX_holds post (nI G, nI bd, l0, f0, d0, s0, b0, c0, aL, aR, aN, aB, V, O, CH, SB, SC) (nI k) := by
  unfold wpX_holds
  refine br_f (nI_pos (by omega)) (br_t (nI_le (b := 6) hk (by decide)) ?_)
  refine dk_xs (p := false) (q := true) wf A hk (fun h V O CH SB SC l' f' d' s' b' c' => br_t rfl (K0 ?_ _ _ _ _ _ _ _ _ _ _ _)) (fun n' hn' g hlt V O CH SB SC l' f' d' s' b' c' hf => br_f (by decide) (K1 ⟨n', hn', g⟩ _ _ _ _ _ _ _ _ _ _ _))
  rintro ⟨n, hn, g⟩
  exact h n hn g
end
end
section
/-! the component's proof, witness, input, value -/
theorem dk_or4 (a b c d : Bool) : ((((0 : Int32) ||| (dk_b a <<< ((nI 1 - 1) &&& 31))) ||| (dk_b b <<< ((nI 2 - 1) &&& 31))) ||| (dk_b c <<< ((nI 3 - 1) &&& 31))) ||| (dk_b d <<< ((nI 4 - 1) &&& 31)) = nI (dk_4 a b c d) := by
  cases a <;> cases b <;> cases c <;> cases d <;> decide
theorem dk_fr0 (σ : Nat → Bool) : dk_fr σ 0 = σ := funext fun s => by
  show σ (16 * 0 + s) = σ s
  rw [Nat.mul_zero, Nat.zero_add]
section
variable {G bd : Nat} {L R N B : Nat → Nat} {aL aR aN aB : Nat → Int32}
theorem dk_xp2 {post : Int32 → SX → Prop} (wf : dk_wf G L R N bd B) (A : dk_xar G L R N B aL aR aN aB)
    (K0 : (∀ k, k ≤ 6 → dk_ex G L R N bd B false true k ∨ ∃ j, j < k ∧ dk_ex G L R N bd B true false j) → ∀ (V O CH SB SC : Nat → Int32) (l' f' d' s' b' c' : Int32), post (-1) (nI G, nI bd, l', f', d', s', b', c', aL, aR, aN, aB, V, O, CH, SB, SC))
    (K1 : ∀ k, k ≤ 6 → ¬ dk_ex G L R N bd B false true k → (∀ j, j < k → dk_ex G L R N bd B false true j ∧ ¬ dk_ex G L R N bd B true false j) → ∀ (V O CH SB SC : Nat → Int32) (l' f' d' s' b' c' : Int32), post (nI k) (nI G, nI bd, l', f', d', s', b', c', aL, aR, aN, aB, V, O, CH, SB, SC)) :
    ∀ (d m n : Nat) (V O CH SB SC : Nat → Int32) (l' f' d' s' b' c' : Int32), m + d = 7 → d < n → (∀ j, j < m → dk_ex G L R N bd B false true j ∧ ¬ dk_ex G L R N bd B true false j) → wX_proof_2 post n (nI m) (nI G) (nI bd) l' f' d' s' b' c' aL aR aN aB V O CH SB SC := by
  intro d
  induction d with
  | zero =>
    intro m n V O CH SB SC l' f' d' s' b' c' hm hn hh
    obtain ⟨n, rfl⟩ : ∃ m, n = m + 1 := ⟨n - 1, by omega⟩
    exact br_t (nI_lt (a := 6) (by omega) (by omega)) (K0 (fun k hk => Or.inl (hh k (by omega)).1) _ _ _ _ _ _ _ _ _ _ _)
  | succ d ih =>
    intro m n V O CH SB SC l' f' d' s' b' c' hm hn hh
    obtain ⟨n, rfl⟩ : ∃ m, n = m + 1 := ⟨n - 1, by omega⟩
    refine br_f (nI_nlt (a := 6) (by omega) (by decide)) ?_
    refine dk_xs (p := false) (q := true) wf A (by omega) (fun h V O CH SB SC l' f' d' s' b' c' => br_t rfl ?_) (fun n' hn' g hlt V O CH SB SC l' f' d' s' b' c' hf => br_f (by decide) ?_)
    · unfold wX_proof_23
      refine br_f (by decide) (K1 m (by omega) ?_ hh _ _ _ _ _ _ _ _ _ _ _)
      rintro ⟨n, hn, g⟩
      exact h n hn g
    · have e1 : dk_ex G L R N bd B false true m := ⟨n', hn', g⟩
      unfold wX_proof_23
      refine br_t rfl ?_
      refine dk_xs (p := true) (q := false) wf A (by omega) (fun h V O CH SB SC l' f' d' s' b' c' => br_t rfl (nm_r (nI_1 m) ?_)) (fun n2 hn2 g2 hlt2 V O CH SB SC l' f' d' s' b' c' hf => br_f (by decide) (K0 (fun k hk => ?_) _ _ _ _ _ _ _ _ _ _ _))
      · refine ih (m + 1) n _ _ _ _ _ _ _ _ _ _ _ (by omega) (by omega) (fun j hj => ?_)
        by_cases e : j = m
        · subst e
          refine ⟨e1, ?_⟩
          rintro ⟨n, hn, g⟩
          exact h n hn g
        · exact hh j (by omega)
      · by_cases e : k ≤ m
        · by_cases e' : k = m
          · rw [e']; exact Or.inl e1
          · exact Or.inl (hh k (by omega)).1
        · exact Or.inr ⟨m, by omega, n2, hn2, g2⟩
theorem dk_xproof {post : Int32 → SX → Prop} {V O CH SB SC : Nat → Int32} {l0 f0 d0 s0 b0 c0 : Int32} (wf : dk_wf G L R N bd B) (A : dk_xar G L R N B aL aR aN aB)
    (K0 : (∀ k, k ≤ 6 → dk_ex G L R N bd B false true k ∨ ∃ j, j < k ∧ dk_ex G L R N bd B true false j) → ∀ (V O CH SB SC : Nat → Int32) (l' f' d' s' b' c' : Int32), post (-1) (nI G, nI bd, l', f', d', s', b', c', aL, aR, aN, aB, V, O, CH, SB, SC))
    (K1 : ∀ k, k ≤ 6 → ¬ dk_ex G L R N bd B false true k → (∀ j, j < k → dk_ex G L R N bd B false true j ∧ ¬ dk_ex G L R N bd B true false j) → ∀ (V O CH SB SC : Nat → Int32) (l' f' d' s' b' c' : Int32), post (nI k) (nI G, nI bd, l', f', d', s', b', c', aL, aR, aN, aB, V, O, CH, SB, SC)) : wpX_proof post (nI G, nI bd, l0, f0, d0, s0, b0, c0, aL, aR, aN, aB, V, O, CH, SB, SC) := by
  unfold wpX_proof
  exact ⟨8, dk_xp2 wf A K0 K1 7 0 8 V O CH SB SC _ _ _ _ _ _ (by omega) (by omega) (fun j h => absurd h (by omega))⟩
theorem dk_xw27 {post : Int32 → SX → Prop} {V O CH SB SC : Nat → Int32} {l0 f0 d0 s0 b0 c0 : Int32} {i l n : Nat} {r : Int32} {x : Bool} (hi : i ≤ 6) (hl : l < 5) (e : V (16 * i + l) = dk_b x) (K : wX_witness_27 post (nI i) (nI G) (nI bd) l0 f0 d0 s0 b0 c0 aL aR aN aB V O CH SB SC n (r ||| (dk_b x <<< ((nI l - 1) &&& 31))) (nI (l + 1))) : wX_witness_27 post (nI i) (nI G) (nI bd) l0 f0 d0 s0 b0 c0 aL aR aN aB V O CH SB SC (n + 1) r (nI l) := by
  refine br_f (nI_ge (b := 5) hl (by decide)) ?_
  rw [dk_ix2, nI_clamp (show 16 * i + l < 2 ^ 31 by omega), e]
  exact ⟨vp_in_nI (by omega) (by decide), nm_e (nm_r (nI_1 l) K)⟩
theorem dk_xwit {post : Int32 → SX → Prop} {V O CH SB SC : Nat → Int32} {l0 f0 d0 s0 b0 c0 : Int32} {p0 : Int32} (wf : dk_wf G L R N bd B) (A : dk_xar G L R N B aL aR aN aB)
    (K0 : (∀ m, m ≤ 6 → ¬ dk_ex G L R N bd B true false m) → ∀ (V O CH SB SC : Nat → Int32) (l' f' d' s' b' c' : Int32), post (-1) (nI G, nI bd, l', f', d', s', b', c', aL, aR, aN, aB, V, O, CH, SB, SC))
    (K1 : ∀ m, m ≤ 6 → (∀ m', m' < m → ¬ dk_ex G L R N bd B true false m') → ∀ n, n < 2 ^ (5 + m) → dk_good G L R N bd B m true false n → (∀ n', n' < n → ¬ dk_good G L R N bd B m true false n') → ∀ (V O CH SB SC : Nat → Int32) (l' f' d' s' b' c' : Int32), ((p0 < 0 ∨ ¬ p0 ≤ nI m) → post (-1) (nI G, nI bd, l', f', d', s', b', c', aL, aR, aN, aB, V, O, CH, SB, SC)) ∧ (∀ i, i ≤ m → p0 = nI i → post (nI (dk_st G L R N m n i)) (nI G, nI bd, l', f', d', s', b', c', aL, aR, aN, aB, V, O, CH, SB, SC))) : wpX_witness post (nI G, nI bd, l0, f0, d0, s0, b0, c0, aL, aR, aN, aB, V, O, CH, SB, SC) p0 := by
  unfold wpX_witness
  refine dk_xdepth (k := 6) wf A (by omega) (fun h V O CH SB SC l' f' d' s' b' c' => br_t (by decide) (K0 h _ _ _ _ _ _ _ _ _ _ _)) (fun m hm hno n hn g hlt V O CH SB SC l' f' d' s' b' c' hf => ?_)
  obtain ⟨k1, k2⟩ := K1 m hm hno n hn g hlt V O CH SB SC l' f' d' s' b' c'
  refine br_f (nI_pos (by omega)) (br_c (fun h => k1 (Or.inl h)) (fun h => br_c (fun h2 => ⟨5, ?_⟩) (fun h2 => k1 (Or.inr h2))))
  obtain ⟨i, hi, rfl⟩ := nI_of h
  rw [nI_leI hi (by omega)] at h2
  have hv : ∀ l, 1 ≤ l → l < 5 → V (16 * i + l) = dk_b ((dk_st G L R N m n i).testBit (l - 1)) := by
    intro l h1 h5
    rw [hf i h2 l (by omega), dk_e_l h1 h5]
  refine dk_xw27 (l := 1) (by omega) (by omega) (hv 1 (by omega) (by omega)) ?_
  refine dk_xw27 (l := 2) (by omega) (by omega) (hv 2 (by omega) (by omega)) ?_
  refine dk_xw27 (l := 3) (by omega) (by omega) (hv 3 (by omega) (by omega)) ?_
  refine dk_xw27 (l := 4) (by omega) (by omega) (hv 4 (by omega) (by omega)) ?_
  refine br_t (by decide) ?_
  rw [dk_or4, dk_4_of _ (dk_st_lt hn i)]
  exact k2 i h2 rfl
theorem dk_xinp {post : Int32 → SX → Prop} {V O CH SB SC : Nat → Int32} {l0 f0 d0 s0 b0 c0 : Int32} {p0 : Int32} (wf : dk_wf G L R N bd B) (A : dk_xar G L R N B aL aR aN aB)
    (K0 : (∀ m, m ≤ 6 → ¬ dk_ex G L R N bd B true false m) → ∀ (V O CH SB SC : Nat → Int32) (l' f' d' s' b' c' : Int32), post (-1) (nI G, nI bd, l', f', d', s', b', c', aL, aR, aN, aB, V, O, CH, SB, SC))
    (K1 : ∀ m, m ≤ 6 → (∀ m', m' < m → ¬ dk_ex G L R N bd B true false m') → ∀ n, n < 2 ^ (5 + m) → dk_good G L R N bd B m true false n → (∀ n', n' < n → ¬ dk_good G L R N bd B m true false n') → ∀ (V O CH SB SC : Nat → Int32) (l' f' d' s' b' c' : Int32), ((p0 < 0 ∨ ¬ p0 ≤ nI m) → post (-1) (nI G, nI bd, l', f', d', s', b', c', aL, aR, aN, aB, V, O, CH, SB, SC)) ∧ (∀ i, i ≤ m → p0 = nI i → post (dk_b (n.testBit (m - i))) (nI G, nI bd, l', f', d', s', b', c', aL, aR, aN, aB, V, O, CH, SB, SC))) : wpX_input post (nI G, nI bd, l0, f0, d0, s0, b0, c0, aL, aR, aN, aB, V, O, CH, SB, SC) p0 := by
  unfold wpX_input
  refine dk_xdepth (k := 6) wf A (by omega) (fun h V O CH SB SC l' f' d' s' b' c' => br_t (by decide) (K0 h _ _ _ _ _ _ _ _ _ _ _)) (fun m hm hno n hn g hlt V O CH SB SC l' f' d' s' b' c' hf => ?_)
  obtain ⟨k1, k2⟩ := K1 m hm hno n hn g hlt V O CH SB SC l' f' d' s' b' c'
  refine br_f (nI_pos (by omega)) (br_c (fun h => k1 (Or.inl h)) (fun h => br_c (fun h2 => ?_) (fun h2 => k1 (Or.inr h2))))
  obtain ⟨i, hi, rfl⟩ := nI_of h
  rw [nI_leI hi (by omega)] at h2
  rw [show (16 : Int32) * nI i + 5 = nI (16 * i + 5) from dk_ix2 i 5, nI_clamp (by omega), hf i h2 5 (by omega), dk_e_5]
  exact ⟨vp_in_nI (by omega) (by decide), k2 i h2 rfl⟩
theorem dk_xlit_y {post : Int32 → Prop} {q : Nat} {V O CH SB SC : Nat → Int32} {l0 f0 d0 s0 b0 c0 : Int32} (hG : G ≤ 10) (hq : q < 2 * (6 + G)) (K : post 1) : wpX_isLiteral post (nI G, nI bd, l0, f0, d0, s0, b0, c0, aL, aR, aN, aB, V, O, CH, SB, SC) (nI q) := by
  unfold wpX_isLiteral
  have e : (2 : Int32) * (6 + nI G) = nI (2 * (6 + G)) := by rw [show (6 : Int32) + nI G = nI (6 + G) from nI_add 6 G]; exact pk_mul 2 (6 + G)
  exact br_f (nI_pos (by omega)) (br_f (by rw [e]; exact nI_ge hq (by omega)) K)
theorem dk_xlit_n {post : Int32 → Prop} {p : Int32} {V O CH SB SC : Nat → Int32} {l0 f0 d0 s0 b0 c0 : Int32} (h : p < 0 ∨ nI (2 * (6 + G)) ≤ p) (K : post 0) : wpX_isLiteral post (nI G, nI bd, l0, f0, d0, s0, b0, c0, aL, aR, aN, aB, V, O, CH, SB, SC) p := by
  unfold wpX_isLiteral
  have e : (2 : Int32) * (6 + nI G) = nI (2 * (6 + G)) := by rw [show (6 : Int32) + nI G = nI (6 + G) from nI_add 6 G]; exact pk_mul 2 (6 + G)
  refine br_c (fun _ => K) (fun h0 => br_t ?_ K)
  rw [e]
  exact h.resolve_left h0
theorem dk_xv28 {post : Int32 → SX → Prop} {q st : Nat} {x : Int32} {i : Bool} {fb df ch : Int32} {CH SB SC : Nat → Int32} (wf : dk_wf G L R N bd B) (A : dk_xar G L R N B aL aR aN aB) (hq : q < 2 * (6 + G)) (hst : st < 16) (hx : x &&& 1 = dk_b i) (K : ∀ (V O : Nat → Int32) (s' b' : Int32), post (dk_b (dk_lv (dk_ev G L R st i) q)) (nI G, nI bd, nI 0, fb, df, s', b', ch, aL, aR, aN, aB, V, O, CH, SB, SC)) : ∀ (d l : Nat) (V O : Nat → Int32) (s : Nat) (n : Nat), l + d = 5 → 1 ≤ l → d < n → dk_core V O s → dk_agr (dk_ev G L R st i) V → V 0 = dk_b false → (∀ l', 1 ≤ l' → l' < l → V l' = dk_b (st.testBit (l' - 1))) → wX_value_28 post (nI q) (nI st) x n (nI l) (nI G) (nI bd) (nI 0) fb df (nI s) 0 ch aL aR aN aB V O CH SB SC := by
  obtain ⟨hG, hg, hN, hbd, hB⟩ := wf
  have elo : ∀ l, 1 ≤ l → l < 5 → dk_ev G L R st i l = st.testBit (l - 1) := by
    intro l h1 h5
    rw [dk_ev_lo (by omega)]
    unfold dk_bs
    rw [if_neg (by omega), if_pos h5]
  have hcon : dk_con G 0 L R N (dk_ev G L R st i) := by
    refine ⟨fun f g hf h6 h => ?_, fun f l hf => absurd hf (by omega)⟩
    obtain rfl : f = 0 := by omega
    rw [dk_fr0, show 16 * 0 + g = g by omega]
    exact dk_ev_g h6 h (hg g h6 h).1 (hg g h6 h).2
  intro d
  induction d with
  | zero =>
    intro l V O s n hl h1 hn C ha h0 hlt
    obtain ⟨n, rfl⟩ : ∃ m, n = m + 1 := ⟨n - 1, by omega⟩
    obtain rfl : l = 5 := by omega
    refine br_t (by decide) ?_
    rw [hx]
    have e5 : dk_ev G L R st i 5 = i := by rw [dk_ev_lo (by omega)]; rfl
    refine dk_put (M := fun σ => σ = dk_ev G L R st i) (p := 5) (by omega) C (fun σ hσ _ => by rw [hσ]; exact e5) (fun V1 O1 s1 b1 E1 hv => ?_)
    refine dk_follow (M := fun σ => σ = dk_ev G L R st i) (len := 0) (L := L) (R := R) (N := N) ⟨hG, by omega, fun g a c => ⟨(hg g a c).1, (hg g a c).2, (A.1 g a c).1, (A.1 g a c).2⟩, fun l a c => ⟨hN l a c, (A.2 l a c).1⟩⟩ (fun σ hσ => by rw [hσ]; exact hcon) E1.1 (fun V2 O2 s2 b2 E2 hcl => ?_)
    have E := dk_ext_tr E1 E2
    obtain ⟨ag, hb2⟩ := E.2.2.2.2.2.2.2 _ rfl rfl ha
    have hm := dk_ext_m E
    have full := dk_full_g (G := G) (L := L) (R := R) (V := V2) (st := st) (f := 0) (i := i) hg (fun s hs => ?_) (hcl hb2 0 (by omega)).1
    · refine dk_vo (f := 0) (by omega) (by omega) E.1.1 (fun e => ?_) (fun y e => ?_)
      · rw [full (q / 2) (by omega)] at e
        exact absurd e.symm (dk_b_ne _)
      · rw [full (q / 2) (by omega)] at e
        have : y = dk_lv (dk_ev G L R st i) q := (dk_lv_of (dk_b_inj e)).symm
        rw [this]
        exact K _ _ _ _
    · rw [show 16 * 0 + s = s by omega]
      by_cases z : s = 0
      · subst z
        rw [dk_ev_lo (by omega)]
        exact dk_mon_b hm h0
      · by_cases z5 : s < 5
        · rw [elo s (by omega) z5]
          exact dk_mon_b hm (hlt s (by omega) z5)
        · obtain rfl : s = 5 := by omega
          rw [e5]
          exact dk_mon_b (dk_ext_m E2) (hv (dk_ext_b E2 hb2))
  | succ d ih =>
    intro l V O s n hl h1 hn C ha h0 hlt
    obtain ⟨n, rfl⟩ : ∃ m, n = m + 1 := ⟨n - 1, by omega⟩
    refine br_f (nI_ge (b := 5) (by omega) (by decide)) ?_
    have hp : nI l - 1 = nI (l - 1) := by
      obtain ⟨k, rfl⟩ : ∃ k, l = k + 1 := ⟨l - 1, by omega⟩
      exact nI_pred k
    rw [hp, dk_ushr (by omega) (by omega)]
    refine dk_put (M := fun σ => σ = dk_ev G L R st i) (by omega) C (fun σ hσ _ => by rw [hσ]; exact elo l h1 (by omega)) (fun V1 O1 s1 b1 E1 hv => nm_r (nI_1 l) ?_)
    obtain ⟨ag, hb1⟩ := E1.2.2.2.2.2.2.2 _ rfl rfl ha
    subst hb1
    refine ih (l + 1) V1 O1 s1 n (by omega) (by omega) (by omega) E1.1 ag (dk_mon_b (dk_ext_m E1) h0) (fun l' a c => ?_)
    by_cases e : l' = l
    · subst e; exact hv rfl
    · exact dk_mon_b (dk_ext_m E1) (hlt l' a (by omega))
theorem dk_xvalue {post : Int32 → SX → Prop} {q st : Nat} {x : Int32} {i : Bool} {V O CH SB SC : Nat → Int32} {l0 f0 d0 s0 b0 c0 : Int32} (wf : dk_wf G L R N bd B) (A : dk_xar G L R N B aL aR aN aB) (hq : q < 2 * (6 + G)) (hst : st < 16) (hx : x &&& 1 = dk_b i) (K : ∀ (V O CH SB SC : Nat → Int32) (l' f' d' s' b' c' : Int32), post (dk_b (dk_lv (dk_ev G L R st i) q)) (nI G, nI bd, l', f', d', s', b', c', aL, aR, aN, aB, V, O, CH, SB, SC)) : wpX_value post (nI G, nI bd, l0, f0, d0, s0, b0, c0, aL, aR, aN, aB, V, O, CH, SB, SC) (nI q) (nI st) x := by
  have wf' := wf
  obtain ⟨hG, hg, hN, hbd, hB⟩ := wf
  unfold wpX_value
  refine dk_xlit_y hG hq (br_f (by decide) (br_f (nI_pos (by omega)) (br_t (nI_le (b := 15) (by omega) (by decide)) ?_)))
  have e0 : dk_ev G L R st i 0 = false := by rw [dk_ev_lo (by omega)]; rfl
  refine dk_open (M := fun σ => σ = dk_ev G L R st i) (len := 0) (by omega) (fun σ hσ f hf => ?_) (fun V1 O1 s1 b1 C1 ha hb hz => ⟨5, ?_⟩)
  · obtain rfl : f = 0 := by omega
    rw [hσ]
    exact e0
  · obtain ⟨ag, hb1⟩ := ha _ rfl
    subst hb1
    exact dk_xv28 wf' A hq hst hx (fun V O s' b' => K _ _ _ _ _ _ _ _ _ _ _) 4 1 V1 O1 s1 5 (by omega) (by omega) (by omega) C1 ag (hz rfl 0 (by omega)) (fun l' a c => absurd a (by omega))
end
end
section
/-! the reference: of, work, isBad, step, run, beginning, different -/
def dk_yar (G : Nat) (L R N B : Nat → Nat) (F S Nx Bg : Nat → Int32) : Prop :=
  (∀ k, k < G → F k = nI (L (6 + k)) ∧ S k = nI (R (6 + k))) ∧ (∀ l, 1 ≤ l → l < 5 → Nx l = nI (N l) ∧ Bg l = nI (B l))
section
variable {G bd : Nat} {L R N B : Nat → Nat} {F S Nx Bg : Nat → Int32}
theorem dk_yof {post : Int32 → Prop} {e : Nat → Bool} {q : Nat} {SG ST IN : Nat → Int32} (hq : q < 32) (hs : SG (q / 2) = dk_b (e (q / 2))) (K : post (dk_b (dk_lv e q))) : wpY_of post (nI G, nI bd, F, S, Nx, Bg, SG, ST, IN) (nI q) := by
  have h1 : nI q - nI q / 2 * 2 = nI (q % 2) := pk_rem (a := q) (d := 2) (by omega) (by omega) (by omega)
  have h2 : nI q / 2 = nI (q / 2) := pk_div (a := q) (d := 2) (by omega) (by omega) (by omega)
  have hi : vp_in (nI (q / 2)) 16 := vp_in_nI (by omega) (by decide)
  unfold wpY_of
  dsimp only
  rw [h1, h2, nI_clamp (by omega), hs]
  refine ⟨by decide, ?_⟩
  unfold dk_lv dk_od at K
  rcases Nat.mod_two_eq_zero_or_one q with z | z
  · rw [z] at K ⊢
    refine br_t (by decide) ⟨by decide, hi, ?_⟩
    revert K
    cases e (q / 2) <;> exact id
  · rw [z] at K ⊢
    refine br_f (by decide) ⟨by decide, hi, ?_⟩
    rw [dk_not]
    revert K
    cases e (q / 2) <;> exact id
theorem dk_y44 {post : SY → Prop} {st : Nat} {i : Bool} {ST IN : Nat → Int32} (wf : dk_wf G L R N bd B) (A : dk_yar G L R N B F S Nx Bg) (K : ∀ SG : Nat → Int32, (∀ s, s < 6 + G → SG s = dk_b (dk_ev G L R st i s)) → post (nI G, nI bd, F, S, Nx, Bg, SG, ST, IN)) : ∀ (d k : Nat) (SG : Nat → Int32) (n : Nat), k + d = G → d < n → (∀ s, s < 6 + k → SG s = dk_b (dk_ev G L R st i s)) → wY_work_44 post (nI G) (nI bd) n (nI k) F S Nx Bg SG ST IN := by
  obtain ⟨hG, hg, hN, hbd, hB⟩ := wf
  intro d
  induction d with
  | zero =>
    intro k SG n hk hn h
    obtain ⟨n, rfl⟩ : ∃ m, n = m + 1 := ⟨n - 1, by omega⟩
    obtain rfl : k = G := by omega
    exact br_t (nI_le (by omega) (by omega)) (K SG h)
  | succ d ih =>
    intro k SG n hk hn h
    obtain ⟨n, rfl⟩ : ∃ m, n = m + 1 := ⟨n - 1, by omega⟩
    obtain ⟨eF, eS⟩ := A.1 k (by omega)
    obtain ⟨qL, qR⟩ := hg (6 + k) (by omega) (by omega)
    have hi : vp_in (nI k) 10 := vp_in_nI (by omega) (by decide)
    refine br_f (nI_ge (by omega) (by omega)) ⟨hi, ?_⟩
    rw [nI_clamp (show k < 2 ^ 31 by omega), eF, eS, show (6 : Int32) + nI k = nI (6 + k) from nI_add 6 k, nI_clamp (show 6 + k < 2 ^ 31 by omega)]
    refine dk_yof (e := dk_ev G L R st i) (by omega) (h _ (by omega)) ⟨hi, dk_yof (e := dk_ev G L R st i) (by omega) (h _ (by omega)) ⟨vp_in_nI (by omega) (by decide), fun A1 h1 => nm_r (nI_1 k) ?_⟩⟩
    rw [dk_mul, ← dk_ev_g (by omega) (by omega) qL qR] at h1
    subst h1
    refine ih (k + 1) _ n (by omega) (by omega) (fun s hs => ?_)
    by_cases e : s = 6 + k
    · subst e; exact pk_us
    · rw [pk_un e]; exact h s (by omega)
theorem dk_y9 {post : SY → Prop} {st : Nat} {x : Int32} {i : Bool} {ST IN : Nat → Int32} (wf : dk_wf G L R N bd B) (A : dk_yar G L R N B F S Nx Bg) (hst : st < 16) (hx : x &&& 1 = dk_b i) (K : ∀ SG : Nat → Int32, (∀ s, s < 6 + G → SG s = dk_b (dk_ev G L R st i s)) → post (nI G, nI bd, F, S, Nx, Bg, SG, ST, IN)) : ∀ (d l : Nat) (SG : Nat → Int32) (n : Nat), l + d = 5 → 1 ≤ l → d < n → (∀ s, s < l → SG s = dk_b (dk_bs st i s)) → wY_work_9 post (nI st) x (nI G) (nI bd) n (nI l) F S Nx Bg SG ST IN := by
  intro d
  induction d with
  | zero =>
    intro l SG n hl h1 hn h
    obtain ⟨n, rfl⟩ : ∃ m, n = m + 1 := ⟨n - 1, by omega⟩
    obtain rfl : l = 5 := by omega
    refine br_t (by decide) (fun A1 e1 => ⟨G + 1, ?_⟩)
    rw [hx] at e1
    subst e1
    refine dk_y44 wf A K G 0 _ (G + 1) (by omega) (by omega) (fun s hs => ?_)
    rw [dk_ev_lo (by omega)]
    by_cases e : s = 5
    · subst e; exact pk_us
    · rw [pk_un e]; exact h s (by omega)
  | succ d ih =>
    intro l SG n hl h1 hn h
    obtain ⟨n, rfl⟩ : ∃ m, n = m + 1 := ⟨n - 1, by omega⟩
    have hp : nI l - 1 = nI (l - 1) := by
      obtain ⟨k, rfl⟩ : ∃ k, l = k + 1 := ⟨l - 1, by omega⟩
      exact nI_pred k
    refine br_f (nI_ge (b := 5) (by omega) (by decide)) ⟨vp_in_nI (by omega) (by decide), fun A1 e1 => nm_r (nI_1 l) ?_⟩
    rw [hp, dk_shr (by omega) (by omega), nI_clamp (show l < 2 ^ 31 by omega)] at e1
    subst e1
    refine ih (l + 1) _ n (by omega) (by omega) (by omega) (fun s hs => ?_)
    by_cases e : s = l
    · subst e
      rw [pk_us]
      unfold dk_bs
      rw [if_neg (by omega), if_pos (by omega)]
    · rw [pk_un e]; exact h s (by omega)
theorem dk_ywork {post : SY → Prop} {st : Nat} {x : Int32} {i : Bool} {SG ST IN : Nat → Int32} (wf : dk_wf G L R N bd B) (A : dk_yar G L R N B F S Nx Bg) (hst : st < 16) (hx : x &&& 1 = dk_b i) (K : ∀ SG : Nat → Int32, (∀ s, s < 6 + G → SG s = dk_b (dk_ev G L R st i s)) → post (nI G, nI bd, F, S, Nx, Bg, SG, ST, IN)) : wpY_work post (nI G, nI bd, F, S, Nx, Bg, SG, ST, IN) (nI st) x := by
  unfold wpY_work
  intro A1 e1
  subst e1
  refine ⟨5, dk_y9 wf A hst hx K 4 1 _ 5 (by omega) (by omega) (by omega) (fun s hs => ?_)⟩
  obtain rfl : s = 0 := by omega
  exact pk_us
theorem dk_ybad {post : Int32 → SY → Prop} {st : Nat} {x : Int32} {i : Bool} {SG ST IN : Nat → Int32} (wf : dk_wf G L R N bd B) (A : dk_yar G L R N B F S Nx Bg) (hst : st < 16) (hx : x &&& 1 = dk_b i) (K : ∀ SG : Nat → Int32, post (dk_b (dk_lv (dk_ev G L R st i) bd)) (nI G, nI bd, F, S, Nx, Bg, SG, ST, IN)) : wpY_isBad post (nI G, nI bd, F, S, Nx, Bg, SG, ST, IN) (nI st) x := by
  have hbd := wf.2.2.2.1
  have hG := wf.1
  unfold wpY_isBad
  refine dk_ywork wf A hst hx (fun SG h => ?_)
  refine dk_yof (e := dk_ev G L R st i) (by omega) (h _ (by omega)) ?_
  have k := K SG
  revert k
  cases dk_lv (dk_ev G L R st i) bd
  · exact fun k => br_f (by decide) k
  · exact fun k => br_t rfl k
theorem dk_y11 {post : Int32 → SY → Prop} {e : Nat → Bool} {SG ST IN : Nat → Int32} {l n : Nat} {r : Int32} (wf : dk_wf G L R N bd B) (A : dk_yar G L R N B F S Nx Bg) (h : ∀ s, s < 6 + G → SG s = dk_b (e s)) (h1 : 1 ≤ l) (h5 : l < 5) (K : wY_step_11 post (nI G) (nI bd) F S Nx Bg SG ST IN n (r ||| (dk_b (dk_lv e (N l)) <<< ((nI l - 1) &&& 31))) (nI (l + 1))) : wY_step_11 post (nI G) (nI bd) F S Nx Bg SG ST IN (n + 1) r (nI l) := by
  have hN := wf.2.2.1 l h1 h5
  have hG := wf.1
  refine br_f (nI_ge (b := 5) h5 (by decide)) ⟨vp_in_nI (by omega) (by decide), ?_⟩
  rw [nI_clamp (show l < 2 ^ 31 by omega), (A.2 l h1 h5).1]
  exact dk_yof (e := e) (by omega) (h _ (by omega)) (nm_e (nm_r (nI_1 l) K))
theorem dk_ystep {post : Int32 → SY → Prop} {st : Nat} {x : Int32} {i : Bool} {SG ST IN : Nat → Int32} (wf : dk_wf G L R N bd B) (A : dk_yar G L R N B F S Nx Bg) (hst : st < 16) (hx : x &&& 1 = dk_b i) (K : ∀ SG : Nat → Int32, post (nI (dk_nx N (dk_ev G L R st i))) (nI G, nI bd, F, S, Nx, Bg, SG, ST, IN)) : wpY_step post (nI G, nI bd, F, S, Nx, Bg, SG, ST, IN) (nI st) x := by
  unfold wpY_step
  refine dk_ywork wf A hst hx (fun SG h => ⟨5, ?_⟩)
  refine dk_y11 (l := 1) wf A h (by omega) (by omega) ?_
  refine dk_y11 (l := 2) wf A h (by omega) (by omega) ?_
  refine dk_y11 (l := 3) wf A h (by omega) (by omega) ?_
  refine dk_y11 (l := 4) wf A h (by omega) (by omega) ?_
  refine br_t (by decide) ?_
  rw [dk_or4]
  exact K SG
theorem dk_yr9 {post : Int32 → SY → Prop} {len n m : Nat} (wf : dk_wf G L R N bd B) (A : dk_yar G L R N B F S Nx Bg) (hl : len ≤ 6) (hn : n < 2 ^ (5 + len)) (hm : m < 2 ^ 31) (hb : ∀ i, i ≤ len → m.testBit (len - i) = n.testBit (len - i)) (K : ∀ (r : Bool) (SG ST IN : Nat → Int32), (r = true ↔ ∀ j, j ≤ len → dk_lv (dk_e G L R N len n j) bd = decide (j = len)) → (∀ j, j ≤ len → ST j = nI (dk_st G L R N len n j) ∧ IN j = dk_b (n.testBit (len - j))) → post (dk_b r) (nI G, nI bd, F, S, Nx, Bg, SG, ST, IN)) : ∀ (d i : Nat) (r : Bool) (SG ST IN : Nat → Int32) (nn : Nat), i + d = len + 1 → d < nn → (r = true ↔ ∀ j, j < i → dk_lv (dk_e G L R N len n j) bd = decide (j = len)) → (∀ j, j < i → ST j = nI (dk_st G L R N len n j) ∧ IN j = dk_b (n.testBit (len - j))) → wY_run_9 post (nI len) (nI m) nn (dk_b r) (nI (dk_st G L R N len n i)) (nI i) (nI G) (nI bd) F S Nx Bg SG ST IN := by
  intro d
  induction d with
  | zero =>
    intro i r SG ST IN nn hi hnn hr hj
    obtain ⟨nn, rfl⟩ : ∃ m, nn = m + 1 := ⟨nn - 1, by omega⟩
    refine br_t (nI_lt (by omega) (by omega)) ⟨by cases r <;> rfl, K r SG ST IN ?_ (fun j h => hj j (by omega))⟩
    rw [hr]
    exact ⟨fun h j a => h j (by omega), fun h j a => h j (by omega)⟩
  | succ d ih =>
    intro i r SG ST IN nn hi hnn hr hj
    obtain ⟨nn, rfl⟩ : ∃ m, nn = m + 1 := ⟨nn - 1, by omega⟩
    have hst := dk_st_lt (G := G) (L := L) (R := R) (N := N) hn i
    refine br_f (nI_nlt (by omega) (by omega)) (nm_r (e' := dk_b (n.testBit (len - i))) (by rw [pk_sub (by omega), dk_shr hm (by omega), hb i (by omega)]) ⟨vp_in_nI (by omega) (by decide), fun A1 h1 => ⟨vp_in_nI (by omega) (by decide), fun A2 h2 => ?_⟩⟩)
    rw [nI_clamp (show i < 2 ^ 31 by omega)] at h1 h2
    subst h1 h2
    have hj' : ∀ j, j < i + 1 → upd ST i (nI (dk_st G L R N len n i)) j = nI (dk_st G L R N len n j) ∧ upd IN i (dk_b (n.testBit (len - i))) j = dk_b (n.testBit (len - j)) := by
      intro j h
      by_cases e : j = i
      · subst e; exact ⟨pk_us, pk_us⟩
      · rw [pk_un e, pk_un e]; exact hj j (by omega)
    refine dk_ybad wf A hst (dk_lowb _) (fun SG1 => ?_)
    have fin : ∀ (r' : Bool), (r' = true ↔ ∀ j, j < i + 1 → dk_lv (dk_e G L R N len n j) bd = decide (j = len)) → wY_run_68 post (wY_run_9 post (nI len) (nI m) nn) (nI len) (nI m) (dk_b r') (nI (dk_st G L R N len n i)) (nI i) (dk_b (n.testBit (len - i))) (nI G) (nI bd) F S Nx Bg SG1 (upd ST i (nI (dk_st G L R N len n i))) (upd IN i (dk_b (n.testBit (len - i)))) := by
      intro r' hr'
      unfold wY_run_68
      exact dk_ystep wf A hst (dk_lowb _) (fun SG2 => nm_r (nI_1 i) (ih (i + 1) r' SG2 _ _ nn (by omega) (by omega) hr' hj'))
    have sp : ∀ z : Bool, z = decide (i = len) → wY_run_62 post (wY_run_9 post (nI len) (nI m) nn) (nI len) (nI m) (dk_b r) (nI (dk_st G L R N len n i)) (nI i) (dk_b (n.testBit (len - i))) (dk_b z) (dk_b (dk_lv (dk_ev G L R (dk_st G L R N len n i) (n.testBit (len - i))) bd)) (nI G) (nI bd) F S Nx Bg SG1 (upd ST i (nI (dk_st G L R N len n i))) (upd IN i (dk_b (n.testBit (len - i)))) := by
      intro z hz
      unfold wY_run_62
      refine br_c (fun e => fin r ?_) (fun e => fin false ?_)
      · have e' : dk_lv (dk_e G L R N len n i) bd = decide (i = len) := (dk_b_inj e).trans hz
        rw [hr]
        refine ⟨fun h j a => ?_, fun h j a => h j (by omega)⟩
        by_cases q : j = i
        · rw [q]; exact e'
        · exact h j (by omega)
      · refine ⟨fun h => absurd h (by decide), fun h => absurd (congrArg dk_b ((h i (by omega)).trans hz.symm)) e⟩
    exact pk_eq i len (fun e => sp true (by rw [decide_eq_true e])) (fun e => sp false (by rw [decide_eq_false e]))
theorem dk_yrun {post : Int32 → SY → Prop} {len n m : Nat} {SG ST IN : Nat → Int32} (wf : dk_wf G L R N bd B) (A : dk_yar G L R N B F S Nx Bg) (hl : len ≤ 6) (hn : n < 2 ^ (5 + len)) (hm : m < 2 ^ 31) (hb : ∀ i, i ≤ len → m.testBit (len - i) = n.testBit (len - i)) (K : ∀ (r : Bool) (SG ST IN : Nat → Int32), (r = true ↔ ∀ j, j ≤ len → dk_lv (dk_e G L R N len n j) bd = decide (j = len)) → (∀ j, j ≤ len → ST j = nI (dk_st G L R N len n j) ∧ IN j = dk_b (n.testBit (len - j))) → post (dk_b r) (nI G, nI bd, F, S, Nx, Bg, SG, ST, IN)) : wpY_run post (nI G, nI bd, F, S, Nx, Bg, SG, ST, IN) (nI len) (nI (n / 2 ^ (len + 1))) (nI m) := by
  unfold wpY_run
  exact ⟨len + 2, dk_yr9 wf A hl hn hm hb K (len + 1) 0 true SG ST IN (len + 2) (by omega) (by omega) ⟨fun _ j h => absurd h (by omega), fun _ => rfl⟩ (fun j h => absurd h (by omega))⟩
theorem dk_yb2 {post : Int32 → Prop} {st : Nat} {SG ST IN : Nat → Int32} (wf : dk_wf G L R N bd B) (A : dk_yar G L R N B F S Nx Bg) (hst : st < 16) (K0 : ¬ (∀ l, 1 ≤ l → l < 5 → B l < 2 → st.testBit (l - 1) = decide (B l = 1)) → post 0) (K1 : (∀ l, 1 ≤ l → l < 5 → B l < 2 → st.testBit (l - 1) = decide (B l = 1)) → post 1) : ∀ (d l n : Nat), l + d = 5 → 1 ≤ l → d < n → (∀ l', 1 ≤ l' → l' < l → B l' < 2 → st.testBit (l' - 1) = decide (B l' = 1)) → wY_beginning_2 post (nI st) (nI G) (nI bd) F S Nx Bg SG ST IN n (nI l) := by
  intro d
  induction d with
  | zero =>
    intro l n hl h1 hn h
    obtain ⟨n, rfl⟩ : ∃ m, n = m + 1 := ⟨n - 1, by omega⟩
    obtain rfl : l = 5 := by omega
    exact br_t (by decide) (K1 h)
  | succ d ih =>
    intro l n hl h1 hn h
    obtain ⟨n, rfl⟩ : ∃ m, n = m + 1 := ⟨n - 1, by omega⟩
    have hp : nI l - 1 = nI (l - 1) := by
      obtain ⟨k, rfl⟩ : ∃ k, l = k + 1 := ⟨l - 1, by omega⟩
      exact nI_pred k
    have hB := wf.2.2.2.2 l h1 (by omega)
    have hi : vp_in (nI l) 5 := vp_in_nI (by omega) (by decide)
    refine br_f (nI_ge (b := 5) (by omega) (by decide)) ⟨hi, ?_⟩
    rw [nI_clamp (show l < 2 ^ 31 by omega), (A.2 l h1 (by omega)).2, hp, dk_shr (by omega) (by omega)]
    have next : (B l < 2 → st.testBit (l - 1) = decide (B l = 1)) → wY_beginning_2 post (nI st) (nI G) (nI bd) F S Nx Bg SG ST IN n (nI (l + 1)) := by
      intro hl'
      refine ih (l + 1) n (by omega) (by omega) (by omega) (fun l' a c => ?_)
      by_cases e : l' = l
      · subst e; exact hl'
      · exact h l' a (by omega)
    refine pk_eq (B l) 2 (fun e => nm_r (nI_1 l) (next (fun z => absurd z (by omega)))) (fun e => ⟨hi, ?_⟩)
    have h2 : B l < 2 := by omega
    rw [dk_nb h2]
    exact br_c (fun q => nm_r (nI_1 l) (next (fun _ => (dk_b_inj q).symm))) (fun q => K0 (fun z => q (congrArg dk_b (z l h1 (by omega) h2).symm)))
theorem dk_ybeg {post : Int32 → Prop} {st : Nat} {SG ST IN : Nat → Int32} (wf : dk_wf G L R N bd B) (A : dk_yar G L R N B F S Nx Bg) (hst : st < 16) (K0 : ¬ (∀ l, 1 ≤ l → l < 5 → B l < 2 → st.testBit (l - 1) = decide (B l = 1)) → post 0) (K1 : (∀ l, 1 ≤ l → l < 5 → B l < 2 → st.testBit (l - 1) = decide (B l = 1)) → post 1) : wpY_beginning post (nI G, nI bd, F, S, Nx, Bg, SG, ST, IN) (nI st) := by
  unfold wpY_beginning
  exact ⟨5, dk_yb2 wf A hst K0 K1 4 1 5 (by omega) (by omega) (by omega) (fun l' a c => absurd a (by omega))⟩
theorem dk_nor (a b : Nat) : nI a ||| nI b = nI (a ||| b) := by
  apply Int32.toBitVec_inj.1
  show BitVec.ofNat 32 a ||| BitVec.ofNat 32 b = BitVec.ofNat 32 (a ||| b)
  apply BitVec.eq_of_getLsbD_eq
  intro i hi
  simp [hi]
theorem dk_yd4 {post : Int32 → Prop} {len : Nat} {t : Nat → Nat} {SG ST IN : Nat → Int32} (hl : len ≤ 6) (ht : ∀ j, j ≤ len → t j < 16 ∧ ST j = nI (t j)) (K0 : ¬ (∀ f h, h < f → f ≤ len → t f ≠ t h) → post 0) (K1 : (∀ f h, h < f → f ≤ len → t f ≠ t h) → post 1) : ∀ (d i m n : Nat), i + d = len + 1 → d < n → m < 2 ^ 16 → (∀ k, m.testBit k = true ↔ ∃ j, j < i ∧ t j = k) → (∀ f h, h < f → f < i → t f ≠ t h) → wY_different_4 post (nI len) (nI G) (nI bd) F S Nx Bg SG ST IN n (nI m) (nI i) := by
  intro d
  induction d with
  | zero =>
    intro i m n hi hn hm hb h
    obtain ⟨n, rfl⟩ : ∃ m, n = m + 1 := ⟨n - 1, by omega⟩
    exact br_t (nI_lt (by omega) (by omega)) (K1 (fun f h' a c => h f h' a (by omega)))
  | succ d ih =>
    intro i m n hi hn hm hb h
    obtain ⟨n, rfl⟩ : ∃ m, n = m + 1 := ⟨n - 1, by omega⟩
    obtain ⟨t16, eS⟩ := ht i (by omega)
    have hv : vp_in (nI i) 7 := vp_in_nI (by omega) (by decide)
    refine br_f (nI_nlt (by omega) (by omega)) ⟨hv, ?_⟩
    rw [nI_clamp (show i < 2 ^ 31 by omega), eS, dk_shr (by omega) (by omega), show (1 : Int32) <<< (nI (t i) &&& 31) = nI (1 * 2 ^ t i) from pk_shlN (n := 1) _ (t i) (s_l _ (by omega)) (by
      have := Nat.pow_le_pow_right (n := 2) (by decide) (show t i ≤ 15 by omega)
      omega), Nat.one_mul, dk_nor]
    cases hq : m.testBit (t i)
    · refine br_f (by decide) ⟨hv, nm_e (nm_r (nI_1 i) ?_)⟩
      refine ih (i + 1) (m ||| 2 ^ t i) n (by omega) (by omega) (Nat.or_lt_two_pow hm (Nat.pow_lt_pow_right (by decide) t16)) (fun k => ?_) (fun f h' a c => ?_)
      · rw [Nat.testBit_or, Bool.or_eq_true, hb k, Nat.testBit_two_pow]
        constructor
        · rintro (⟨j, hj, e⟩ | e)
          · exact ⟨j, by omega, e⟩
          · exact ⟨i, by omega, of_decide_eq_true e⟩
        · rintro ⟨j, hj, e⟩
          by_cases z : j = i
          · subst z; exact Or.inr (decide_eq_true e)
          · exact Or.inl ⟨j, by omega, e⟩
      · by_cases z : f = i
        · subst z
          intro e
          have := (hb (t f)).mpr ⟨h', a, e.symm⟩
          rw [hq] at this
          exact absurd this (by decide)
        · exact h f h' a (by omega)
    · obtain ⟨j, hj, e⟩ := (hb (t i)).mp hq
      exact br_t (by decide) (K0 (fun z => z i j hj (by omega) e.symm))
theorem dk_ydiff {post : Int32 → Prop} {len : Nat} {t : Nat → Nat} {SG ST IN : Nat → Int32} (hl : len ≤ 6) (ht : ∀ j, j ≤ len → t j < 16 ∧ ST j = nI (t j)) (K0 : ¬ (∀ f h, h < f → f ≤ len → t f ≠ t h) → post 0) (K1 : (∀ f h, h < f → f ≤ len → t f ≠ t h) → post 1) : wpY_different post (nI G, nI bd, F, S, Nx, Bg, SG, ST, IN) (nI len) := by
  unfold wpY_different
  refine ⟨len + 2, dk_yd4 hl ht K0 K1 (len + 1) 0 0 (len + 2) (by omega) (by omega) (by decide) (fun k => ?_) (fun f h a c => absurd c (by omega))⟩
  rw [Nat.zero_testBit]
  exact ⟨fun h => absurd h (by decide), fun ⟨j, hj, _⟩ => absurd hj (by omega)⟩
end
end
section
/-! the reference: found, least, holds, proof -/
theorem dk_gd {G : Nat} {L R N : Nat → Nat} {bd : Nat} {B : Nat → Nat} {len : Nat} {p q : Bool} {n : Nat} : dk_good G L R N bd B len p q n ↔ (p = true → ∀ l, 1 ≤ l → l < 5 → B l < 2 → (n / 2 ^ (len + 1)).testBit (l - 1) = decide (B l = 1)) ∧ (∀ j, j ≤ len → dk_lv (dk_e G L R N len n j) bd = decide (j = len)) ∧ (q = true → ∀ f h, h < f → f ≤ len → dk_st G L R N len n f ≠ dk_st G L R N len n h) := by
  constructor
  · rintro ⟨a, c, d, e⟩
    refine ⟨a, fun j hj => ?_, e⟩
    by_cases z : j = len
    · rw [decide_eq_true z, z]; exact d
    · rw [decide_eq_false z]; exact c j (by omega)
  · rintro ⟨a, c, e⟩
    refine ⟨a, fun f hf => ?_, ?_, e⟩
    · rw [c f (by omega), decide_eq_false (by omega)]
    · rw [c len (by omega), decide_eq_true rfl]
theorem dk_32 {len : Nat} (hl : len ≤ 6) : (32 : Int32) <<< (nI len &&& 31) = nI (2 ^ (5 + len)) := by
  have h : (2 : Nat) ^ (5 + len) = 32 * 2 ^ len := by rw [Nat.pow_add]
  have h6 : (2 : Nat) ^ len ≤ 2 ^ 6 := Nat.pow_le_pow_right (by decide) hl
  rw [h]
  exact pk_shlN (n := 32) _ len (s_l _ (by omega)) (by omega)
theorem dk_11 {len : Nat} (hl : len ≤ 6) : 2 ^ (5 + len) ≤ 2048 := Nat.pow_le_pow_right (n := 2) (by decide) (show 5 + len ≤ 11 by omega)
theorem dk_msk {len n : Nat} (hl : len ≤ 6) (hn : n < 2 ^ 31) : nI n &&& (((2 : Int32) <<< (nI len &&& 31)) - 1) = nI (n % 2 ^ (len + 1)) := by
  have h6 : (2 : Nat) ^ len ≤ 2 ^ 6 := Nat.pow_le_pow_right (by decide) hl
  have hp := Nat.two_pow_pos len
  have h : (2 : Nat) ^ (len + 1) = 2 * 2 ^ len := by rw [Nat.pow_succ]; omega
  rw [show (2 : Int32) <<< (nI len &&& 31) = nI (2 * 2 ^ len) from pk_shlN (n := 2) _ len (s_l _ (by omega)) (by omega), show (nI (2 * 2 ^ len)) - 1 = nI (2 * 2 ^ len - 1) from pk_sub (b := 1) (by omega), ← h]
  exact pk_andN (by omega) (len + 1) (pk_tn (by omega))
section
variable {G bd : Nat} {L R N B : Nat → Nat} {F S Nx Bg : Nat → Int32}
theorem dk_yf2 {post : Int32 → SY → Prop} {len : Nat} (wf : dk_wf G L R N bd B) (A : dk_yar G L R N B F S Nx Bg) (hl : len ≤ 6)
    (K0 : (∀ n, n < 2 ^ (5 + len) → ¬ dk_good G L R N bd B len true false n) → ∀ SG ST IN : Nat → Int32, post 0 (nI G, nI bd, F, S, Nx, Bg, SG, ST, IN))
    (K1 : ∀ n, n < 2 ^ (5 + len) → dk_good G L R N bd B len true false n → (∀ m, m < n → ¬ dk_good G L R N bd B len true false m) → ∀ SG ST IN : Nat → Int32, (∀ j, j ≤ len → ST j = nI (dk_st G L R N len n j) ∧ IN j = dk_b (n.testBit (len - j))) → post 1 (nI G, nI bd, F, S, Nx, Bg, SG, ST, IN)) :
    ∀ (d n : Nat) (SG ST IN : Nat → Int32) (nn : Nat), n + d = 2 ^ (5 + len) → d < nn → (∀ m, m < n → ¬ dk_good G L R N bd B len true false m) → wY_found_2 post (nI len) nn (nI n) (nI G) (nI bd) F S Nx Bg SG ST IN := by
  have h11 := dk_11 hl
  intro d
  induction d with
  | zero =>
    intro n SG ST IN nn hd hnn hno
    obtain ⟨nn, rfl⟩ : ∃ m, nn = m + 1 := ⟨nn - 1, by omega⟩
    exact br_t (by rw [dk_32 hl]; exact nI_le (by omega) (by omega)) (K0 (fun m hm => hno m (by omega)) _ _ _)
  | succ d ih =>
    intro n SG ST IN nn hd hnn hno
    obtain ⟨nn, rfl⟩ : ∃ m, nn = m + 1 := ⟨nn - 1, by omega⟩
    have hn : n < 2 ^ (5 + len) := by omega
    have hst : n / 2 ^ (len + 1) < 16 := dk_st_lt (G := G) (L := L) (R := R) (N := N) hn 0
    have next : ¬ dk_good G L R N bd B len true false n → ∀ SG ST IN : Nat → Int32, wY_found_2 post (nI len) nn (nI (n + 1)) (nI G) (nI bd) F S Nx Bg SG ST IN := by
      intro hg SG ST IN
      refine ih (n + 1) SG ST IN nn (by omega) (by omega) (fun m hm => ?_)
      by_cases e : m = n
      · rw [e]; exact hg
      · exact hno m (by omega)
    refine br_f (by rw [dk_32 hl]; exact nI_ge (by omega) (by omega)) (nm_r (e' := nI (n / 2 ^ (len + 1))) (by rw [nI_1]; exact pk_shrN (by omega) _ (len + 1) (s_l _ (by omega))) ?_)
    rw [dk_msk hl (by omega)]
    refine dk_ybeg wf A hst (fun h => br_t rfl (nm_r (nI_1 n) (next (fun g => h (g.1 rfl)) _ _ _))) (fun hbeg => br_f (by decide) ?_)
    refine dk_yrun (n := n) wf A hl hn (Nat.lt_of_le_of_lt (Nat.mod_le _ _) (by omega)) (fun i hi => by rw [Nat.testBit_mod_two_pow, decide_eq_true (show len - i < len + 1 by omega), Bool.true_and]) (fun r SG ST IN hr hs => ?_)
    cases r
    · refine br_t rfl (nm_r (nI_1 n) (next (fun g => absurd (hr.mpr (dk_gd.mp g).2.1) (by decide)) _ _ _))
    · exact br_f (by decide) (K1 n hn (dk_gd.mpr ⟨fun _ => hbeg, hr.mp rfl, fun z => absurd z (by decide)⟩) hno _ _ _ hs)
theorem dk_yfound {post : Int32 → SY → Prop} {len : Nat} {SG ST IN : Nat → Int32} (wf : dk_wf G L R N bd B) (A : dk_yar G L R N B F S Nx Bg) (hl : len ≤ 6)
    (K0 : (∀ n, n < 2 ^ (5 + len) → ¬ dk_good G L R N bd B len true false n) → ∀ SG ST IN : Nat → Int32, post 0 (nI G, nI bd, F, S, Nx, Bg, SG, ST, IN))
    (K1 : ∀ n, n < 2 ^ (5 + len) → dk_good G L R N bd B len true false n → (∀ m, m < n → ¬ dk_good G L R N bd B len true false m) → ∀ SG ST IN : Nat → Int32, (∀ j, j ≤ len → ST j = nI (dk_st G L R N len n j) ∧ IN j = dk_b (n.testBit (len - j))) → post 1 (nI G, nI bd, F, S, Nx, Bg, SG, ST, IN)) : wpY_found post (nI G, nI bd, F, S, Nx, Bg, SG, ST, IN) (nI len) := by
  unfold wpY_found
  exact ⟨2 ^ (5 + len) + 1, dk_yf2 wf A hl K0 K1 (2 ^ (5 + len)) 0 SG ST IN _ (by omega) (by omega) (fun m h => absurd h (by omega))⟩
theorem dk_yl2 {post : Int32 → SY → Prop} {k : Nat} (wf : dk_wf G L R N bd B) (A : dk_yar G L R N B F S Nx Bg) (hk : k ≤ 6)
    (K0 : (∀ m, m ≤ k → ¬ dk_ex G L R N bd B true false m) → ∀ SG ST IN : Nat → Int32, post (-1) (nI G, nI bd, F, S, Nx, Bg, SG, ST, IN))
    (K1 : ∀ m, m ≤ k → (∀ m', m' < m → ¬ dk_ex G L R N bd B true false m') → ∀ n, n < 2 ^ (5 + m) → dk_good G L R N bd B m true false n → (∀ n', n' < n → ¬ dk_good G L R N bd B m true false n') → ∀ SG ST IN : Nat → Int32, (∀ j, j ≤ m → ST j = nI (dk_st G L R N m n j) ∧ IN j = dk_b (n.testBit (m - j))) → post (nI m) (nI G, nI bd, F, S, Nx, Bg, SG, ST, IN)) :
    ∀ (d m : Nat) (SG ST IN : Nat → Int32) (n : Nat), m + d = k + 1 → d < n → (∀ m', m' < m → ¬ dk_ex G L R N bd B true false m') → wY_least_2 post (nI k) n (nI m) (nI G) (nI bd) F S Nx Bg SG ST IN := by
  intro d
  induction d with
  | zero =>
    intro m SG ST IN n hm hn hno
    obtain ⟨n, rfl⟩ : ∃ m, n = m + 1 := ⟨n - 1, by omega⟩
    exact br_t (nI_lt (by omega) (by omega)) (K0 (fun m' h => hno m' (by omega)) _ _ _)
  | succ d ih =>
    intro m SG ST IN n hm hn hno
    obtain ⟨n, rfl⟩ : ∃ m, n = m + 1 := ⟨n - 1, by omega⟩
    refine br_f (nI_nlt (by omega) (by omega)) ?_
    refine dk_yfound wf A (by omega) (fun h SG ST IN => br_t rfl (nm_r (nI_1 m) ?_)) (fun n' hn' g hlt SG ST IN hs => br_f (by decide) (K1 m (by omega) hno n' hn' g hlt SG ST IN hs))
    refine ih (m + 1) SG ST IN n (by omega) (by omega) (fun m' h' => ?_)
    by_cases e : m' = m
    · subst e
      rintro ⟨n', hn', g⟩
      exact h n' hn' g
    · exact hno m' (by omega)
theorem dk_yleast {post : Int32 → SY → Prop} {k : Nat} {SG ST IN : Nat → Int32} (wf : dk_wf G L R N bd B) (A : dk_yar G L R N B F S Nx Bg) (hk : k ≤ 6)
    (K0 : (∀ m, m ≤ k → ¬ dk_ex G L R N bd B true false m) → ∀ SG ST IN : Nat → Int32, post (-1) (nI G, nI bd, F, S, Nx, Bg, SG, ST, IN))
    (K1 : ∀ m, m ≤ k → (∀ m', m' < m → ¬ dk_ex G L R N bd B true false m') → ∀ n, n < 2 ^ (5 + m) → dk_good G L R N bd B m true false n → (∀ n', n' < n → ¬ dk_good G L R N bd B m true false n') → ∀ SG ST IN : Nat → Int32, (∀ j, j ≤ m → ST j = nI (dk_st G L R N m n j) ∧ IN j = dk_b (n.testBit (m - j))) → post (nI m) (nI G, nI bd, F, S, Nx, Bg, SG, ST, IN)) : wpY_least post (nI G, nI bd, F, S, Nx, Bg, SG, ST, IN) (nI k) := by
  unfold wpY_least
  exact ⟨k + 2, dk_yl2 wf A hk K0 K1 (k + 1) 0 SG ST IN (k + 2) (by omega) (by omega) (fun m' h => absurd h (by omega))⟩
theorem dk_yh14 {post : Int32 → SY → Prop} {len : Nat} (wf : dk_wf G L R N bd B) (A : dk_yar G L R N B F S Nx Bg) (hl : len ≤ 6)
    (K0 : ¬ dk_ex G L R N bd B false true len → ∀ SG ST IN : Nat → Int32, post 1 (nI G, nI bd, F, S, Nx, Bg, SG, ST, IN))
    (K1 : dk_ex G L R N bd B false true len → ∀ SG ST IN : Nat → Int32, post 0 (nI G, nI bd, F, S, Nx, Bg, SG, ST, IN)) :
    ∀ (d n : Nat) (SG ST IN : Nat → Int32) (nn : Nat), n + d = 2 ^ (5 + len) → d < nn → (∀ m, m < n → ¬ dk_good G L R N bd B len false true m) → wY_holds_14 post (nI len) nn (nI n) (nI G) (nI bd) F S Nx Bg SG ST IN := by
  have h11 := dk_11 hl
  intro d
  induction d with
  | zero =>
    intro n SG ST IN nn hd hnn hno
    obtain ⟨nn, rfl⟩ : ∃ m, nn = m + 1 := ⟨nn - 1, by omega⟩
    refine br_t (by rw [dk_32 hl]; exact nI_le (by omega) (by omega)) (K0 ?_ _ _ _)
    rintro ⟨m, hm, g⟩
    exact hno m (by omega) g
  | succ d ih =>
    intro n SG ST IN nn hd hnn hno
    obtain ⟨nn, rfl⟩ : ∃ m, nn = m + 1 := ⟨nn - 1, by omega⟩
    have hn : n < 2 ^ (5 + len) := by omega
    have next : ¬ dk_good G L R N bd B len false true n → ∀ SG ST IN : Nat → Int32, wY_holds_14 post (nI len) nn (nI (n + 1)) (nI G) (nI bd) F S Nx Bg SG ST IN := by
      intro hg SG ST IN
      refine ih (n + 1) SG ST IN nn (by omega) (by omega) (fun m hm => ?_)
      by_cases e : m = n
      · rw [e]; exact hg
      · exact hno m (by omega)
    refine br_f (by rw [dk_32 hl]; exact nI_ge (by omega) (by omega)) (nm_r (e' := nI (n / 2 ^ (len + 1))) (by rw [nI_1]; exact pk_shrN (by omega) _ (len + 1) (s_l _ (by omega))) ?_)
    rw [dk_msk hl (by omega)]
    refine dk_yrun (n := n) wf A hl hn (Nat.lt_of_le_of_lt (Nat.mod_le _ _) (by omega)) (fun i hi => by rw [Nat.testBit_mod_two_pow, decide_eq_true (show len - i < len + 1 by omega), Bool.true_and]) (fun r SG ST IN hr hs => ?_)
    cases r
    · refine br_t rfl (nm_r (nI_1 n) (next (fun g => absurd (hr.mpr (dk_gd.mp g).2.1) (by decide)) _ _ _))
    · refine br_f (by decide) ?_
      refine dk_ydiff (t := dk_st G L R N len n) hl (fun j hj => ⟨dk_st_lt hn j, (hs j hj).1⟩) (fun h => br_t rfl (nm_r (nI_1 n) (next (fun g => h ((dk_gd.mp g).2.2 rfl)) _ _ _))) (fun h => br_f (by decide) (K1 ⟨n, hn, dk_gd.mpr ⟨fun z => absurd z (by decide), hr.mp rfl, fun _ => h⟩⟩ _ _ _))
theorem dk_yholds {post : Int32 → SY → Prop} {k : Nat} {SG ST IN : Nat → Int32} (wf : dk_wf G L R N bd B) (A : dk_yar G L R N B F S Nx Bg) (hk : k ≤ 6)
    (K0 : ¬ dk_ex G L R N bd B false true k → ∀ SG ST IN : Nat → Int32, post 1 (nI G, nI bd, F, S, Nx, Bg, SG, ST, IN))
    (K1 : dk_ex G L R N bd B false true k → ∀ SG ST IN : Nat → Int32, post 0 (nI G, nI bd, F, S, Nx, Bg, SG, ST, IN)) : wpY_holds post (nI G, nI bd, F, S, Nx, Bg, SG, ST, IN) (nI k) := by
  unfold wpY_holds
  refine br_f (nI_pos (by omega)) (br_t (nI_le (b := 6) hk (by decide)) ⟨2 ^ (5 + k) + 1, ?_⟩)
  exact dk_yh14 wf A hk K0 K1 (2 ^ (5 + k)) 0 SG ST IN _ (by omega) (by omega) (fun m h => absurd h (by omega))
theorem dk_yp2 {post : Int32 → SY → Prop} (wf : dk_wf G L R N bd B) (A : dk_yar G L R N B F S Nx Bg)
    (K0 : (∀ k, k ≤ 6 → dk_ex G L R N bd B false true k ∨ ∃ j, j < k ∧ dk_ex G L R N bd B true false j) → ∀ SG ST IN : Nat → Int32, post (-1) (nI G, nI bd, F, S, Nx, Bg, SG, ST, IN))
    (K1 : ∀ k, k ≤ 6 → ¬ dk_ex G L R N bd B false true k → (∀ j, j < k → dk_ex G L R N bd B false true j ∧ ¬ dk_ex G L R N bd B true false j) → ∀ SG ST IN : Nat → Int32, post (nI k) (nI G, nI bd, F, S, Nx, Bg, SG, ST, IN)) :
    ∀ (d m : Nat) (SG ST IN : Nat → Int32) (n : Nat), m + d = 7 → d < n → (∀ k, k < m → dk_ex G L R N bd B false true k ∨ ∃ j, j < k ∧ dk_ex G L R N bd B true false j) → wY_proof_2 post n (nI m) (nI G) (nI bd) F S Nx Bg SG ST IN := by
  intro d
  induction d with
  | zero =>
    intro m SG ST IN n hm hn hh
    obtain ⟨n, rfl⟩ : ∃ m, n = m + 1 := ⟨n - 1, by omega⟩
    exact br_t (nI_lt (a := 6) (by omega) (by omega)) (K0 (fun k hk => hh k (by omega)) _ _ _)
  | succ d ih =>
    intro m SG ST IN n hm hn hh
    obtain ⟨n, rfl⟩ : ∃ m, n = m + 1 := ⟨n - 1, by omega⟩
    have next : (dk_ex G L R N bd B false true m ∨ ∃ j, j < m ∧ dk_ex G L R N bd B true false j) → ∀ SG ST IN : Nat → Int32, wY_proof_2 post n (nI (m + 1)) (nI G) (nI bd) F S Nx Bg SG ST IN := by
      intro hg SG ST IN
      refine ih (m + 1) SG ST IN n (by omega) (by omega) (fun k hk => ?_)
      by_cases e : k = m
      · rw [e]; exact hg
      · exact hh k (by omega)
    have fin : ¬ dk_ex G L R N bd B false true m → (∀ j, j < m → ¬ dk_ex G L R N bd B true false j) → ∀ SG ST IN : Nat → Int32, post (nI m) (nI G, nI bd, F, S, Nx, Bg, SG, ST, IN) := by
      intro h1 h2
      refine K1 m (by omega) h1 (fun j hj => ⟨?_, h2 j hj⟩)
      rcases hh j hj with a | ⟨i, hi, a⟩
      · exact a
      · exact absurd a (h2 i (by omega))
    refine br_f (nI_nlt (a := 6) (by omega) (by decide)) ?_
    refine dk_yholds wf A (by omega) (fun h SG ST IN => br_t rfl (pk_eq m 0 (fun e => fin h (fun j hj => absurd hj (by omega)) _ _ _) (fun e => ?_))) (fun h SG ST IN => br_f (by decide) (nm_r (nI_1 m) (next (Or.inl h) _ _ _)))
    rw [show nI m - 1 = nI (m - 1) from pk_sub (b := 1) (by omega)]
    refine dk_yleast wf A (by omega) (fun h2 SG ST IN => br_f (by decide) (fin h (fun j hj => h2 j (by omega)) _ _ _)) (fun m2 hm2 _ n2 hn2 g2 _ SG ST IN _ => br_t (nI_pos' (by omega)) (nm_r (nI_1 m) (next (Or.inr ⟨m2, by omega, n2, hn2, g2⟩) _ _ _)))
theorem dk_yproof {post : Int32 → SY → Prop} {SG ST IN : Nat → Int32} (wf : dk_wf G L R N bd B) (A : dk_yar G L R N B F S Nx Bg)
    (K0 : (∀ k, k ≤ 6 → dk_ex G L R N bd B false true k ∨ ∃ j, j < k ∧ dk_ex G L R N bd B true false j) → ∀ SG ST IN : Nat → Int32, post (-1) (nI G, nI bd, F, S, Nx, Bg, SG, ST, IN))
    (K1 : ∀ k, k ≤ 6 → ¬ dk_ex G L R N bd B false true k → (∀ j, j < k → dk_ex G L R N bd B false true j ∧ ¬ dk_ex G L R N bd B true false j) → ∀ SG ST IN : Nat → Int32, post (nI k) (nI G, nI bd, F, S, Nx, Bg, SG, ST, IN)) : wpY_proof post (nI G, nI bd, F, S, Nx, Bg, SG, ST, IN) := by
  unfold wpY_proof
  exact ⟨8, dk_yp2 wf A K0 K1 7 0 SG ST IN 8 (by omega) (by omega) (fun j h => absurd h (by omega))⟩
theorem dk_yref_y {post : Int32 → Prop} {q : Nat} {SG ST IN : Nat → Int32} (hG : G ≤ 10) (hq : q < 2 * (6 + G)) (K : post 0) : wpY_refused post (nI G, nI bd, F, S, Nx, Bg, SG, ST, IN) (nI q) := by
  unfold wpY_refused
  have e : (2 : Int32) * (6 + nI G) = nI (2 * (6 + G)) := by rw [show (6 : Int32) + nI G = nI (6 + G) from nI_add 6 G]; exact pk_mul 2 (6 + G)
  exact br_f (nI_pos (by omega)) (br_t (by rw [e]; exact nI_lt hq (by omega)) K)
theorem dk_yref_n {post : Int32 → Prop} {p : Int32} {SG ST IN : Nat → Int32} (h : p < 0 ∨ nI (2 * (6 + G)) ≤ p) (K : post 1) : wpY_refused post (nI G, nI bd, F, S, Nx, Bg, SG, ST, IN) p := by
  unfold wpY_refused
  have e : (2 : Int32) * (6 + nI G) = nI (2 * (6 + G)) := by rw [show (6 : Int32) + nI G = nI (6 + G) from nI_add 6 G]; exact pk_mul 2 (6 + G)
  refine br_c (fun _ => K) (fun h0 => br_f ?_ K)
  rw [e]
  exact Int32.not_lt.mpr (h.resolve_left h0)
end
end
section
/-! the relation, and what helps to open it -/
def i_Rel (_ : Nat) (u : SX) (v : SY) : Prop := match u, v with
  | (g, bl, _, _, _, _, _, _, aL, aR, aN, aB, _, _, _, _, _), (g', bl', F, S, Nx, Bg, _, _, _) => ∃ (G bd : Nat) (L R N B : Nat → Nat), g = nI G ∧ bl = nI bd ∧ g' = nI G ∧ bl' = nI bd ∧ dk_wf G L R N bd B ∧ dk_xar G L R N B aL aR aN aB ∧ dk_yar G L R N B F S Nx Bg
theorem i_up {k : Nat} {u : SX} {v : SY} (h : i_Rel k u v) : i_Rel (k + 4) u v := h
theorem dk_rel {k : Nat} {G bd : Nat} {L R N B : Nat → Nat} {ls fb df st br ch : Int32} {aL aR aN aB V O CH SB SC F S Nx Bg SG ST IN : Nat → Int32} (wf : dk_wf G L R N bd B) (xa : dk_xar G L R N B aL aR aN aB) (ya : dk_yar G L R N B F S Nx Bg) : i_Rel k (nI G, nI bd, ls, fb, df, st, br, ch, aL, aR, aN, aB, V, O, CH, SB, SC) (nI G, nI bd, F, S, Nx, Bg, SG, ST, IN) :=
  ⟨G, bd, L, R, N, B, rfl, rfl, rfl, rfl, wf, xa, ya⟩
theorem dk_el {k : Nat} {u : SX} {v : SY} (I : i_Rel k u v) {P : SX → SY → Prop} (h : ∀ (G bd : Nat) (L R N B : Nat → Nat) (ls fb df st br ch : Int32) (aL aR aN aB V O CH SB SC F S Nx Bg SG ST IN : Nat → Int32), dk_wf G L R N bd B → dk_xar G L R N B aL aR aN aB → dk_yar G L R N B F S Nx Bg → P (nI G, nI bd, ls, fb, df, st, br, ch, aL, aR, aN, aB, V, O, CH, SB, SC) (nI G, nI bd, F, S, Nx, Bg, SG, ST, IN)) : P u v := by
  obtain ⟨g, bl, ls, fb, df, st, br, ch, aL, aR, aN, aB, V, O, CH, SB, SC⟩ := u
  obtain ⟨g', bl', F, S, Nx, Bg, SG, ST, IN⟩ := v
  obtain ⟨G, bd, L, R, N, B, rfl, rfl, rfl, rfl, wf, xa, ya⟩ := I
  exact h G bd L R N B ls fb df st br ch aL aR aN aB V O CH SB SC F S Nx Bg SG ST IN wf xa ya
def dk_fn (L : Nat → Nat) (k v : Nat) : Nat → Nat := fun j => if j = k then v else L j
theorem dk_fn_s {L : Nat → Nat} {k v : Nat} : dk_fn L k v k = v := if_pos rfl
theorem dk_fn_n {L : Nat → Nat} {k v j : Nat} (h : j ≠ k) : dk_fn L k v j = L j := if_neg h
theorem dk_fn_u {L : Nat → Nat} {a : Nat → Int32} {k v j : Nat} (h : j ≠ k → a j = nI (L j)) : upd a k (nI v) j = nI (dk_fn L k v j) := by
  by_cases e : j = k
  · subst e; rw [pk_us, dk_fn_s]
  · rw [pk_un e, dk_fn_n e]; exact h e
theorem dk_lit (v : Int32) {n : Nat} (hn : n < 2 ^ 31) : (v < 0 ∨ nI n ≤ v) ∨ ∃ a, a < n ∧ v = nI a := by
  rcases pk_ix v hn with h | h | h
  · exact Or.inl (Or.inl h)
  · exact Or.inl (Or.inr h)
  · exact Or.inr h
theorem dk_lat (v : Int32) : v < 1 ∨ (¬ v < 1 ∧ 4 < v) ∨ ∃ l, 1 ≤ l ∧ l < 5 ∧ v = nI l := by
  by_cases h : v < 1
  · exact Or.inl h
  · by_cases h4 : 4 < v
    · exact Or.inr (Or.inl ⟨h, h4⟩)
    · have h0 : ¬ v < 0 := fun z => h (Int32.lt_trans z (by decide))
      obtain ⟨j, hj, rfl⟩ := nI_of h0
      refine Or.inr (Or.inr ⟨j, ?_, ?_, rfl⟩)
      · have : ¬ nI j < nI 1 := h
        rw [nI_ltI hj (by decide)] at this
        omega
      · have : ¬ nI 4 < nI j := h4
        rw [nI_ltI (by decide) hj] at this
        omega
theorem dk_six (v : Int32) {k : Nat} (hk : k < 2 ^ 31) : v < 0 ∨ (¬ v < 0 ∧ ¬ v ≤ nI k) ∨ ∃ l, l ≤ k ∧ v = nI l := by
  by_cases h : v < 0
  · exact Or.inl h
  · obtain ⟨j, hj, rfl⟩ := nI_of h
    by_cases h2 : j ≤ k
    · exact Or.inr (Or.inr ⟨j, h2, rfl⟩)
    · refine Or.inr (Or.inl ⟨h, ?_⟩)
      rw [nI_leI hj hk]
      exact h2
theorem dk_yl_y {post : Int32 → Prop} {l : Nat} (h1 : 1 ≤ l) (h5 : l < 5) (K : post 0) : wpY_badLatch post (nI l) := by
  unfold wpY_badLatch
  exact br_f (nI_nlt (b := 1) h1 (by omega)) (br_t (nI_le (b := 4) (by omega) (by decide)) K)
theorem dk_yl_n {post : Int32 → Prop} {v : Int32} (h : v < 1 ∨ (¬ v < 1 ∧ 4 < v)) (K : post 1) : wpY_badLatch post v := by
  unfold wpY_badLatch
  rcases h with h | ⟨h, h4⟩
  · exact br_t h K
  · exact br_f h (br_f (Int32.not_le.mpr h4) K)
theorem dk_x76 {post : SX → Prop} (K : ∀ aN : Nat → Int32, (∀ l, 1 ≤ l → l < 5 → aN l = nI (2 * l)) → post (0, 0, 0, 0, 0, 0, 0, 0, (fun _ => 0), (fun _ => 0), aN, (fun _ => 0), (fun _ => 0), (fun _ => 0), (fun _ => 0), (fun _ => 0), (fun _ => 0))) : ∀ (d l : Nat) (aN : Nat → Int32) (n : Nat), l + d = 5 → 1 ≤ l → d < n → (∀ l', 1 ≤ l' → l' < l → aN l' = nI (2 * l')) → wX_init_76 post 0 0 0 0 0 0 0 0 n (nI l) (fun _ => 0) (fun _ => 0) aN (fun _ => 0) (fun _ => 0) (fun _ => 0) (fun _ => 0) (fun _ => 0) (fun _ => 0) := by
  intro d
  induction d with
  | zero =>
    intro l aN n hl h1 hn h
    obtain ⟨n, rfl⟩ : ∃ m, n = m + 1 := ⟨n - 1, by omega⟩
    obtain rfl : l = 5 := by omega
    exact br_t (by decide) (K aN h)
  | succ d ih =>
    intro l aN n hl h1 hn h
    obtain ⟨n, rfl⟩ : ∃ m, n = m + 1 := ⟨n - 1, by omega⟩
    refine br_f (nI_ge (b := 5) (by omega) (by decide)) ⟨vp_in_nI (by omega) (by decide), fun A1 e1 => nm_r (nI_1 l) ?_⟩
    rw [nI_clamp (show l < 2 ^ 31 by omega), show (2 : Int32) * nI l = nI (2 * l) from pk_mul 2 l] at e1
    subst e1
    refine ih (l + 1) _ n (by omega) (by omega) (by omega) (fun l' a c => ?_)
    by_cases e : l' = l
    · subst e; exact pk_us
    · rw [pk_un e]; exact h l' a (by omega)
theorem dk_y60 {post : SY → Prop} (K : ∀ Nx : Nat → Int32, (∀ l, 1 ≤ l → l < 5 → Nx l = nI (2 * l)) → post (0, 0, (fun _ => 0), (fun _ => 0), Nx, (fun _ => 0), (fun _ => 0), (fun _ => 0), (fun _ => 0))) : ∀ (d l : Nat) (Nx : Nat → Int32) (n : Nat), l + d = 5 → 1 ≤ l → d < n → (∀ l', 1 ≤ l' → l' < l → Nx l' = nI (2 * l')) → wY_init_60 post 0 0 n (nI l) (fun _ => 0) (fun _ => 0) Nx (fun _ => 0) (fun _ => 0) (fun _ => 0) (fun _ => 0) := by
  intro d
  induction d with
  | zero =>
    intro l Nx n hl h1 hn h
    obtain ⟨n, rfl⟩ : ∃ m, n = m + 1 := ⟨n - 1, by omega⟩
    obtain rfl : l = 5 := by omega
    exact br_t (by decide) (K Nx h)
  | succ d ih =>
    intro l Nx n hl h1 hn h
    obtain ⟨n, rfl⟩ : ∃ m, n = m + 1 := ⟨n - 1, by omega⟩
    refine br_f (nI_ge (b := 5) (by omega) (by decide)) ⟨vp_in_nI (by omega) (by decide), fun A1 e1 => nm_r (nI_1 l) ?_⟩
    rw [nI_clamp (show l < 2 ^ 31 by omega), show (2 : Int32) * nI l = nI (2 * l) from pk_mul 2 l] at e1
    subst e1
    refine ih (l + 1) _ n (by omega) (by omega) (by omega) (fun l' a c => ?_)
    by_cases e : l' = l
    · subst e; exact pk_us
    · rw [pk_un e]; exact h l' a (by omega)
theorem i_vc0 : wpX_init (fun u => wpY_init (fun v => i_Rel 0 u v)) := by
  unfold wpX_init wpY_init
  refine ⟨5, dk_x76 (fun aN hN => ⟨5, dk_y60 (fun Nx hNx => ?_) 4 1 (fun _ => 0) 5 (by omega) (by omega) (by omega) (fun l' a c => absurd a (by omega))⟩) 4 1 (fun _ => 0) 5 (by omega) (by omega) (by omega) (fun l' a c => absurd a (by omega))⟩
  refine ⟨0, 0, fun _ => 0, fun _ => 0, fun l => 2 * l, fun _ => 0, rfl, rfl, rfl, rfl, ⟨by omega, fun g a c => absurd c (by omega), fun l a c => by show 2 * l < _; omega, by omega, fun l a c => by show 0 ≤ 2; omega⟩, ⟨fun g a c => absurd c (by omega), fun l a c => ⟨hN l a c, rfl⟩⟩, ⟨fun k c => absurd c (by omega), fun l a c => ⟨hNx l a c, rfl⟩⟩⟩
end
section
/-! what is owed, a method each -/
theorem i_vc_gate {k : Nat} {u : SX} {v : SY} (I : i_Rel k u v) (hk : k + 4 ≤ 2048) (v1 : Int32) (v2 : Int32) : wpX_gate (fun r u' => wpY_gate (fun r' v' => r' = r ∧ i_Rel (k + 4) u' v') v v1 v2) u v1 v2 := by
  refine dk_el I (P := fun u v => wpX_gate (fun r u' => wpY_gate (fun r' v' => r' = r ∧ i_Rel (k + 4) u' v') v v1 v2) u v1 v2) ?_
  intro G bd L R N B ls fb df st br ch aL aR aN aB V O CH SB SC F S Nx Bg SG ST IN wf xa ya
  obtain ⟨hG, hg, hN, hbd, hB⟩ := id wf
  unfold wpX_gate wpY_gate
  dsimp only
  rcases dk_lit v1 (n := 2 * (6 + G)) (by omega) with h | ⟨a, ha, rfl⟩
  · exact dk_xlit_n h (br_t rfl (dk_yref_n h (br_f (by decide) ⟨rfl, dk_rel wf xa ya⟩)))
  · refine dk_xlit_y hG ha (br_f (by decide) ?_)
    rcases dk_lit v2 (n := 2 * (6 + G)) (by omega) with h | ⟨c, hc, rfl⟩
    · exact dk_xlit_n h (br_t rfl (dk_yref_y hG ha (br_t rfl (dk_yref_n h (br_f (by decide) ⟨rfl, dk_rel wf xa ya⟩)))))
    · refine dk_xlit_y hG hc (br_f (by decide) ?_)
      refine pk_lt G 10 (fun hlt => ?_) (fun hge => ?_)
      · have hi : vp_in (nI (6 + G)) 16 := vp_in_nI (by omega) (by decide)
        have hi2 : vp_in (nI G) 10 := vp_in_nI hlt (by decide)
        rw [show (6 : Int32) + nI G = nI (6 + G) from nI_add 6 G, nI_clamp (show 6 + G < 2 ^ 31 by omega)]
        refine ⟨hi, nm_e ⟨hi, nm_e (nm_r (nI_1 G) ?_)⟩⟩
        refine dk_yref_y hG ha (br_t rfl (dk_yref_y hG hc (br_t rfl (pk_eq G 10 (fun e => absurd e (by omega)) (fun _ => ?_)))))
        rw [nI_clamp (show G < 2 ^ 31 by omega)]
        refine ⟨hi2, nm_e ⟨hi2, nm_e (nm_r (nI_1 G) ⟨rfl, ?_⟩)⟩⟩
        refine dk_rel (G := G + 1) (L := dk_fn L (6 + G) a) (R := dk_fn R (6 + G) c) (N := N) (B := B) ⟨by omega, fun g h6 hg' => ?_, fun l h1 h5 => ?_, by omega, hB⟩ ⟨fun g h6 hg' => ⟨dk_fn_u (fun e => (xa.1 g h6 (by omega)).1), dk_fn_u (fun e => (xa.1 g h6 (by omega)).2)⟩, xa.2⟩ ⟨fun j hj => ?_, ya.2⟩
        · by_cases e : g = 6 + G
          · subst e; rw [dk_fn_s, dk_fn_s]; exact ⟨ha, hc⟩
          · rw [dk_fn_n e, dk_fn_n e]; exact hg g h6 (by omega)
        · have := hN l h1 h5
          omega
        · by_cases e : j = G
          · subst e; rw [pk_us, pk_us, dk_fn_s, dk_fn_s]; exact ⟨rfl, rfl⟩
          · rw [pk_un e, pk_un e, dk_fn_n (by omega), dk_fn_n (by omega)]; exact ya.1 j (by omega)
      · exact dk_yref_y hG ha (br_t rfl (dk_yref_y hG hc (br_t rfl (pk_eq G 10 (fun e => ⟨rfl, dk_rel wf xa ya⟩) (fun e => absurd (show G = 10 by omega) e)))))
theorem i_vc_next {k : Nat} {u : SX} {v : SY} (I : i_Rel k u v) (hk : k + 4 ≤ 2048) (v1 : Int32) (v2 : Int32) : wpX_next (fun r u' => wpY_next (fun r' v' => r' = r ∧ i_Rel (k + 4) u' v') v v1 v2) u v1 v2 := by
  refine dk_el I (P := fun u v => wpX_next (fun r u' => wpY_next (fun r' v' => r' = r ∧ i_Rel (k + 4) u' v') v v1 v2) u v1 v2) ?_
  intro G bd L R N B ls fb df st br ch aL aR aN aB V O CH SB SC F S Nx Bg SG ST IN wf xa ya
  obtain ⟨hG, hg, hN, hbd, hB⟩ := id wf
  unfold wpX_next wpY_next
  dsimp only
  rcases dk_lat v1 with h | h | ⟨l, h1, h5, rfl⟩
  · exact br_t h (dk_yl_n (Or.inl h) (br_f (by decide) ⟨rfl, dk_rel wf xa ya⟩))
  · exact br_f h.1 (br_t h.2 (dk_yl_n (Or.inr h) (br_f (by decide) ⟨rfl, dk_rel wf xa ya⟩)))
  · refine br_f (nI_nlt (b := 1) h1 (by omega)) (br_f (nI_nlt (a := 4) (by omega) (by decide)) ?_)
    have hi : vp_in (nI l) 5 := vp_in_nI h5 (by decide)
    rcases dk_lit v2 (n := 2 * (6 + G)) (by omega) with h | ⟨c, hc, rfl⟩
    · exact dk_xlit_n h (br_t rfl (dk_yl_y h1 h5 (br_t rfl (dk_yref_n h (br_f (by decide) ⟨rfl, dk_rel wf xa ya⟩)))))
    · refine dk_xlit_y hG hc (br_f (by decide) ?_)
      rw [nI_clamp (show l < 2 ^ 31 by omega)]
      refine ⟨hi, nm_e ⟨hi, nm_e (dk_yl_y h1 h5 (br_t rfl (dk_yref_y hG hc (br_t rfl ⟨hi, nm_e ⟨hi, nm_e ⟨?_, ?_⟩⟩⟩))))⟩⟩
      · rw [(ya.2 l h1 h5).1, (xa.2 l h1 h5).1]
      · refine dk_rel (G := G) (L := L) (R := R) (N := dk_fn N l c) (B := B) ⟨hG, hg, fun j a b => ?_, hbd, hB⟩ ⟨xa.1, fun j a b => ⟨dk_fn_u (fun _ => (xa.2 j a b).1), (xa.2 j a b).2⟩⟩ ⟨ya.1, fun j a b => ⟨dk_fn_u (fun _ => (ya.2 j a b).1), (ya.2 j a b).2⟩⟩
        by_cases e : j = l
        · subst e; rw [dk_fn_s]; exact hc
        · rw [dk_fn_n e]; exact hN j a b
theorem i_vc_begin {k : Nat} {u : SX} {v : SY} (I : i_Rel k u v) (hk : k + 4 ≤ 2048) (v1 : Int32) (v2 : Int32) : wpX_begin (fun r u' => wpY_begin (fun r' v' => r' = r ∧ i_Rel (k + 4) u' v') v v1 v2) u v1 v2 := by
  refine dk_el I (P := fun u v => wpX_begin (fun r u' => wpY_begin (fun r' v' => r' = r ∧ i_Rel (k + 4) u' v') v v1 v2) u v1 v2) ?_
  intro G bd L R N B ls fb df st br ch aL aR aN aB V O CH SB SC F S Nx Bg SG ST IN wf xa ya
  obtain ⟨hG, hg, hN, hbd, hB⟩ := id wf
  unfold wpX_begin wpY_begin
  dsimp only
  rcases dk_lat v1 with h | h | ⟨l, h1, h5, rfl⟩
  · exact br_t h (dk_yl_n (Or.inl h) (br_f (by decide) ⟨rfl, dk_rel wf xa ya⟩))
  · exact br_f h.1 (br_t h.2 (dk_yl_n (Or.inr h) (br_f (by decide) ⟨rfl, dk_rel wf xa ya⟩)))
  · refine br_f (nI_nlt (b := 1) h1 (by omega)) (br_f (nI_nlt (a := 4) (by omega) (by decide)) ?_)
    have hi : vp_in (nI l) 5 := vp_in_nI h5 (by decide)
    rcases dk_six v2 (k := 2) (by decide) with h | h | ⟨c, hc, rfl⟩
    · exact br_t h (dk_yl_y h1 h5 (br_t rfl (br_t h ⟨rfl, dk_rel wf xa ya⟩)))
    · exact br_f h.1 (br_f h.2 (dk_yl_y h1 h5 (br_t rfl (br_f h.1 (br_f h.2 ⟨rfl, dk_rel wf xa ya⟩)))))
    · have c0 : ¬ nI c < 0 := nI_pos (by omega)
      have c2 : nI c ≤ 2 := nI_le (b := 2) hc (by decide)
      refine br_f c0 (br_t c2 ?_)
      rw [nI_clamp (show l < 2 ^ 31 by omega)]
      refine ⟨hi, nm_e (dk_yl_y h1 h5 (br_t rfl (br_f c0 (br_t c2 ⟨hi, nm_e ⟨rfl, ?_⟩⟩))))⟩
      refine dk_rel (G := G) (L := L) (R := R) (N := N) (B := dk_fn B l c) ⟨hG, hg, hN, hbd, fun j a b => ?_⟩ ⟨xa.1, fun j a b => ⟨(xa.2 j a b).1, dk_fn_u (fun _ => (xa.2 j a b).2)⟩⟩ ⟨ya.1, fun j a b => ⟨(ya.2 j a b).1, dk_fn_u (fun _ => (ya.2 j a b).2)⟩⟩
      by_cases e : j = l
      · subst e; rw [dk_fn_s]; exact hc
      · rw [dk_fn_n e]; exact hB j a b
theorem i_vc_bad {k : Nat} {u : SX} {v : SY} (I : i_Rel k u v) (hk : k + 4 ≤ 2048) (v1 : Int32) : wpX_bad (fun r u' => wpY_bad (fun r' v' => r' = r ∧ i_Rel (k + 4) u' v') v v1) u v1 := by
  refine dk_el I (P := fun u v => wpX_bad (fun r u' => wpY_bad (fun r' v' => r' = r ∧ i_Rel (k + 4) u' v') v v1) u v1) ?_
  intro G bd L R N B ls fb df st br ch aL aR aN aB V O CH SB SC F S Nx Bg SG ST IN wf xa ya
  obtain ⟨hG, hg, hN, hbd, hB⟩ := id wf
  unfold wpX_bad wpY_bad
  dsimp only
  rcases dk_lit v1 (n := 2 * (6 + G)) (by omega) with h | ⟨a, ha, rfl⟩
  · exact dk_xlit_n h (br_t rfl (dk_yref_n h (br_f (by decide) ⟨rfl, dk_rel wf xa ya⟩)))
  · exact dk_xlit_y hG ha (br_f (by decide) (dk_yref_y hG ha (br_t rfl ⟨rfl, dk_rel ⟨hG, hg, hN, ha, hB⟩ xa ya⟩)))
theorem i_vc_value {k : Nat} {u : SX} {v : SY} (I : i_Rel k u v) (hk : k + 4 ≤ 2048) (v1 : Int32) (v2 : Int32) (v3 : Int32) : wpX_value (fun r u' => wpY_value (fun r' v' => r' = r ∧ i_Rel (k + 4) u' v') v v1 v2 v3) u v1 v2 v3 := by
  refine dk_el I (P := fun u v => wpX_value (fun r u' => wpY_value (fun r' v' => r' = r ∧ i_Rel (k + 4) u' v') v v1 v2 v3) u v1 v2 v3) ?_
  intro G bd L R N B ls fb df st br ch aL aR aN aB V O CH SB SC F S Nx Bg SG ST IN wf xa ya
  obtain ⟨hG, hg, hN, hbd, hB⟩ := id wf
  rcases dk_lit v1 (n := 2 * (6 + G)) (by omega) with h | ⟨a, ha, rfl⟩
  · unfold wpX_value wpY_value
    dsimp only
    exact dk_xlit_n h (br_t rfl (dk_yref_n h (br_f (by decide) ⟨rfl, dk_rel wf xa ya⟩)))
  · rcases dk_six v2 (k := 15) (by decide) with h | h | ⟨c, hc, rfl⟩
    · unfold wpX_value wpY_value
      dsimp only
      exact dk_xlit_y hG ha (br_f (by decide) (br_t h (dk_yref_y hG ha (br_t rfl (br_t h ⟨rfl, dk_rel wf xa ya⟩)))))
    · unfold wpX_value wpY_value
      dsimp only
      exact dk_xlit_y hG ha (br_f (by decide) (br_f h.1 (br_f h.2 (dk_yref_y hG ha (br_t rfl (br_f h.1 (br_f h.2 ⟨rfl, dk_rel wf xa ya⟩)))))))
    · obtain ⟨i, hx⟩ := dk_low v3
      refine dk_xvalue wf xa ha (by omega) hx (fun V O CH SB SC l' f' d' s' b' c' => ?_)
      unfold wpY_value
      dsimp only
      refine dk_yref_y hG ha (br_t rfl (br_f (nI_pos (by omega)) (br_t (nI_le (b := 15) hc (by decide)) ?_)))
      exact dk_ywork wf ya (by omega) hx (fun SG h => dk_yof (e := dk_ev G L R c i) (by omega) (h _ (by omega)) ⟨rfl, dk_rel wf xa ya⟩)
theorem dk_one {P : Nat → Prop} {m m' : Nat} (h : P m) (hl : ∀ j, j < m → ¬ P j) (h' : P m') (hl' : ∀ j, j < m' → ¬ P j) : m = m' := by
  rcases Nat.lt_trichotomy m m' with a | a | a
  · exact absurd h (hl' m a)
  · exact a
  · exact absurd h' (hl m' a)
theorem i_vc_depth {k : Nat} {u : SX} {v : SY} (I : i_Rel k u v) (hk : k + 4 ≤ 2048) (v1 : Int32) : wpX_depth (fun r u' => wpY_depth (fun r' v' => r' = r ∧ i_Rel (k + 4) u' v') v v1) u v1 := by
  refine dk_el I (P := fun u v => wpX_depth (fun r u' => wpY_depth (fun r' v' => r' = r ∧ i_Rel (k + 4) u' v') v v1) u v1) ?_
  intro G bd L R N B ls fb df st br ch aL aR aN aB V O CH SB SC F S Nx Bg SG ST IN wf xa ya
  rcases dk_six v1 (k := 6) (by decide) with h | h | ⟨c, hc, rfl⟩
  · unfold wpX_depth wpY_depth
    dsimp only
    exact br_t h (br_t h ⟨rfl, dk_rel wf xa ya⟩)
  · unfold wpX_depth wpY_depth
    dsimp only
    exact br_f h.1 (br_f h.2 (br_f h.1 (br_f h.2 ⟨rfl, dk_rel wf xa ya⟩)))
  · have c0 : ¬ nI c < 0 := nI_pos (by omega)
    have c6 : nI c ≤ 6 := nI_le (b := 6) hc (by decide)
    refine dk_xdepth wf xa hc (fun hno V O CH SB SC l' f' d' s' b' c' => ?_) (fun m hm hlt n hn g hl V O CH SB SC l' f' d' s' b' c' hf => ?_)
    · unfold wpY_depth
      refine br_f c0 (br_t c6 (dk_yleast wf ya hc (fun _ SG ST IN => ⟨rfl, dk_rel wf xa ya⟩) (fun m' hm' _ n' hn' g' _ SG ST IN _ => absurd ⟨n', hn', g'⟩ (hno m' hm'))))
    · unfold wpY_depth
      refine br_f c0 (br_t c6 (dk_yleast wf ya hc (fun hno SG ST IN => absurd ⟨n, hn, g⟩ (hno m hm)) (fun m' hm' hlt' n' hn' g' _ SG ST IN _ => ?_)))
      obtain rfl := dk_one (P := dk_ex G L R N bd B true false) ⟨n, hn, g⟩ hlt ⟨n', hn', g'⟩ hlt'
      exact ⟨rfl, dk_rel wf xa ya⟩
theorem i_vc_holds {k : Nat} {u : SX} {v : SY} (I : i_Rel k u v) (hk : k + 4 ≤ 2048) (v1 : Int32) : wpX_holds (fun r u' => wpY_holds (fun r' v' => r' = r ∧ i_Rel (k + 4) u' v') v v1) u v1 := by
  refine dk_el I (P := fun u v => wpX_holds (fun r u' => wpY_holds (fun r' v' => r' = r ∧ i_Rel (k + 4) u' v') v v1) u v1) ?_
  intro G bd L R N B ls fb df st br ch aL aR aN aB V O CH SB SC F S Nx Bg SG ST IN wf xa ya
  rcases dk_six v1 (k := 6) (by decide) with h | h | ⟨c, hc, rfl⟩
  · unfold wpX_holds wpY_holds
    dsimp only
    exact br_t h (br_t h ⟨rfl, dk_rel wf xa ya⟩)
  · unfold wpX_holds wpY_holds
    dsimp only
    exact br_f h.1 (br_f h.2 (br_f h.1 (br_f h.2 ⟨rfl, dk_rel wf xa ya⟩)))
  · refine dk_xholds wf xa hc (fun hno V O CH SB SC l' f' d' s' b' c' => ?_) (fun hex V O CH SB SC l' f' d' s' b' c' => ?_)
    · exact dk_yholds wf ya hc (fun _ SG ST IN => ⟨rfl, dk_rel wf xa ya⟩) (fun h => absurd h hno)
    · exact dk_yholds wf ya hc (fun h => absurd hex h) (fun _ SG ST IN => ⟨rfl, dk_rel wf xa ya⟩)
theorem i_vc_proof {k : Nat} {u : SX} {v : SY} (I : i_Rel k u v) (hk : k + 4 ≤ 2048) : wpX_proof (fun r u' => wpY_proof (fun r' v' => r' = r ∧ i_Rel (k + 4) u' v') v) u := by
  refine dk_el I (P := fun u v => wpX_proof (fun r u' => wpY_proof (fun r' v' => r' = r ∧ i_Rel (k + 4) u' v') v) u) ?_
  intro G bd L R N B ls fb df st br ch aL aR aN aB V O CH SB SC F S Nx Bg SG ST IN wf xa ya
  have no : ∀ c, c ≤ 6 → ¬ dk_ex G L R N bd B false true c → (∀ j, j < c → dk_ex G L R N bd B false true j ∧ ¬ dk_ex G L R N bd B true false j) → ¬ ∀ c, c ≤ 6 → dk_ex G L R N bd B false true c ∨ ∃ j, j < c ∧ dk_ex G L R N bd B true false j := by
    intro c hc h1 h2 h
    rcases h c hc with a | ⟨j, hj, a⟩
    · exact h1 a
    · exact (h2 j hj).2 a
  refine dk_xproof wf xa (fun hno V O CH SB SC l' f' d' s' b' c' => ?_) (fun c hc h1 h2 V O CH SB SC l' f' d' s' b' c' => ?_)
  · exact dk_yproof wf ya (fun _ SG ST IN => ⟨rfl, dk_rel wf xa ya⟩) (fun c hc h1 h2 => absurd hno (no c hc h1 h2))
  · refine dk_yproof wf ya (fun h => absurd h (no c hc h1 h2)) (fun c2 hc2 g1 g2 SG ST IN => ?_)
    obtain rfl := dk_one (P := fun j => ¬ dk_ex G L R N bd B false true j) h1 (fun j hj z => z (h2 j hj).1) g1 (fun j hj z => z (g2 j hj).1)
    exact ⟨rfl, dk_rel wf xa ya⟩
theorem i_vc_witness {k : Nat} {u : SX} {v : SY} (I : i_Rel k u v) (hk : k + 4 ≤ 2048) (v1 : Int32) : wpX_witness (fun r u' => wpY_witness (fun r' v' => r' = r ∧ i_Rel (k + 4) u' v') v v1) u v1 := by
  refine dk_el I (P := fun u v => wpX_witness (fun r u' => wpY_witness (fun r' v' => r' = r ∧ i_Rel (k + 4) u' v') v v1) u v1) ?_
  intro G bd L R N B ls fb df st br ch aL aR aN aB V O CH SB SC F S Nx Bg SG ST IN wf xa ya
  refine dk_xwit wf xa (fun hno V O CH SB SC l' f' d' s' b' c' => ?_) (fun m hm hlt n hn g hl V O CH SB SC l' f' d' s' b' c' => ⟨fun hout => ?_, fun i hi e => ?_⟩)
  · unfold wpY_witness
    refine dk_yleast (k := 6) wf ya (by omega) (fun _ SG ST IN => br_c (fun _ => ⟨rfl, dk_rel wf xa ya⟩) (fun h0 => br_f (fun z => h0 (Int32.lt_of_le_of_lt z (by decide))) ⟨rfl, dk_rel wf xa ya⟩)) (fun m' hm' _ n' hn' g' _ SG ST IN _ => absurd ⟨n', hn', g'⟩ (hno m' hm'))
  · unfold wpY_witness
    refine dk_yleast (k := 6) wf ya (by omega) (fun hno SG ST IN => absurd ⟨n, hn, g⟩ (hno m hm)) (fun m' hm' hlt' n' hn' g' hl' SG ST IN hs => ?_)
    obtain rfl := dk_one (P := dk_ex G L R N bd B true false) ⟨n, hn, g⟩ hlt ⟨n', hn', g'⟩ hlt'
    exact br_c (fun _ => ⟨rfl, dk_rel wf xa ya⟩) (fun h0 => br_f (hout.resolve_left h0) ⟨rfl, dk_rel wf xa ya⟩)
  · subst e
    unfold wpY_witness
    refine dk_yleast (k := 6) wf ya (by omega) (fun hno SG ST IN => absurd ⟨n, hn, g⟩ (hno m hm)) (fun m' hm' hlt' n' hn' g' hl' SG ST IN hs => ?_)
    obtain rfl := dk_one (P := dk_ex G L R N bd B true false) ⟨n, hn, g⟩ hlt ⟨n', hn', g'⟩ hlt'
    obtain rfl := dk_one (P := dk_good G L R N bd B m true false) g hl g' hl'
    refine br_f (nI_pos (by omega)) (br_t (nI_le hi (by omega)) ⟨vp_in_nI (by omega) (by decide), ?_, dk_rel wf xa ya⟩)
    rw [nI_clamp (by omega)]
    exact (hs i hi).1
theorem i_vc_input {k : Nat} {u : SX} {v : SY} (I : i_Rel k u v) (hk : k + 4 ≤ 2048) (v1 : Int32) : wpX_input (fun r u' => wpY_input (fun r' v' => r' = r ∧ i_Rel (k + 4) u' v') v v1) u v1 := by
  refine dk_el I (P := fun u v => wpX_input (fun r u' => wpY_input (fun r' v' => r' = r ∧ i_Rel (k + 4) u' v') v v1) u v1) ?_
  intro G bd L R N B ls fb df st br ch aL aR aN aB V O CH SB SC F S Nx Bg SG ST IN wf xa ya
  refine dk_xinp wf xa (fun hno V O CH SB SC l' f' d' s' b' c' => ?_) (fun m hm hlt n hn g hl V O CH SB SC l' f' d' s' b' c' => ⟨fun hout => ?_, fun i hi e => ?_⟩)
  · unfold wpY_input
    refine dk_yleast (k := 6) wf ya (by omega) (fun _ SG ST IN => br_c (fun _ => ⟨rfl, dk_rel wf xa ya⟩) (fun h0 => br_f (fun z => h0 (Int32.lt_of_le_of_lt z (by decide))) ⟨rfl, dk_rel wf xa ya⟩)) (fun m' hm' _ n' hn' g' _ SG ST IN _ => absurd ⟨n', hn', g'⟩ (hno m' hm'))
  · unfold wpY_input
    refine dk_yleast (k := 6) wf ya (by omega) (fun hno SG ST IN => absurd ⟨n, hn, g⟩ (hno m hm)) (fun m' hm' hlt' n' hn' g' hl' SG ST IN hs => ?_)
    obtain rfl := dk_one (P := dk_ex G L R N bd B true false) ⟨n, hn, g⟩ hlt ⟨n', hn', g'⟩ hlt'
    exact br_c (fun _ => ⟨rfl, dk_rel wf xa ya⟩) (fun h0 => br_f (hout.resolve_left h0) ⟨rfl, dk_rel wf xa ya⟩)
  · subst e
    unfold wpY_input
    refine dk_yleast (k := 6) wf ya (by omega) (fun hno SG ST IN => absurd ⟨n, hn, g⟩ (hno m hm)) (fun m' hm' hlt' n' hn' g' hl' SG ST IN hs => ?_)
    obtain rfl := dk_one (P := dk_ex G L R N bd B true false) ⟨n, hn, g⟩ hlt ⟨n', hn', g'⟩ hlt'
    obtain rfl := dk_one (P := dk_good G L R N bd B m true false) g hl g' hl'
    refine br_f (nI_pos (by omega)) (br_t (nI_le hi (by omega)) ⟨vp_in_nI (by omega) (by decide), ?_, dk_rel wf xa ya⟩)
    rw [nI_clamp (by omega)]
    exact (hs i hi).2
end
