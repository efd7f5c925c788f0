section
/-! rows pasted from the kit (starting text): PURE-ROWS, BITS -/
theorem pk_us {f : Nat → Int32} {k : Nat} {x : Int32} : upd f k x k = x := if_pos rfl
theorem pk_un {f : Nat → Int32} {k j : Nat} {x : Int32} (h : j ≠ k) : upd f k x j = f j := if_neg h
theorem pk_sub {a b : Nat} (h : b ≤ a) : nI a - nI b = nI (a - b) := by
  obtain ⟨c, rfl⟩ : ∃ c, a = c + b := ⟨a - b, by omega⟩
  rw [← nI_add, Int32.add_sub_cancel, Nat.add_sub_cancel]
theorem pk_m1 (n : Nat) : nI (n + 1) + (-1) = nI n := by
  rw [← nI_1, Int32.add_assoc, show (1 : Int32) + (-1) = 0 from rfl, Int32.add_zero]
theorem pk_mul (a b : Nat) : nI a * nI b = nI (a * b) := (Int32.ofNat_mul a b).symm
theorem pk_div {a d : Nat} (ha : a < 2 ^ 31) (h0 : 0 < d) (hd : d < 2 ^ 31) : nI a / nI d = nI (a / d) := by
  apply Int32.toInt_inj.mp
  rw [lg_idiv_nonneg (by rw [nI_toInt ha]; omega) (by rw [nI_toInt hd]; omega), nI_toInt ha, nI_toInt hd, nI_toInt (Nat.lt_of_le_of_lt (Nat.div_le_self a d) ha)]
  first | rfl | exact (Int.natCast_ediv _ _).symm
theorem pk_rem {a d : Nat} (ha : a < 2 ^ 31) (h0 : 0 < d) (hd : d < 2 ^ 31) : nI a - nI a / nI d * nI d = nI (a % d) := by
  rw [pk_div ha h0 hd, pk_mul, pk_sub (Nat.div_mul_le_self a d)]
  exact congrArg nI (by have := Nat.div_add_mod' a d; omega)
theorem pk_sub_toInt {a b : Nat} (ha : a < 2 ^ 30) (hb : b < 2 ^ 30) : (nI a - nI b).toInt = (a : Int) - b := by
  rw [Int32.toInt_sub, nI_toInt (by omega), nI_toInt (by omega)]
  exact Int.bmod_eq_of_le (by omega) (by omega)
theorem pk_sneg {a b : Nat} (hb : b < 2 ^ 30) (h : a < b) : nI a - nI b < 0 := by
  rw [Int32.lt_iff_toInt_lt, pk_sub_toInt (by omega) hb, show (0 : Int32).toInt = 0 from by decide]
  omega
theorem pk_ix (x : Int32) {n : Nat} (hn : n < 2 ^ 31) : x < 0 ∨ nI n ≤ x ∨ ∃ j : Nat, j < n ∧ x = nI j := by
  by_cases h : x < 0
  · exact Or.inl h
  · obtain ⟨j, hj, rfl⟩ := nI_of h
    by_cases h2 : j < n
    · exact Or.inr (Or.inr ⟨j, h2, rfl⟩)
    · exact Or.inr (Or.inl (nI_le (by omega) hj))
theorem pk_le {x y : Int32} {A B : Prop} (a b : Nat) (f : a ≤ b → A) (g : b < a → B) (hx : x = nI a := by rfl) (hy : y = nI b := by rfl) (ha : a < 2 ^ 31 := by omega) (hb : b < 2 ^ 31 := by omega) : (x ≤ y → A) ∧ (¬ x ≤ y → B) := by
  subst hx hy
  rw [nI_leI ha hb]
  exact ⟨f, fun z => g (by omega)⟩
theorem pk_lt {x y : Int32} {A B : Prop} (a b : Nat) (f : a < b → A) (g : b ≤ a → B) (hx : x = nI a := by rfl) (hy : y = nI b := by rfl) (ha : a < 2 ^ 31 := by omega) (hb : b < 2 ^ 31 := by omega) : (x < y → A) ∧ (¬ x < y → B) := by
  subst hx hy
  rw [nI_ltI ha hb]
  exact ⟨f, fun z => g (by omega)⟩
theorem pk_eq {x y : Int32} {A B : Prop} (a b : Nat) (f : a = b → A) (g : a ≠ b → B) (hx : x = nI a := by rfl) (hy : y = nI b := by rfl) (ha : a < 2 ^ 31 := by omega) (hb : b < 2 ^ 31 := by omega) : (x = y → A) ∧ (¬ x = y → B) := by
  subst hx hy
  rw [nI_eq ha hb]
  exact ⟨f, g⟩
theorem pk_in {x : Int32} (n N : Nat) (h : n < N) (hx : x = nI n := by rfl) (hN : N < 2 ^ 31 := by omega) : vp_in x N := by
  subst hx
  exact vp_in_nI h hN
theorem pk_cl {x : Int32} (n : Nat) (hx : x = nI n := by rfl) (h : n < 2 ^ 31 := by omega) : x.toNatClampNeg = n := by
  subst hx
  exact nI_clamp h
theorem pk_tn {n : Nat} (h : n < 2 ^ 32) : (nI n).toBitVec.toNat = n := Nat.mod_eq_of_lt h
theorem pk_and (x : Int32) {m : Int32} (k : Nat) (hm : m.toBitVec.toNat = 2 ^ k - 1) : x &&& m = nI (x.toBitVec.toNat % 2 ^ k) := by
  apply Int32.toBitVec_inj.mp
  apply BitVec.eq_of_toNat_eq
  rw [Int32.toBitVec_and, BitVec.toNat_and, hm, Nat.and_two_pow_sub_one_eq_mod]
  show _ = (BitVec.ofNat 32 _).toNat
  rw [BitVec.toNat_ofNat]
  exact (Nat.mod_eq_of_lt (Nat.lt_of_le_of_lt (Nat.mod_le _ _) x.toBitVec.isLt)).symm
theorem pk_andN {n : Nat} (h : n < 2 ^ 32) {m : Int32} (k : Nat) (hm : m.toBitVec.toNat = 2 ^ k - 1) : nI n &&& m = nI (n % 2 ^ k) := by
  rw [pk_and _ k hm, pk_tn h]
theorem pk_andE (x : Int32) {m : Int32} (k : Nat) (hm : m.toBitVec.toNat = 2 ^ k - 1) : ∃ j : Nat, j < 2 ^ k ∧ x &&& m = nI j := ⟨_, Nat.mod_lt _ (Nat.two_pow_pos k), pk_and x k hm⟩
theorem pk_andIn (x : Int32) {m : Int32} (k : Nat) (hm : m.toBitVec.toNat = 2 ^ k - 1) (hk : k ≤ 30) : vp_in (x &&& m) (2 ^ k) := by
  obtain ⟨j, hj, e⟩ := pk_andE x k hm
  rw [e]
  exact vp_in_nI hj (Nat.lt_of_le_of_lt (Nat.pow_le_pow_right (by decide) hk) (by decide))
theorem pk_shl (a s : Int32) (k : Nat) (hs : (s.toBitVec.smod 32).toNat = k) : (a <<< s).toBitVec.toNat = a.toBitVec.toNat * 2 ^ k % 2 ^ 32 := by
  show (a.toBitVec <<< (s.toBitVec.smod 32).toNat).toNat = _
  rw [hs, BitVec.toNat_shiftLeft, Nat.shiftLeft_eq]
theorem pk_shlN {n : Nat} (s : Int32) (k : Nat) (hs : (s.toBitVec.smod 32).toNat = k) (h : n * 2 ^ k < 2 ^ 32) : nI n <<< s = nI (n * 2 ^ k) := by
  apply Int32.toBitVec_inj.mp
  apply BitVec.eq_of_toNat_eq
  have hn : n < 2 ^ 32 := Nat.lt_of_le_of_lt (Nat.le_mul_of_pos_right n (Nat.two_pow_pos k)) h
  rw [pk_shl _ _ k hs, pk_tn hn, pk_tn h, Nat.mod_eq_of_lt h]
theorem pk_shr (a s : Int32) (k : Nat) (hs : (s.toBitVec.smod 32).toNat = k) : (a >>> s).toInt = a.toInt >>> k := by
  show (a.toBitVec.sshiftRight (s.toBitVec.smod 32).toNat).toInt = _
  rw [hs, BitVec.toInt_sshiftRight]
  rfl
theorem pk_shrN {n : Nat} (h : n < 2 ^ 31) (s : Int32) (k : Nat) (hs : (s.toBitVec.smod 32).toNat = k) : nI n >>> s = nI (n / 2 ^ k) := by
  apply Int32.toInt_inj.mp
  have h2 : n / 2 ^ k ≤ n := Nat.div_le_self _ _
  rw [pk_shr _ _ k hs, nI_toInt h, nI_toInt (by omega), Int.shiftRight_eq_div_pow]
  rfl
theorem pk_ushr (x s : Int32) (k : Nat) (hs : ((s.toUInt32 &&& Int32.toUInt32 31).toBitVec % 32).toNat = k) : (x.toUInt32 >>> (s.toUInt32 &&& Int32.toUInt32 31)).toInt32.toBitVec.toNat = x.toBitVec.toNat / 2 ^ k := by
  have e : (x.toUInt32 >>> (s.toUInt32 &&& Int32.toUInt32 31)).toInt32.toBitVec = x.toBitVec >>> k := by
    rw [← hs]
    exact UInt32.toBitVec_shiftRight _ _
  rw [e, BitVec.toNat_ushiftRight, Nat.shiftRight_eq_div_pow]
theorem pk_ushrN {n : Nat} (hn : n < 2 ^ 32) (s : Int32) (k : Nat) (hs : ((s.toUInt32 &&& Int32.toUInt32 31).toBitVec % 32).toNat = k) : ((nI n).toUInt32 >>> (s.toUInt32 &&& Int32.toUInt32 31)).toInt32 = nI (n / 2 ^ k) := by
  apply Int32.toBitVec_inj.mp
  apply BitVec.eq_of_toNat_eq
  rw [pk_ushr _ s k hs, pk_tn hn, pk_tn (Nat.lt_of_le_of_lt (Nat.div_le_self _ _) hn)]
theorem sb_m1 {p : Nat} (h : 0 < p) : nI p + (-1) = nI (p - 1) := by
  obtain ⟨q, rfl⟩ : ∃ q, p = q + 1 := ⟨p - 1, by omega⟩
  exact pk_m1 q
def bt (x : Int32) (i : Nat) : Bool := x.toBitVec.getLsbD i
theorem b_ext {x y : Int32} (h : ∀ i, i < 32 → bt x i = bt y i) : x = y := Int32.toBitVec_inj.mp (BitVec.eq_of_getLsbD_eq (fun i hi => h i hi))
theorem b_or (x y : Int32) (i : Nat) : bt (x ||| y) i = (bt x i || bt y i) := by unfold bt; rw [Int32.toBitVec_or, BitVec.getLsbD_or]
theorem b_and (x y : Int32) (i : Nat) : bt (x &&& y) i = (bt x i && bt y i) := by unfold bt; rw [Int32.toBitVec_and, BitVec.getLsbD_and]
theorem b_xor (x y : Int32) (i : Nat) : bt (x ^^^ y) i = (bt x i ^^ bt y i) := by unfold bt; rw [Int32.toBitVec_xor, BitVec.getLsbD_xor]
theorem b_big {x : Int32} {i : Nat} (h : 32 ≤ i) : bt x i = false := BitVec.getLsbD_of_ge _ _ h
theorem b_m1 : ∀ i, i < 32 → bt (-1) i = true := by decide +kernel
theorem b_0 (i : Nat) : bt 0 i = false := BitVec.getLsbD_zero
theorem s_l : ∀ n, n < 32 → ((nI n &&& 31).toBitVec.smod 32).toNat = n := by decide +kernel
theorem s_u : ∀ n, n < 32 → (((nI n).toUInt32 &&& Int32.toUInt32 31).toBitVec % 32).toNat = n := by decide +kernel
theorem b_shl (n : Nat) (hn : n < 32) (x : Int32) {i : Nat} (hi : i < 32) : bt (x <<< (nI n &&& 31)) i = (decide (n ≤ i) && bt x (i - n)) := by
  unfold bt
  rw [Int32.toBitVec_shiftLeft]
  show (x.toBitVec <<< ((nI n &&& 31).toBitVec.smod 32).toNat).getLsbD i = _
  rw [s_l n hn, BitVec.getLsbD_shiftLeft]
  rcases Nat.lt_or_ge i n with h | h
  · simp [h, Nat.not_le.mpr h]
  · simp [hi, h, Nat.not_lt.mpr h]
theorem b_ushr (n : Nat) (hn : n < 32) (x : Int32) (i : Nat) : bt ((x.toUInt32 >>> ((nI n).toUInt32 &&& Int32.toUInt32 31)).toInt32) i = bt x (n + i) := by
  show (x.toUInt32 >>> ((nI n).toUInt32 &&& Int32.toUInt32 31)).toBitVec.getLsbD i = x.toUInt32.toBitVec.getLsbD (n + i)
  rw [UInt32.toBitVec_shiftRight]
  show (x.toUInt32.toBitVec >>> (((nI n).toUInt32 &&& Int32.toUInt32 31).toBitVec % 32).toNat).getLsbD i = _
  rw [s_u n hn, BitVec.getLsbD_ushiftRight]
theorem b_sshr (n : Nat) (hn : n < 32) (x : Int32) {i : Nat} (hi : i < 32) : bt (x >>> (nI n &&& 31)) i = if n + i < 32 then bt x (n + i) else bt x 31 := by
  unfold bt
  rw [Int32.toBitVec_shiftRight]
  show (x.toBitVec.sshiftRight ((nI n &&& 31).toBitVec.smod 32).toNat).getLsbD i = _
  rw [s_l n hn, BitVec.getLsbD_sshiftRight, BitVec.msb_eq_getLsbD_last]
  simp [hi]
theorem wb_of32 (x : Int32) : ∃ n, n < 2 ^ 32 ∧ x = nI n := ⟨x.toBitVec.toNat, x.toBitVec.isLt, Int32.toBitVec_inj.mp (by show _ = BitVec.ofNat 32 _; simp)⟩
end
section
/-! counts and sums over an initial part of the naturals -/
noncomputable def ca_b (p : Prop) : Nat := @ite Nat p (Classical.propDecidable p) 1 0
theorem ca_bt {p : Prop} (h : p) : ca_b p = 1 := by unfold ca_b; rw [if_pos h]
theorem ca_bf {p : Prop} (h : ¬ p) : ca_b p = 0 := by unfold ca_b; rw [if_neg h]
theorem ca_b1 (p : Prop) : ca_b p ≤ 1 := by
  by_cases h : p
  · rw [ca_bt h]; omega
  · rw [ca_bf h]; omega
theorem ca_bc {p q : Prop} (h : p ↔ q) : ca_b p = ca_b q := by rw [propext h]
def ca_s (f : Nat → Nat) : Nat → Nat
  | 0 => 0
  | n + 1 => ca_s f n + f n
theorem ca_s0 (f : Nat → Nat) : ca_s f 0 = 0 := rfl
theorem ca_ss (f : Nat → Nat) (n : Nat) : ca_s f (n + 1) = ca_s f n + f n := rfl
theorem ca_sc {f g : Nat → Nat} : ∀ {n : Nat}, (∀ i, i < n → f i = g i) → ca_s f n = ca_s g n := by
  intro n
  induction n with
  | zero => intro _; rfl
  | succ n ih => intro h; rw [ca_ss, ca_ss, ih (fun i hi => h i (by omega)), h n (by omega)]
theorem ca_sadd {f g : Nat → Nat} : ∀ n : Nat, ca_s (fun i => f i + g i) n = ca_s f n + ca_s g n := by
  intro n
  induction n with
  | zero => rfl
  | succ n ih => rw [ca_ss, ca_ss, ca_ss, ih]; omega
theorem ca_smul {f : Nat → Nat} {c : Nat} : ∀ n : Nat, ca_s (fun i => c * f i) n = c * ca_s f n := by
  intro n
  induction n with
  | zero => rfl
  | succ n ih => rw [ca_ss, ca_ss, ih, Nat.mul_add]
theorem ca_sz {f : Nat → Nat} : ∀ {n : Nat}, (∀ i, i < n → f i = 0) → ca_s f n = 0 := by
  intro n
  induction n with
  | zero => intro _; rfl
  | succ n ih => intro h; rw [ca_ss, ih (fun i hi => h i (by omega)), h n (by omega)]
theorem ca_sle {f g : Nat → Nat} : ∀ {n : Nat}, (∀ i, i < n → f i ≤ g i) → ca_s f n ≤ ca_s g n := by
  intro n
  induction n with
  | zero => intro _; exact Nat.le_refl _
  | succ n ih => intro h; rw [ca_ss, ca_ss]; exact Nat.add_le_add (ih (fun i hi => h i (by omega))) (h n (by omega))
theorem ca_slt {f g : Nat → Nat} {k : Nat} : ∀ {n : Nat}, (∀ i, i < n → f i ≤ g i) → k < n → f k < g k → ca_s f n < ca_s g n := by
  intro n
  induction n with
  | zero => intro _ h; omega
  | succ n ih =>
    intro h hk hl
    rw [ca_ss, ca_ss]
    by_cases e : k = n
    · subst e
      have h1 := ca_sle (f := f) (g := g) (n := k) (fun i hi => h i (by omega))
      omega
    · have h1 := ih (fun i hi => h i (by omega)) (by omega) hl
      have h2 := h n (by omega)
      omega
theorem ca_sk (c : Nat) : ∀ n : Nat, ca_s (fun _ => c) n = n * c := by
  intro n
  induction n with
  | zero => rw [ca_s0]; omega
  | succ n ih => rw [ca_ss, ih, Nat.succ_mul]
theorem ca_sone {f : Nat → Nat} {k : Nat} : ∀ {n : Nat}, k < n → (∀ i, i < n → i ≠ k → f i = 0) → ca_s f n = f k := by
  intro n
  induction n with
  | zero => intro h; omega
  | succ n ih =>
    intro hk h
    rw [ca_ss]
    by_cases e : k = n
    · subst e
      rw [ca_sz (fun i hi => h i (by omega) (by omega))]; omega
    · rw [ih (by omega) (fun i hi hn => h i (by omega) hn), h n (by omega) (by omega)]; omega
theorem ca_sge {f : Nat → Nat} {k : Nat} : ∀ {n : Nat}, k < n → f k ≤ ca_s f n := by
  intro n
  induction n with
  | zero => intro h; omega
  | succ n ih =>
    intro hk
    rw [ca_ss]
    by_cases e : k = n
    · subst e; omega
    · have := ih (by omega); omega
theorem ca_smono (f : Nat → Nat) {a : Nat} : ∀ {b : Nat}, a ≤ b → ca_s f a ≤ ca_s f b := by
  intro b
  induction b with
  | zero => intro h; have e : a = 0 := by omega
            subst e; exact Nat.le_refl _
  | succ b ih =>
    intro h
    by_cases e : a = b + 1
    · subst e; exact Nat.le_refl _
    · rw [ca_ss]; have := ih (by omega); omega
theorem ca_sbd {f : Nat → Nat} {c : Nat} {n : Nat} (h : ∀ i, i < n → f i ≤ c) : ca_s f n ≤ n * c := by
  rw [← ca_sk c n]; exact ca_sle h
theorem ca_swap {f : Nat → Nat → Nat} {m : Nat} : ∀ n : Nat, ca_s (fun i => ca_s (fun j => f i j) m) n = ca_s (fun j => ca_s (fun i => f i j) n) m := by
  intro n
  induction n with
  | zero => rw [ca_s0]; exact (ca_sz (fun i _ => rfl)).symm
  | succ n ih => rw [ca_ss, ih, ← ca_sadd]; exact ca_sc (fun i _ => rfl)
noncomputable def ca_c (p : Nat → Prop) (n : Nat) : Nat := ca_s (fun i => ca_b (p i)) n
theorem ca_c0 (p : Nat → Prop) : ca_c p 0 = 0 := rfl
theorem ca_cs (p : Nat → Prop) (n : Nat) : ca_c p (n + 1) = ca_c p n + ca_b (p n) := rfl
theorem ca_cst {p : Nat → Prop} {n : Nat} (h : p n) : ca_c p (n + 1) = ca_c p n + 1 := by rw [ca_cs, ca_bt h]
theorem ca_csf {p : Nat → Prop} {n : Nat} (h : ¬ p n) : ca_c p (n + 1) = ca_c p n := by rw [ca_cs, ca_bf h]; omega
theorem ca_cc {p q : Nat → Prop} {n : Nat} (h : ∀ i, i < n → (p i ↔ q i)) : ca_c p n = ca_c q n := ca_sc (fun i hi => ca_bc (h i hi))
theorem ca_bm {p q : Prop} (h : p → q) : ca_b p ≤ ca_b q := by
  by_cases e : p
  · rw [ca_bt e, ca_bt (h e)]; omega
  · rw [ca_bf e]; omega
theorem ca_cle {p q : Nat → Prop} {n : Nat} (h : ∀ i, i < n → p i → q i) : ca_c p n ≤ ca_c q n := ca_sle (fun i hi => ca_bm (h i hi))
theorem ca_clt {p q : Nat → Prop} {n k : Nat} (h : ∀ i, i < n → p i → q i) (hk : k < n) (hp : ¬ p k) (hq : q k) : ca_c p n < ca_c q n :=
  ca_slt (fun i hi => ca_bm (h i hi)) hk (by rw [ca_bf hp, ca_bt hq]; omega)
theorem ca_call {p : Nat → Prop} {n : Nat} (h : ∀ i, i < n → p i) : ca_c p n = n := by
  have e : ca_c p n = ca_s (fun _ => 1) n := ca_sc (fun i hi => ca_bt (h i hi))
  rw [e, ca_sk]; omega
theorem ca_cnone {p : Nat → Prop} {n : Nat} (h : ∀ i, i < n → ¬ p i) : ca_c p n = 0 := ca_sz (fun i hi => ca_bf (h i hi))
theorem ca_clen (p : Nat → Prop) (n : Nat) : ca_c p n ≤ n := by
  have h := ca_cle (p := p) (q := fun _ => True) (n := n) (fun _ _ _ => True.intro)
  rw [ca_call (p := fun _ => True) (fun _ _ => True.intro)] at h; exact h
theorem ca_cltn {p : Nat → Prop} {n k : Nat} (hk : k < n) (hp : ¬ p k) : ca_c p n < n := by
  have h := ca_clt (p := p) (q := fun _ => True) (n := n) (fun _ _ _ => True.intro) hk hp True.intro
  rw [ca_call (p := fun _ => True) (fun _ _ => True.intro)] at h; exact h
theorem ca_cor {p q : Nat → Prop} {n : Nat} (h : ∀ i, i < n → p i → q i → False) : ca_c (fun i => p i ∨ q i) n = ca_c p n + ca_c q n := by
  have e : ca_c (fun i => p i ∨ q i) n = ca_s (fun i => ca_b (p i) + ca_b (q i)) n := by
    refine ca_sc (fun i hi => ?_)
    by_cases a : p i
    · have b : ¬ q i := fun b => h i hi a b
      rw [ca_bt (Or.inl a), ca_bt a, ca_bf b]
    · by_cases b : q i
      · rw [ca_bt (Or.inr b), ca_bf a, ca_bt b]
      · have c : ¬ (p i ∨ q i) := fun c => c.elim a b
        rw [ca_bf c, ca_bf a, ca_bf b]
  rw [e, ca_sadd]; rfl
theorem ca_cmono (p : Nat → Prop) {a b : Nat} (h : a ≤ b) : ca_c p a ≤ ca_c p b := ca_smono _ h
theorem ca_cex {p : Nat → Prop} : ∀ {n : Nat}, 0 < ca_c p n → ∃ i, i < n ∧ p i := by
  intro n
  induction n with
  | zero => intro h; rw [ca_c0] at h; omega
  | succ n ih =>
    intro h
    by_cases e : p n
    · exact ⟨n, by omega, e⟩
    · rw [ca_csf e] at h
      obtain ⟨i, hi, hp⟩ := ih h
      exact ⟨i, by omega, hp⟩
theorem ca_cpos {p : Nat → Prop} {n k : Nat} (hk : k < n) (h : p k) : 0 < ca_c p n := by
  have := ca_clt (p := fun _ => False) (q := p) (n := n) (fun _ _ z => z.elim) hk (fun z => z) h
  omega
theorem ca_c1 {n k : Nat} (hk : k < n) : ca_c (fun i => i = k) n = 1 := by
  have e := ca_sone (f := fun i => ca_b (i = k)) hk (fun i _ hn => ca_bf hn)
  have e2 : ca_b (k = k) = 1 := ca_bt rfl
  exact e.trans e2
theorem ca_cle1 {p : Nat → Prop} : ∀ {n : Nat}, (∀ i j, i < n → j < n → p i → p j → i = j) → ca_c p n ≤ 1 := by
  intro n
  induction n with
  | zero => intro _; rw [ca_c0]; omega
  | succ n ih =>
    intro h
    by_cases e : p n
    · rw [ca_cst e, ca_cnone (fun i hi hp => by have := h i n (by omega) (by omega) hp e; omega)]
      omega
    · rw [ca_csf e]; exact ih (fun i j hi hj => h i j (by omega) (by omega))
/-- counting an initial part -/
theorem ca_cinit {p : Nat → Prop} {n k : Nat} (hk : k ≤ n) : ca_c (fun i => p i ∧ i < k) n = ca_c p k := by
  induction n with
  | zero => have e : k = 0 := by omega
            subst e; rfl
  | succ n ih =>
    by_cases e : k = n + 1
    · subst e; exact ca_cc (fun i hi => ⟨fun z => z.1, fun z => ⟨z, hi⟩⟩)
    · have hn : ¬ (p n ∧ n < k) := fun z => by have := z.2; omega
      rw [ca_csf (p := fun i => p i ∧ i < k) hn]; exact ih (by omega)
/-- permutations of an initial part -/
def ca_P (n : Nat) (f : Nat → Nat) : Prop := (∀ i, i < n → f i < n) ∧ (∀ i j, i < n → j < n → f i = f j → i = j)
theorem ca_sur {n : Nat} {f : Nat → Nat} (h : ca_P n f) {v : Nat} (hv : v < n) : ∃ i, i < n ∧ f i = v := by
  refine Classical.byContradiction (fun hc => ?_)
  have hz : ca_c (fun i => f i = v) n = 0 := ca_cnone (fun i hi e => hc ⟨i, hi, e⟩)
  have h1 : ca_s (fun w => ca_s (fun i => ca_b (f i = w)) n) n < ca_s (fun _ => 1) n := by
    refine ca_slt (fun w _ => ?_) hv ?_
    · exact ca_cle1 (p := fun i => f i = w) (fun i j hi hj e1 e2 => h.2 i j hi hj (e1.trans e2.symm))
    · show ca_c (fun i => f i = v) n < 1
      rw [hz]; omega
  rw [← ca_swap (f := fun i w => ca_b (f i = w))] at h1
  have h2 : ca_s (fun i => ca_s (fun w => ca_b (f i = w)) n) n = ca_s (fun _ => 1) n := by
    refine ca_sc (fun i hi => ?_)
    have e : ca_s (fun w => ca_b (f i = w)) n = ca_b (f i = f i) := ca_sone (f := fun w => ca_b (f i = w)) (h.1 i hi) (fun w _ hn => ca_bf (fun z => hn z.symm))
    rw [e, ca_bt rfl]
  omega
theorem ca_sperm {n : Nat} {f : Nat → Nat} (h : ca_P n f) (g : Nat → Nat) : ca_s (fun i => g (f i)) n = ca_s g n := by
  have h1 : ca_s (fun i => g (f i)) n = ca_s (fun i => ca_s (fun w => ca_b (f i = w) * g w) n) n := by
    refine ca_sc (fun i hi => ?_)
    have e : ca_s (fun w => ca_b (f i = w) * g w) n = ca_b (f i = f i) * g (f i) :=
      ca_sone (f := fun w => ca_b (f i = w) * g w) (h.1 i hi) (fun w _ hn => by
        show ca_b (f i = w) * g w = 0
        rw [ca_bf (fun z => hn z.symm)]; omega)
    rw [e, ca_bt rfl]; omega
  rw [h1, ca_swap]
  refine ca_sc (fun w hw => ?_)
  obtain ⟨k, hk, e⟩ := ca_sur h hw
  have e2 : ca_s (fun i => ca_b (f i = w) * g w) n = ca_b (f k = w) * g w :=
    ca_sone (f := fun i => ca_b (f i = w) * g w) hk (fun i hi hn => by
      show ca_b (f i = w) * g w = 0
      have hne : ¬ f i = w := fun z => hn (h.2 i k hi hk (z.trans e.symm))
      rw [ca_bf hne]; omega)
  rw [e2, ca_bt e]; omega
theorem ca_cperm {n : Nat} {f : Nat → Nat} (h : ca_P n f) (p : Nat → Prop) : ca_c (fun i => p (f i)) n = ca_c p n := ca_sperm h (fun i => ca_b (p i))
theorem ca_Pid (n : Nat) : ca_P n (fun i => i) := ⟨fun _ h => h, fun _ _ _ _ h => h⟩
theorem ca_Pcomp {n : Nat} {f g : Nat → Nat} (hf : ca_P n f) (hg : ca_P n g) : ca_P n (fun i => f (g i)) :=
  ⟨fun i hi => hf.1 _ (hg.1 i hi), fun i j hi hj e => hg.2 i j hi hj (hf.2 _ _ (hg.1 i hi) (hg.1 j hj) e)⟩
/-- strictly total orders on an initial part, and ranks -/
def ca_T (n : Nat) (L : Nat → Nat → Prop) : Prop := (∀ i, i < n → ¬ L i i) ∧ (∀ i j k, i < n → j < n → k < n → L i j → L j k → L i k) ∧ (∀ i j, i < n → j < n → L i j ∨ i = j ∨ L j i)
noncomputable def ca_r (n : Nat) (L : Nat → Nat → Prop) (i : Nat) : Nat := ca_c (fun j => L j i) n
theorem ca_rlt {n : Nat} {L : Nat → Nat → Prop} (T : ca_T n L) {i : Nat} (hi : i < n) : ca_r n L i < n := ca_cltn hi (T.1 i hi)
theorem ca_rmono {n : Nat} {L : Nat → Nat → Prop} (T : ca_T n L) {i j : Nat} (hi : i < n) (hj : j < n) (h : L i j) : ca_r n L i < ca_r n L j :=
  ca_clt (fun k hk z => T.2.1 k i j hk hi hj z h) hi (T.1 i hi) h
theorem ca_riff {n : Nat} {L : Nat → Nat → Prop} (T : ca_T n L) {i j : Nat} (hi : i < n) (hj : j < n) : L i j ↔ ca_r n L i < ca_r n L j := by
  constructor
  · exact ca_rmono T hi hj
  · intro h
    rcases T.2.2 i j hi hj with a | a | a
    · exact a
    · subst a; omega
    · have := ca_rmono T hj hi a; omega
theorem ca_rP {n : Nat} {L : Nat → Nat → Prop} (T : ca_T n L) : ca_P n (ca_r n L) := by
  refine ⟨fun i hi => ca_rlt T hi, fun i j hi hj e => ?_⟩
  rcases T.2.2 i j hi hj with a | a | a
  · have := ca_rmono T hi hj a; omega
  · exact a
  · have := ca_rmono T hj hi a; omega
theorem ca_mid {n : Nat} {f : Nat → Nat} (hf : ∀ i, i < n → f i < n) (hm : ∀ i j, i < j → j < n → f i < f j) : ∀ i, i < n → f i = i := by
  have h1 : ∀ i, i < n → i ≤ f i := by
    intro i
    induction i with
    | zero => intro _; omega
    | succ i ih => intro h; have := ih (by omega); have := hm i (i + 1) (by omega) h; omega
  have h2 : ∀ d i, i + d + 1 = n → f i ≤ i := by
    intro d
    induction d with
    | zero => intro i h; have := hf i (by omega); omega
    | succ d ih => intro i h; have := ih (i + 1) (by omega); have := hm i (i + 1) (by omega) (by omega); omega
  intro i hi
  have a := h1 i hi
  have b := h2 (n - 1 - i) i (by omega)
  omega
/-- what stands in order stands at its rank -/
theorem ca_rsort {n : Nat} {L : Nat → Nat → Prop} (T : ca_T n L) {o : Nat → Nat} (ho : ∀ r, r < n → o r < n) (hs : ∀ r s, r < s → s < n → L (o r) (o s)) : ∀ r, r < n → ca_r n L (o r) = r :=
  ca_mid (f := fun r => ca_r n L (o r)) (fun r hr => ca_rlt T (ho r hr)) (fun r s h hs' => ca_rmono T (ho r (by omega)) (ho s hs') (hs r s h hs'))
/-- the least number -/
theorem ca_least {P : Nat → Prop} (h : ∃ k, P k) : ∃ k, P k ∧ ∀ j, j < k → ¬ P j := by
  obtain ⟨k, hk⟩ := h
  refine Classical.byContradiction (fun hc => ?_)
  have : ∀ m, ∀ j, j < m → ¬ P j := by
    intro m
    induction m with
    | zero => intro j hj; omega
    | succ m ih =>
      intro j hj hp
      exact hc ⟨j, hp, fun i hi => ih i (by omega)⟩
  exact this (k + 1) k (by omega) hk
end
section
/-! lexicographic comparison of the first w places -/
def ro_l (f g : Nat → Nat) (w : Nat) : Prop := ∃ k, k < w ∧ (∀ m, m < k → f m = g m) ∧ f k < g k
def ro_e (f g : Nat → Nat) (w : Nat) : Prop := ∀ k, k < w → f k = g k
theorem ro_tri (f g : Nat → Nat) : ∀ w : Nat, ro_l f g w ∨ ro_e f g w ∨ ro_l g f w := by
  intro w
  induction w with
  | zero => exact Or.inr (Or.inl (fun k hk => by omega))
  | succ w ih =>
    rcases ih with ⟨k, hk, he, hl⟩ | h | ⟨k, hk, he, hl⟩
    · exact Or.inl ⟨k, by omega, he, hl⟩
    · rcases Nat.lt_trichotomy (f w) (g w) with a | a | a
      · exact Or.inl ⟨w, by omega, h, a⟩
      · refine Or.inr (Or.inl (fun k hk => ?_))
        by_cases e : k = w
        · subst e; exact a
        · exact h k (by omega)
      · exact Or.inr (Or.inr ⟨w, by omega, fun m hm => (h m hm).symm, a⟩)
    · exact Or.inr (Or.inr ⟨k, by omega, he, hl⟩)
theorem ro_irr {f : Nat → Nat} {w : Nat} (h : ro_l f f w) : False := by
  obtain ⟨k, _, _, hl⟩ := h; omega
theorem ro_le {f g : Nat → Nat} {w : Nat} (h : ro_l f g w) (e : ro_e f g w) : False := by
  obtain ⟨k, hk, _, hl⟩ := h
  have := e k hk; omega
theorem ro_sym {f g : Nat → Nat} {w : Nat} (e : ro_e f g w) : ro_e g f w := fun k hk => (e k hk).symm
theorem ro_etr {f g h : Nat → Nat} {w : Nat} (e : ro_e f g w) (e2 : ro_e g h w) : ro_e f h w := fun k hk => (e k hk).trans (e2 k hk)
theorem ro_rfl (f : Nat → Nat) (w : Nat) : ro_e f f w := fun _ _ => rfl
theorem ro_tr {f g h : Nat → Nat} {w : Nat} (a : ro_l f g w) (b : ro_l g h w) : ro_l f h w := by
  obtain ⟨k, hk, he, hl⟩ := a
  obtain ⟨j, hj, je, jl⟩ := b
  rcases Nat.lt_trichotomy k j with c | c | c
  · exact ⟨k, hk, fun m hm => (he m hm).trans (je m (by omega)), by rw [← je k c]; exact hl⟩
  · subst c; exact ⟨k, hk, fun m hm => (he m hm).trans (je m hm), by omega⟩
  · exact ⟨j, hj, fun m hm => (he m (by omega)).trans (je m hm), by rw [he j c]; exact jl⟩
theorem ro_lcong {f g f' g' : Nat → Nat} {w : Nat} (a : ro_l f g w) (ef : ro_e f f' w) (eg : ro_e g g' w) : ro_l f' g' w := by
  obtain ⟨k, hk, he, hl⟩ := a
  refine ⟨k, hk, fun m hm => ?_, ?_⟩
  · rw [← ef m (by omega), ← eg m (by omega)]; exact he m hm
  · rw [← ef k hk, ← eg k hk]; exact hl
theorem ro_asym {f g : Nat → Nat} {w : Nat} (a : ro_l f g w) (b : ro_l g f w) : False := ro_irr (ro_tr a b)
/-- not smaller goes on -/
theorem ro_ntr {f g h : Nat → Nat} {w : Nat} (a : ¬ ro_l g f w) (b : ¬ ro_l h g w) : ¬ ro_l h f w := by
  intro c
  rcases ro_tri f g w with d | d | d
  · exact b (ro_tr c d)
  · exact b (ro_lcong c (ro_rfl _ _) d)
  · exact a d
theorem ro_lsplit (f g : Nat → Nat) (w v : Nat) : ro_l f g (w + v) ↔ ro_l f g w ∨ (ro_e f g w ∧ ro_l (fun m => f (w + m)) (fun m => g (w + m)) v) := by
  constructor
  · rintro ⟨k, hk, he, hl⟩
    by_cases c : k < w
    · exact Or.inl ⟨k, c, he, hl⟩
    · refine Or.inr ⟨fun m hm => he m (by omega), k - w, by omega, fun m hm => he (w + m) (by omega), ?_⟩
      show f (w + (k - w)) < g (w + (k - w))
      have e : w + (k - w) = k := by omega
      rw [e]; exact hl
  · rintro (⟨k, hk, he, hl⟩ | ⟨e, k, hk, he, hl⟩)
    · exact ⟨k, by omega, he, hl⟩
    · refine ⟨w + k, by omega, fun m hm => ?_, hl⟩
      by_cases c : m < w
      · exact e m c
      · have := he (m - w) (by omega)
        have e2 : w + (m - w) = m := by omega
        simp only [e2] at this; exact this
theorem ro_esplit (f g : Nat → Nat) (w v : Nat) : ro_e f g (w + v) ↔ ro_e f g w ∧ ro_e (fun m => f (w + m)) (fun m => g (w + m)) v := by
  constructor
  · intro h; exact ⟨fun k hk => h k (by omega), fun k hk => h (w + k) (by omega)⟩
  · rintro ⟨a, b⟩ k hk
    by_cases c : k < w
    · exact a k c
    · have := b (k - w) (by omega)
      have e2 : w + (k - w) = k := by omega
      simp only [e2] at this; exact this
/-! rotations of the block x of length n -/
def ro_a (n : Nat) (x : Nat → Nat) (i : Nat) : Nat := x (i % n)
def ro_L (n : Nat) (x : Nat → Nat) (w i j : Nat) : Prop := ro_l (fun m => ro_a n x (i + m)) (fun m => ro_a n x (j + m)) w
def ro_E (n : Nat) (x : Nat → Nat) (w i j : Nat) : Prop := ro_e (fun m => ro_a n x (i + m)) (fun m => ro_a n x (j + m)) w
theorem ro_am (n : Nat) (x : Nat → Nat) (i m : Nat) : ro_a n x (i % n + m) = ro_a n x (i + m) := by
  unfold ro_a; rw [Nat.mod_add_mod]
theorem ro_an (n : Nat) (x : Nat → Nat) (i : Nat) : ro_a n x (i + n) = ro_a n x i := by
  unfold ro_a; rw [Nat.add_mod_right]
theorem ro_alt {n : Nat} {x : Nat → Nat} {i : Nat} (h : i < n) : ro_a n x i = x i := by
  unfold ro_a; rw [Nat.mod_eq_of_lt h]
/-- equality on n places is equality everywhere -/
theorem ro_Einf {n : Nat} {x : Nat → Nat} {i j : Nat} (h0 : 0 < n) (h : ro_E n x n i j) (m : Nat) : ro_a n x (i + m) = ro_a n x (j + m) := by
  have e := h (m % n) (Nat.mod_lt _ h0)
  simp only [ro_a, Nat.add_mod_mod] at e ⊢
  exact e
theorem ro_Eall {n : Nat} {x : Nat → Nat} {i j : Nat} (h0 : 0 < n) (h : ro_E n x n i j) (w : Nat) : ro_E n x w i j := fun m _ => ro_Einf h0 h m
theorem ro_Ew {n : Nat} {x : Nat → Nat} {i j w : Nat} (hw : n ≤ w) (h : ro_E n x w i j) : ro_E n x n i j := fun m hm => h m (by omega)
theorem ro_Lw {n : Nat} {x : Nat → Nat} {i j w : Nat} (h0 : 0 < n) (hw : n ≤ w) : ro_L n x w i j ↔ ro_L n x n i j := by
  constructor
  · rintro ⟨k, hk, he, hl⟩
    by_cases c : k < n
    · exact ⟨k, c, he, hl⟩
    · have hE : ro_E n x n i j := fun m hm => he m (by omega)
      have := ro_Einf h0 hE k
      dsimp only at hl; omega
  · rintro ⟨k, hk, he, hl⟩
    exact ⟨k, by omega, he, hl⟩
theorem ro_Esh {n : Nat} {x : Nat → Nat} {i j : Nat} (h0 : 0 < n) (h : ro_E n x n i j) (d : Nat) : ro_E n x n (i + d) (j + d) := by
  intro m _
  have := ro_Einf h0 h (d + m)
  simp only [Nat.add_assoc]; exact this
theorem ro_En (n : Nat) (x : Nat → Nat) (i w : Nat) : ro_E n x w (i + n) i := by
  intro m _
  have e : i + n + m = i + m + n := by omega
  simp only [e, ro_an]
theorem ro_Emod (n : Nat) (x : Nat → Nat) (i w : Nat) : ro_E n x w (i % n) i := fun m _ => ro_am n x i m
theorem ro_Lcong {n : Nat} {x : Nat → Nat} {w i j i' j' : Nat} (hi : ro_E n x w i i') (hj : ro_E n x w j j') : ro_L n x w i j ↔ ro_L n x w i' j' :=
  ⟨fun h => ro_lcong h hi hj, fun h => ro_lcong h (ro_sym hi) (ro_sym hj)⟩
theorem ro_Lsplit (n : Nat) (x : Nat → Nat) (w v i j : Nat) : ro_L n x (w + v) i j ↔ ro_L n x w i j ∨ (ro_E n x w i j ∧ ro_L n x v (i + w) (j + w)) := by
  have h := ro_lsplit (fun m => ro_a n x (i + m)) (fun m => ro_a n x (j + m)) w v
  simp only [← Nat.add_assoc] at h
  exact h
theorem ro_Esplit (n : Nat) (x : Nat → Nat) (w v i j : Nat) : ro_E n x (w + v) i j ↔ ro_E n x w i j ∧ ro_E n x v (i + w) (j + w) := by
  have h := ro_esplit (fun m => ro_a n x (i + m)) (fun m => ro_a n x (j + m)) w v
  simp only [← Nat.add_assoc] at h
  exact h
/-- rotation j stands before rotation i; the row of rotation i -/
def ro_K (n : Nat) (x : Nat → Nat) (j i : Nat) : Prop := ro_L n x n j i ∨ (ro_E n x n j i ∧ j < i)
theorem ro_KT (n : Nat) (x : Nat → Nat) : ca_T n (ro_K n x) := by
  refine ⟨?_, ?_, ?_⟩
  · rintro i _ (h | ⟨_, h⟩)
    · exact ro_irr h
    · omega
  · rintro i j k _ _ _ (a | ⟨a, a'⟩) (b | ⟨b, b'⟩)
    · exact Or.inl (ro_tr a b)
    · exact Or.inl (ro_lcong a (ro_rfl _ _) b)
    · exact Or.inl (ro_lcong b (ro_sym a) (ro_rfl _ _))
    · exact Or.inr ⟨ro_etr a b, by omega⟩
  · intro i j _ _
    rcases ro_tri (fun m => ro_a n x (i + m)) (fun m => ro_a n x (j + m)) n with h | h | h
    · exact Or.inl (Or.inl h)
    · rcases Nat.lt_trichotomy i j with c | c | c
      · exact Or.inl (Or.inr ⟨h, c⟩)
      · exact Or.inr (Or.inl c)
      · exact Or.inr (Or.inr (Or.inr ⟨ro_sym h, c⟩))
    · exact Or.inr (Or.inr (Or.inl h))
noncomputable def ro_w (n : Nat) (x : Nat → Nat) (i : Nat) : Nat := ca_r n (ro_K n x) i
theorem ro_wP (n : Nat) (x : Nat → Nat) : ca_P n (ro_w n x) := ca_rP (ro_KT n x)
theorem ro_wlt {n : Nat} {x : Nat → Nat} {i : Nat} (h : i < n) : ro_w n x i < n := ca_rlt (ro_KT n x) h
theorem ro_wiff {n : Nat} {x : Nat → Nat} {i j : Nat} (hi : i < n) (hj : j < n) : ro_K n x i j ↔ ro_w n x i < ro_w n x j := ca_riff (ro_KT n x) hi hj
theorem ro_w0 (x : Nat → Nat) (i : Nat) : ro_w 0 x i = 0 := rfl
/-- only the first n places of the block count -/
theorem ro_acong {n : Nat} {x y : Nat → Nat} (h0 : 0 < n) (h : ∀ i, i < n → x i = y i) (i : Nat) : ro_a n x i = ro_a n y i := h _ (Nat.mod_lt _ h0)
theorem ro_acongf {n : Nat} {x y : Nat → Nat} (h0 : 0 < n) (h : ∀ i, i < n → x i = y i) : ro_a n x = ro_a n y := funext (ro_acong h0 h)
theorem ro_wcong {n : Nat} {x y : Nat → Nat} (h : ∀ i, i < n → x i = y i) (i : Nat) : ro_w n x i = ro_w n y i := by
  by_cases h0 : 0 < n
  · have e := ro_acongf h0 h
    unfold ro_w ro_K ro_L ro_E
    rw [e]
  · have e : n = 0 := by omega
    subst e; rfl
/-- the column -/
def ro_C (n : Nat) (x c : Nat → Nat) : Prop := ∀ i, i < n → c (ro_w n x i) = ro_a n x (i + n - 1)
theorem ro_Cu {n : Nat} {x c d : Nat → Nat} (hc : ro_C n x c) (hd : ro_C n x d) : ∀ r, r < n → c r = d r := by
  intro r hr
  obtain ⟨i, hi, e⟩ := ca_sur (ro_wP n x) hr
  rw [← e, hc i hi, hd i hi]
theorem ro_Ccong {n : Nat} {x y c d : Nat → Nat} (h : ∀ i, i < n → x i = y i) (hc : ro_C n x c) (hd : ∀ i, i < n → c i = d i) : ro_C n y d := by
  intro i hi
  rw [← ro_wcong h i, ← hd _ (ro_wlt hi), hc i hi]
  exact ro_acong (by omega) h _
/-! the period -/
def ro_p (n : Nat) (x : Nat → Nat) (p : Nat) : Prop := 0 < p ∧ ro_E n x n p 0 ∧ ∀ d, 0 < d → d < p → ¬ ro_E n x n d 0
theorem ro_pex {n : Nat} (x : Nat → Nat) (h0 : 0 < n) : ∃ p, ro_p n x p ∧ p ≤ n := by
  have h : ∃ k, 0 < k ∧ ro_E n x n k 0 := ⟨n, h0, by have := ro_En n x 0 n; rw [Nat.zero_add] at this; exact this⟩
  obtain ⟨k, ⟨h1, h2⟩, h3⟩ := ca_least h
  refine ⟨k, ⟨h1, h2, fun d hd hk z => h3 d hk ⟨hd, z⟩⟩, ?_⟩
  refine Classical.byContradiction (fun hc => ?_)
  exact h3 n (by omega) ⟨h0, by have := ro_En n x 0 n; rw [Nat.zero_add] at this; exact this⟩
theorem ro_pmul {n p : Nat} {x : Nat → Nat} (h0 : 0 < n) (hp : ro_p n x p) (i : Nat) : ∀ t : Nat, ro_E n x n (i + p * t) i := by
  intro t
  induction t with
  | zero => exact ro_rfl _ _
  | succ t ih =>
    have h1 := ro_Esh h0 hp.2.1 (i + p * t)
    have e : p + (i + p * t) = i + p * (t + 1) := by rw [Nat.mul_add]; omega
    rw [e, Nat.zero_add] at h1
    exact ro_etr h1 ih
theorem ro_pmodE {n p : Nat} {x : Nat → Nat} (h0 : 0 < n) (hp : ro_p n x p) (i : Nat) : ro_E n x n i (i % p) := by
  have h := ro_pmul h0 hp (i % p) (i / p)
  rw [Nat.mod_add_div] at h; exact h
theorem ro_pd0 {n p : Nat} {x : Nat → Nat} (h0 : 0 < n) (hp : ro_p n x p) {d : Nat} (h : ro_E n x n d 0) : d % p = 0 := by
  have h1 := ro_etr (ro_sym (ro_pmodE h0 hp d)) h
  refine Classical.byContradiction (fun hc => ?_)
  exact hp.2.2 (d % p) (by omega) (Nat.mod_lt _ hp.1) h1
theorem ro_pdn {n p : Nat} {x : Nat → Nat} (h0 : 0 < n) (hp : ro_p n x p) : n % p = 0 :=
  ro_pd0 h0 hp (by have := ro_En n x 0 n; rw [Nat.zero_add] at this; exact this)
theorem ro_pdif {n p : Nat} {x : Nat → Nat} (h0 : 0 < n) (hp : ro_p n x p) {i j : Nat} (hij : i ≤ j) (h : ro_E n x n i j) : (j - i) % p = 0 := by
  have h1 := ro_Esh h0 h (i * (n - 1))
  have e1 : i + i * (n - 1) = i * n := by
    have e : n = (n - 1) + 1 := by omega
    conv => rhs; rw [e, Nat.mul_add]
    omega
  have e2 : j + i * (n - 1) = (j - i) + i * n := by rw [← e1]; omega
  rw [e1, e2] at h1
  have h2 : ro_E n x n (i * n) 0 := by
    intro m _
    simp only [ro_a, Nat.zero_add, Nat.mul_add_mod_self_right]
  have h3 : ro_E n x n ((j - i) + i * n) (j - i) := by
    intro m _
    have e : j - i + i * n + m = j - i + m + i * n := by omega
    simp only [ro_a, e, Nat.add_mul_mod_self_right]
  exact ro_pd0 h0 hp (ro_etr (ro_sym h3) (ro_etr (ro_sym h1) h2))
theorem ro_peq {n p : Nat} {x : Nat → Nat} (h0 : 0 < n) (hp : ro_p n x p) (i j : Nat) : ro_E n x n i j ↔ i % p = j % p := by
  constructor
  · intro h
    rcases Nat.le_total i j with c | c
    · have := ro_pdif h0 hp c h
      have e : j = i + (j - i) := by omega
      have e2 : j % p = (i + (j - i)) % p := by rw [← e]
      rw [e2, Nat.add_mod, this, Nat.add_zero, Nat.mod_mod]
    · have := ro_pdif h0 hp c (ro_sym h)
      have e : i = j + (i - j) := by omega
      have e2 : i % p = (j + (i - j)) % p := by rw [← e]
      rw [e2, Nat.add_mod, this, Nat.add_zero, Nat.mod_mod]
  · intro h
    have h1 := ro_pmodE h0 hp i
    have h2 := ro_pmodE h0 hp j
    rw [h] at h1
    exact ro_etr h1 (ro_sym h2)
end
section
/-! the order by a value and then by the place -/
def ca_X (c : Nat → Nat) (a b : Nat) : Prop := c a < c b ∨ (c a = c b ∧ a < b)
theorem ca_XT (n : Nat) (c : Nat → Nat) : ca_T n (ca_X c) := by
  refine ⟨?_, ?_, ?_⟩
  · rintro i _ (h | ⟨_, h⟩) <;> omega
  · rintro i j k _ _ _ (a | ⟨a, a'⟩) (b | ⟨b, b'⟩)
    · exact Or.inl (by omega)
    · exact Or.inl (by omega)
    · exact Or.inl (by omega)
    · exact Or.inr ⟨by omega, by omega⟩
  · intro i j _ _
    rcases Nat.lt_trichotomy (c i) (c j) with h | h | h
    · exact Or.inl (Or.inl h)
    · rcases Nat.lt_trichotomy i j with d | d | d
      · exact Or.inl (Or.inr ⟨h, d⟩)
      · exact Or.inr (Or.inl d)
      · exact Or.inr (Or.inr (Or.inr ⟨h.symm, d⟩))
    · exact Or.inr (Or.inr (Or.inl h))
theorem ca_Xr {n : Nat} {c : Nat → Nat} {r : Nat} (hr : r < n) : ca_r n (ca_X c) r = ca_c (fun s => c s < c r) n + ca_c (fun s => c s = c r) r := by
  have e : ca_r n (ca_X c) r = ca_c (fun s => c s < c r ∨ (c s = c r ∧ s < r)) n := rfl
  rw [e, ca_cor (p := fun s => c s < c r) (q := fun s => c s = c r ∧ s < r) (fun i _ a b => by have := b.1; omega), ca_cinit (p := fun s => c s = c r) (by omega)]
noncomputable def ro_k (n : Nat) (c : Nat → Nat) (r : Nat) : Nat := ca_r n (ca_X c) r
theorem ro_kP (n : Nat) (c : Nat → Nat) : ca_P n (ro_k n c) := ca_rP (ca_XT n c)
theorem ro_kcong {n : Nat} {c d : Nat → Nat} (h : ∀ r, r < n → c r = d r) {r : Nat} (hr : r < n) : ro_k n c r = ro_k n d r := by
  refine ca_cc (fun s hs => ?_)
  show ca_X c s r ↔ ca_X d s r
  unfold ca_X
  rw [h s hs, h r hr]
/-! the rotation one place before, among equal ones in the same cycle of the period -/
def ro_s (p i : Nat) : Nat := if i % p = 0 then i + p - 1 else i - 1
theorem ro_slt {n p i : Nat} (hp : 0 < p) (hn : n % p = 0) (hi : i < n) : ro_s p i < n := by
  unfold ro_s
  split
  · rename_i h
    obtain ⟨q, rfl⟩ := Nat.dvd_of_mod_eq_zero hn
    obtain ⟨t, rfl⟩ := Nat.dvd_of_mod_eq_zero h
    have h1 : t < q := Nat.lt_of_mul_lt_mul_left hi
    have h2 : p * (t + 1) ≤ p * q := Nat.mul_le_mul_left p h1
    rw [Nat.mul_add] at h2
    omega
  · omega
theorem ro_smod {n p i : Nat} (hp : 0 < p) (hn : n % p = 0) (h0 : 0 < n) : ro_s p i % p = (i + n - 1) % p := by
  obtain ⟨q, rfl⟩ := Nat.dvd_of_mod_eq_zero hn
  have hq : 0 < q := by
    rcases Nat.eq_zero_or_pos q with h | h
    · subst h; omega
    · exact h
  obtain ⟨t, rfl⟩ : ∃ t, q = t + 1 := ⟨q - 1, by omega⟩
  unfold ro_s
  split
  · have e : i + p * (t + 1) - 1 = (i + p - 1) + p * t := by rw [Nat.mul_add]; omega
    rw [e, Nat.add_mul_mod_self_left]
  · rename_i h
    have hi : 0 < i := by
      rcases Nat.eq_zero_or_pos i with z | z
      · subst z; exact absurd (Nat.zero_mod p) h
      · exact z
    have e : i + p * (t + 1) - 1 = (i - 1) + p * (t + 1) := by omega
    rw [e, Nat.add_mul_mod_self_left]
theorem ro_sord {p i j : Nat} (hp : 0 < p) (h : j % p = i % p) : ro_s p j < ro_s p i ↔ j < i := by
  unfold ro_s
  rw [h]
  split
  · omega
  · rename_i z
    have hi : 0 < i := by
      rcases Nat.eq_zero_or_pos i with q | q
      · subst q; exact absurd (Nat.zero_mod p) z
      · exact q
    have hj : 0 < j := by
      rcases Nat.eq_zero_or_pos j with q | q
      · subst q; rw [Nat.zero_mod] at h; exact absurd h.symm z
      · exact q
    omega
theorem ro_sinj {p i j : Nat} (hp : 0 < p) (h : ro_s p i = ro_s p j) : i = j := by
  unfold ro_s at h
  split at h
  · rename_i a
    split at h
    · omega
    · rename_i b
      have hj : 0 < j := by
        rcases Nat.eq_zero_or_pos j with q | q
        · subst q; exact absurd (Nat.zero_mod p) b
        · exact q
      have e : j = i + p := by omega
      rw [e, Nat.add_mod_right] at b
      exact absurd a b
  · rename_i a
    have hi : 0 < i := by
      rcases Nat.eq_zero_or_pos i with q | q
      · subst q; exact absurd (Nat.zero_mod p) a
      · exact q
    split at h
    · rename_i b
      have e : i = j + p := by omega
      rw [e, Nat.add_mod_right] at a
      exact absurd b a
    · rename_i b
      have hj : 0 < j := by
        rcases Nat.eq_zero_or_pos j with q | q
        · subst q; exact absurd (Nat.zero_mod p) b
        · exact q
      omega
theorem ro_sP {n p : Nat} (hp : 0 < p) (hn : n % p = 0) : ca_P n (ro_s p) :=
  ⟨fun _ hi => ro_slt hp hn hi, fun _ _ _ _ h => ro_sinj hp h⟩
theorem ro_sE {n p : Nat} {x : Nat → Nat} (h0 : 0 < n) (hp : ro_p n x p) (i : Nat) : ro_E n x n (ro_s p i) (i + n - 1) :=
  (ro_peq h0 hp _ _).mpr (ro_smod hp.1 (ro_pdn h0 hp) h0)
theorem ro_L1 (n : Nat) (x : Nat → Nat) (a b : Nat) : ro_L n x 1 a b ↔ ro_a n x a < ro_a n x b := by
  constructor
  · rintro ⟨k, hk, _, hl⟩
    have e : k = 0 := by omega
    subst e; exact hl
  · intro h; exact ⟨0, by omega, fun m hm => by omega, h⟩
theorem ro_E1 (n : Nat) (x : Nat → Nat) (a b : Nat) : ro_E n x 1 a b ↔ ro_a n x a = ro_a n x b := by
  constructor
  · intro h; exact h 0 (by omega)
  · intro h k hk
    have e : k = 0 := by omega
    subst e; exact h
theorem ro_Lprev (w : Nat) (x : Nat → Nat) (j i : Nat) : ro_L (w + 1) x (w + 1) (j + w) (i + w) ↔ ro_a (w + 1) x (j + w) < ro_a (w + 1) x (i + w) ∨ (ro_a (w + 1) x (j + w) = ro_a (w + 1) x (i + w) ∧ ro_L (w + 1) x (w + 1) j i) := by
  have h1 := ro_Lsplit (w + 1) x 1 w (j + w) (i + w)
  have h2 := ro_Lsplit (w + 1) x w 1 j i
  rw [ro_L1, ro_E1] at h1
  rw [ro_L1] at h2
  have e1 : ro_L (w + 1) x w (j + w + 1) (i + w + 1) ↔ ro_L (w + 1) x w j i := ro_Lcong (ro_En (w + 1) x j w) (ro_En (w + 1) x i w)
  rw [e1, Nat.add_comm 1 w] at h1
  rw [h1, h2]
  constructor
  · rintro (a | ⟨a, b⟩)
    · exact Or.inl a
    · exact Or.inr ⟨a, Or.inl b⟩
  · rintro (a | ⟨a, b | ⟨_, c⟩⟩)
    · exact Or.inl a
    · exact Or.inr ⟨a, b⟩
    · omega
theorem ro_Ks {n p : Nat} {x : Nat → Nat} (h0 : 0 < n) (hp : ro_p n x p) (j i : Nat) : ro_K n x (ro_s p j) (ro_s p i) ↔ ro_a n x (j + n - 1) < ro_a n x (i + n - 1) ∨ (ro_a n x (j + n - 1) = ro_a n x (i + n - 1) ∧ ro_K n x j i) := by
  have hL : ro_L n x n (ro_s p j) (ro_s p i) ↔ ro_L n x n (j + n - 1) (i + n - 1) := ro_Lcong (ro_sE h0 hp j) (ro_sE h0 hp i)
  have hE : ro_E n x n (ro_s p j) (ro_s p i) ↔ ro_E n x n (j + n - 1) (i + n - 1) :=
    ⟨fun h => ro_etr (ro_sym (ro_sE h0 hp j)) (ro_etr h (ro_sE h0 hp i)), fun h => ro_etr (ro_sE h0 hp j) (ro_etr h (ro_sym (ro_sE h0 hp i)))⟩
  have hE2 : ro_E n x n (j + n - 1) (i + n - 1) ↔ ro_E n x n j i := by
    constructor
    · intro h
      have h2 := ro_Esh h0 h 1
      have ej : j + n - 1 + 1 = j + n := by omega
      have ei : i + n - 1 + 1 = i + n := by omega
      rw [ej, ei] at h2
      exact ro_etr (ro_sym (ro_En n x j n)) (ro_etr h2 (ro_En n x i n))
    · intro h
      have h2 := ro_Esh h0 h (n - 1)
      have ej : j + (n - 1) = j + n - 1 := by omega
      have ei : i + (n - 1) = i + n - 1 := by omega
      rw [ej, ei] at h2
      exact h2
  have hL2 : ro_L n x n (j + n - 1) (i + n - 1) ↔ ro_a n x (j + n - 1) < ro_a n x (i + n - 1) ∨ (ro_a n x (j + n - 1) = ro_a n x (i + n - 1) ∧ ro_L n x n j i) := by
    obtain ⟨w, rfl⟩ : ∃ w, n = w + 1 := ⟨n - 1, by omega⟩
    exact ro_Lprev w x j i
  have hc : ro_E n x n j i → ro_a n x (j + n - 1) = ro_a n x (i + n - 1) := fun h => by
    have := ro_Einf h0 h (n - 1)
    have ej : j + (n - 1) = j + n - 1 := by omega
    have ei : i + (n - 1) = i + n - 1 := by omega
    rw [ej, ei] at this; exact this
  have hs : ro_E n x n j i → (ro_s p j < ro_s p i ↔ j < i) := fun h => ro_sord hp.1 ((ro_peq h0 hp j i).mp h)
  unfold ro_K
  rw [hL, hE, hE2, hL2]
  constructor
  · rintro ((a | ⟨a, b⟩) | ⟨a, b⟩)
    · exact Or.inl a
    · exact Or.inr ⟨a, Or.inl b⟩
    · exact Or.inr ⟨hc a, Or.inr ⟨a, (hs a).mp b⟩⟩
  · rintro (a | ⟨a, b | ⟨b, c⟩⟩)
    · exact Or.inl (Or.inl a)
    · exact Or.inl (Or.inr ⟨a, b⟩)
    · exact Or.inr ⟨b, (hs b).mpr c⟩
/-- the link of the row of rotation i is the row of the rotation one before it -/
theorem ro_lf {n p : Nat} {x c : Nat → Nat} (h0 : 0 < n) (hp : ro_p n x p) (hc : ro_C n x c) {i : Nat} (hi : i < n) : ro_k n c (ro_w n x i) = ro_w n x (ro_s p i) := by
  have h1 : ro_w n x (ro_s p i) = ca_c (fun j => ro_K n x (ro_s p j) (ro_s p i)) n := (ca_cperm (ro_sP hp.1 (ro_pdn h0 hp)) (fun k => ro_K n x k (ro_s p i))).symm
  have h2 : ro_k n c (ro_w n x i) = ca_c (fun j => ca_X c (ro_w n x j) (ro_w n x i)) n := (ca_cperm (ro_wP n x) (fun k => ca_X c k (ro_w n x i))).symm
  rw [h1, h2]
  refine ca_cc (fun j hj => ?_)
  rw [ro_Ks h0 hp j i, ro_wiff hj hi, ← hc j hj, ← hc i hi]
  exact Iff.rfl
def ro_i (f : Nat → Nat) : Nat → Nat → Nat
  | 0, r => r
  | k + 1, r => f (ro_i f k r)
theorem ro_is (f : Nat → Nat) (k r : Nat) : ro_i f (k + 1) r = f (ro_i f k r) := rfl
theorem ro_iP {n : Nat} {f : Nat → Nat} (h : ca_P n f) {r : Nat} (hr : r < n) : ∀ k, ro_i f k r < n := by
  intro k
  induction k with
  | zero => exact hr
  | succ k ih => exact h.1 _ ih
theorem ro_icong {n : Nat} {f g : Nat → Nat} (h : ca_P n f) (e : ∀ r, r < n → f r = g r) {r : Nat} (hr : r < n) : ∀ k, ro_i f k r = ro_i g k r := by
  intro k
  induction k with
  | zero => rfl
  | succ k ih => rw [ro_is, ro_is, ← ih]; exact e _ (ro_iP h hr k)
theorem ro_lfi {n p : Nat} {x c : Nat → Nat} (h0 : 0 < n) (hp : ro_p n x p) (hc : ro_C n x c) {i : Nat} (hi : i < n) : ∀ k, ro_i (ro_k n c) k (ro_w n x i) = ro_w n x (ro_i (ro_s p) k i) := by
  intro k
  induction k with
  | zero => rfl
  | succ k ih => rw [ro_is, ro_is, ih]; exact ro_lf h0 hp hc (ro_iP (ro_sP hp.1 (ro_pdn h0 hp)) hi k)
theorem ro_siE {n p : Nat} {x : Nat → Nat} (h0 : 0 < n) (hp : ro_p n x p) (i : Nat) : ∀ k, ro_E n x n (ro_i (ro_s p) k i) (i + k * (n - 1)) := by
  intro k
  induction k with
  | zero => rw [Nat.zero_mul]; exact ro_rfl _ _
  | succ k ih =>
    have h1 := ro_sE h0 hp (ro_i (ro_s p) k i)
    have h2 := ro_Esh h0 ih (n - 1)
    have e : ro_i (ro_s p) k i + (n - 1) = ro_i (ro_s p) k i + n - 1 := by omega
    have e2 : i + k * (n - 1) + (n - 1) = i + (k + 1) * (n - 1) := by rw [Nat.succ_mul]; omega
    rw [e, e2] at h2
    exact ro_etr h1 h2
/-- what the links spell, last symbol first -/
theorem ro_unw {n : Nat} {x c : Nat → Nat} (hc : ro_C n x c) {i k : Nat} (hi : i < n) (hk : k < n) : c (ro_i (ro_k n c) k (ro_w n x i)) = ro_a n x (i + (n - 1 - k)) := by
  have h0 : 0 < n := by omega
  obtain ⟨p, hp, _⟩ := ro_pex x h0
  rw [ro_lfi h0 hp hc hi k, hc _ (ro_iP (ro_sP hp.1 (ro_pdn h0 hp)) hi k)]
  have h1 := ro_Einf h0 (ro_siE h0 hp i k) (n - 1)
  have e : ro_i (ro_s p) k i + (n - 1) = ro_i (ro_s p) k i + n - 1 := by omega
  rw [e] at h1
  rw [h1]
  have e2 : i + k * (n - 1) + (n - 1) = i + (n - 1 - k) + n * k := by
    obtain ⟨w, rfl⟩ : ∃ w, n = w + 1 := ⟨n - 1, by omega⟩
    have e3 : w + 1 - 1 = w := by omega
    rw [e3, Nat.mul_comm k w, Nat.succ_mul]; omega
  rw [e2]
  unfold ro_a
  rw [Nat.add_mul_mod_self_left]
/-- the cycle of links through row 0 -/
theorem ro_s0 {p : Nat} (hp : 0 < p) : ∀ k, ro_i (ro_s p) k 0 < p ∧ (ro_i (ro_s p) k 0 + k) % p = 0 := by
  intro k
  induction k with
  | zero => exact ⟨hp, Nat.zero_mod p⟩
  | succ k ih =>
    rw [ro_is]
    obtain ⟨a, b⟩ := ih
    generalize ro_i (ro_s p) k 0 = v at a b
    unfold ro_s
    rw [Nat.mod_eq_of_lt a]
    split
    · rename_i z
      subst z
      refine ⟨by omega, ?_⟩
      have e : 0 + p - 1 + (k + 1) = 0 + k + p := by omega
      rw [e, Nat.add_mod_right]; exact b
    · refine ⟨by omega, ?_⟩
      have e : v - 1 + (k + 1) = v + k := by omega
      rw [e]; exact b
theorem ro_cyc {n p : Nat} {x c : Nat → Nat} (h0 : 0 < n) (hp : ro_p n x p) (hc : ro_C n x c) {k : Nat} (hk : 0 < k) (hkp : k ≤ p) : ro_i (ro_k n c) k (ro_w n x 0) = ro_w n x 0 ↔ k = p := by
  rw [ro_lfi h0 hp hc h0 k]
  have h1 := ro_s0 hp.1 k
  have h2 : ro_i (ro_s p) k 0 < n := ro_iP (ro_sP hp.1 (ro_pdn h0 hp)) h0 k
  constructor
  · intro h
    have e := (ro_wP n x).2 _ _ h2 h0 h
    rw [e, Nat.zero_add] at h1
    rcases Nat.lt_or_ge k p with a | a
    · rw [Nat.mod_eq_of_lt a] at h1; omega
    · omega
  · intro h
    subst h
    rw [Nat.add_mod_right] at h1
    have e : ro_i (ro_s k) k 0 = 0 := by rw [Nat.mod_eq_of_lt h1.1] at h1; exact h1.2
    rw [e]
theorem ro_back {n p : Nat} {x c : Nat → Nat} (h0 : 0 < n) (hp : ro_p n x p) (hc : ro_C n x c) {i : Nat} (hi : i < n) : ro_i (ro_k n c) (n - i) (ro_w n x 0) = ro_w n x (i % p) := by
  rw [ro_lfi h0 hp hc h0]
  obtain ⟨h1, h2⟩ := ro_s0 hp.1 (n - i)
  have hn := ro_pdn h0 hp
  generalize ro_i (ro_s p) (n - i) 0 = v at h1 h2
  have e : v = i % p := by
    have a : (v + (n - i) + i) % p = i % p := by rw [Nat.add_mod, h2, Nat.zero_add, Nat.mod_mod]
    have b : v + (n - i) + i = v + n := by omega
    rw [b, Nat.add_mod, hn, Nat.add_zero, Nat.mod_mod, Nat.mod_eq_of_lt h1] at a
    exact a
  rw [e]
theorem ro_wp {n p : Nat} {x : Nat → Nat} (h0 : 0 < n) (hp : ro_p n x p) {i : Nat} (hi : i + p < n) : ro_w n x (i + p) = ro_w n x i + 1 := by
  have hE : ro_E n x n (i + p) i := by have := ro_pmul h0 hp i 1; rw [Nat.mul_one] at this; exact this
  have h1 : ro_w n x (i + p) = ca_c (fun k => ro_K n x k i ∨ k = i) n := by
    refine ca_cc (fun k hk => ?_)
    show ro_K n x k (i + p) ↔ ro_K n x k i ∨ k = i
    unfold ro_K
    have a : ro_L n x n k (i + p) ↔ ro_L n x n k i := ro_Lcong (ro_rfl _ _) hE
    have b : ro_E n x n k (i + p) ↔ ro_E n x n k i := ⟨fun h => ro_etr h hE, fun h => ro_etr h (ro_sym hE)⟩
    rw [a, b]
    constructor
    · rintro (c | ⟨c, d⟩)
      · exact Or.inl (Or.inl c)
      · by_cases e : k ≤ i
        · rcases Nat.lt_or_eq_of_le e with f | f
          · exact Or.inl (Or.inr ⟨c, f⟩)
          · exact Or.inr f
        · have m := ro_pdif h0 hp (i := i) (j := k) (by omega) (ro_sym c)
          have l : k - i < p := by omega
          rw [Nat.mod_eq_of_lt l] at m
          omega
    · rintro ((c | ⟨c, d⟩) | c)
      · exact Or.inl c
      · exact Or.inr ⟨c, by have := hp.1; omega⟩
      · subst c; exact Or.inr ⟨ro_rfl _ _, by have := hp.1; omega⟩
  rw [h1, ca_cor (p := fun k => ro_K n x k i) (q := fun k => k = i) (fun k hk a b => by subst b; exact (ro_KT n x).1 k hk a), ca_c1 (by omega)]
  rfl
theorem ro_wpt {n p : Nat} {x : Nat → Nat} (h0 : 0 < n) (hp : ro_p n x p) {j : Nat} : ∀ t, j + p * t < n → ro_w n x (j + p * t) = ro_w n x j + t := by
  intro t
  induction t with
  | zero => intro _; rfl
  | succ t ih =>
    intro h
    have e : j + p * (t + 1) = j + p * t + p := by rw [Nat.mul_add]; omega
    rw [e] at h ⊢
    rw [ro_wp h0 hp h, ih (by omega)]
    omega
theorem ro_wrow {n p : Nat} {x : Nat → Nat} (h0 : 0 < n) (hp : ro_p n x p) {i : Nat} (hi : i < n) : ro_w n x (i % p) + i / p = ro_w n x i := by
  have h := ro_wpt h0 hp (j := i % p) (i / p) (by rw [Nat.mod_add_div]; exact hi)
  rw [Nat.mod_add_div] at h
  omega
end
section
/-! inverse of a permutation; weakly sorted permutations agree -/
noncomputable def ca_v (n : Nat) (f : Nat → Nat) (v : Nat) : Nat := Classical.epsilon (fun i => i < n ∧ f i = v)
theorem ca_vs {n : Nat} {f : Nat → Nat} (h : ca_P n f) {v : Nat} (hv : v < n) : ca_v n f v < n ∧ f (ca_v n f v) = v :=
  Classical.epsilon_spec (p := fun i => i < n ∧ f i = v) (ca_sur h hv)
theorem ca_vf {n : Nat} {f : Nat → Nat} (h : ca_P n f) {i : Nat} (hi : i < n) : ca_v n f (f i) = i := by
  have a := ca_vs h (h.1 i hi)
  exact h.2 _ _ a.1 hi a.2
theorem ca_vP {n : Nat} {f : Nat → Nat} (h : ca_P n f) : ca_P n (ca_v n f) := by
  refine ⟨fun v hv => (ca_vs h hv).1, fun a b ha hb e => ?_⟩
  rw [← (ca_vs h ha).2, ← (ca_vs h hb).2, e]
theorem ca_SU1 {n : Nat} {lt : Nat → Nat → Prop} (ir : ∀ a, ¬ lt a a) (nt : ∀ a b c, ¬ lt b a → ¬ lt c b → ¬ lt c a) {o q : Nat → Nat} (ho : ca_P n o) (hq : ca_P n q)
    (so : ∀ r s, r < s → s < n → ¬ lt (o s) (o r)) (sq : ∀ r s, r < s → s < n → ¬ lt (q s) (q r)) {r : Nat} (hr : r < n) : ¬ lt (o r) (q r) := by
  intro h
  have h1 : r + 1 ≤ ca_c (fun k => ¬ lt (o r) k) n := by
    rw [← ca_cperm ho (fun k => ¬ lt (o r) k)]
    have a : ca_c (fun i => ¬ lt (o r) (o i)) (r + 1) = r + 1 := by
      refine ca_call (fun i hi => ?_)
      by_cases e : i = r
      · subst e; exact ir _
      · exact so i r (by omega) hr
    have b := ca_cmono (fun i => ¬ lt (o r) (o i)) (a := r + 1) (b := n) (by omega)
    omega
  have h2 : ca_c (fun k => ¬ lt (o r) k) n ≤ r := by
    rw [← ca_cperm hq (fun k => ¬ lt (o r) k)]
    have a : ca_c (fun i => ¬ lt (o r) (q i)) n ≤ ca_c (fun i => True ∧ i < r) n := by
      refine ca_cle (fun i hi z => ⟨True.intro, ?_⟩)
      refine Classical.byContradiction (fun c => ?_)
      by_cases e : i = r
      · subst e; exact z h
      · exact nt (q r) (q i) (o r) (sq r i (by omega) hi) z h
    rw [ca_cinit (p := fun _ => True) (by omega), ca_call (fun _ _ => True.intro)] at a
    exact a
  omega
theorem ro_SU {n : Nat} {x : Nat → Nat} {w : Nat} {o q : Nat → Nat} (ho : ca_P n o) (hq : ca_P n q)
    (so : ∀ r s, r < s → s < n → ¬ ro_L n x w (o s) (o r)) (sq : ∀ r s, r < s → s < n → ¬ ro_L n x w (q s) (q r)) {r : Nat} (hr : r < n) : ro_E n x w (o r) (q r) := by
  have ir : ∀ a, ¬ ro_L n x w a a := fun a h => ro_irr h
  have nt : ∀ a b c, ¬ ro_L n x w b a → ¬ ro_L n x w c b → ¬ ro_L n x w c a := fun a b c h1 h2 => ro_ntr h1 h2
  have h1 := ca_SU1 ir nt ho hq so sq hr
  have h2 := ca_SU1 ir nt hq ho sq so hr
  rcases ro_tri (fun m => ro_a n x (o r + m)) (fun m => ro_a n x (q r + m)) w with a | a | a
  · exact absurd a h1
  · exact a
  · exact absurd a h2
/-- the sorted list of rotations -/
theorem ro_vsort {n : Nat} {x : Nat → Nat} {r s : Nat} (h : r < s) (hs : s < n) : ¬ ro_L n x n (ca_v n (ro_w n x) s) (ca_v n (ro_w n x) r) := by
  intro z
  have a := ca_vs (ro_wP n x) (v := s) hs
  have b := ca_vs (ro_wP n x) (v := r) (by omega)
  have c := (ro_wiff a.1 b.1).mp (Or.inl z)
  rw [a.2, b.2] at c
  omega
theorem ro_vsortw {n : Nat} {x : Nat → Nat} {w : Nat} (hw : w ≤ n) {r s : Nat} (h : r < s) (hs : s < n) : ¬ ro_L n x w (ca_v n (ro_w n x) s) (ca_v n (ro_w n x) r) := by
  rintro ⟨k, hk, he, hl⟩
  exact ro_vsort h hs ⟨k, by omega, he, hl⟩
theorem ro_vcol {n : Nat} {x c : Nat → Nat} (hc : ro_C n x c) {r : Nat} (hr : r < n) : c r = ro_a n x (ca_v n (ro_w n x) r + n - 1) := by
  have a := ca_vs (ro_wP n x) (v := r) hr
  have b := hc _ a.1
  rw [a.2] at b; exact b
/-- adding a constant around is a permutation -/
theorem ro_addP {n : Nat} (h0 : 0 < n) (d : Nat) : ca_P n (fun i => (i + d) % n) := by
  refine ⟨fun i _ => Nat.mod_lt _ h0, fun i j hi hj e => ?_⟩
  have h : ((i + d) % n + (n - d % n)) % n = ((j + d) % n + (n - d % n)) % n := by
    have e' : (i + d) % n = (j + d) % n := e
    rw [e']
  have hd := Nat.mod_lt d h0
  have g : ∀ k, k < n → ((k + d) % n + (n - d % n)) % n = k := by
    intro k hk
    rw [Nat.mod_add_mod]
    have hdd := Nat.mod_add_div d n
    have e1 : k + d + (n - d % n) = k + n * (d / n + 1) := by
      rw [Nat.mul_add]
      omega
    rw [e1, Nat.add_mul_mod_self_left, Nat.mod_eq_of_lt hk]
  rw [g i hi, g j hj] at h
  exact h
/-- rotations of one another have one column -/
theorem ro_same1 {n s : Nat} {x y c d : Nat → Nat} (h : ∀ i, i < n → y i = ro_a n x (i + s)) (hc : ro_C n x c) (hd : ro_C n y d) : ∀ r, r < n → c r = d r := by
  intro r hr
  have h0 : 0 < n := by omega
  have ha : ∀ i, ro_a n y i = ro_a n x (i + s) := by
    intro i
    have e := h (i % n) (Nat.mod_lt _ h0)
    rw [ro_am] at e; exact e
  have hL : ∀ i j, ro_L n y n i j ↔ ro_L n x n (i + s) (j + s) := by
    intro i j
    unfold ro_L
    have e1 : ∀ i, (fun m => ro_a n y (i + m)) = (fun m => ro_a n x (i + s + m)) := by
      intro i; funext m; rw [ha]
      have e : i + m + s = i + s + m := by omega
      rw [e]
    rw [e1, e1]
  have hq := ca_vP (ro_wP n y)
  have hE := ro_SU (x := x) (w := n) (ca_vP (ro_wP n x)) (ca_Pcomp (ro_addP h0 s) hq) (fun r s h hs => ro_vsort h hs) (fun r t h ht => by
    intro z
    have z2 := (ro_Lcong (ro_Emod n x _ n) (ro_Emod n x _ n)).mp z
    exact ro_vsort h ht ((hL _ _).mpr z2)) hr
  rw [ro_vcol hc hr, ro_vcol hd hr, ha]
  have e1 := ro_Einf h0 hE (n - 1)
  have e2 : ca_v n (ro_w n x) r + (n - 1) = ca_v n (ro_w n x) r + n - 1 := by omega
  rw [e2] at e1
  rw [e1, ro_am]
  have e3 : ca_v n (ro_w n y) r + s + (n - 1) = ca_v n (ro_w n y) r + n - 1 + s := by omega
  rw [e3]
theorem ro_same2 {n : Nat} {x y c d : Nat → Nat} (h0 : 0 < n) (hc : ro_C n x c) (hd : ro_C n y d) (he : ∀ r, r < n → c r = d r) : ∃ s, s < n ∧ ∀ i, i < n → y i = ro_a n x (i + s) := by
  obtain ⟨s, hs, e⟩ := ca_sur (ro_wP n x) (ro_wlt (x := y) h0)
  refine ⟨s, hs, fun i hi => ?_⟩
  have h1 := ro_unw hc hs (k := n - 1 - i) (by omega)
  have h2 := ro_unw hd h0 (k := n - 1 - i) (by omega)
  rw [e] at h1
  have e1 : n - 1 - (n - 1 - i) = i := by omega
  rw [e1] at h1 h2
  rw [← ro_icong (ro_kP n c) (fun r hr => ro_kcong he hr) (ro_wlt h0), ← he _ (ro_iP (ro_kP n c) (ro_wlt h0) _), h1, Nat.zero_add, ro_alt hi] at h2
  rw [← h2, Nat.add_comm]
/-- one round of the table of sorted rows -/
theorem ro_tab {n k : Nat} {x c : Nat → Nat} (hc : ro_C n x c) (hk : k < n) {u : Nat → Nat → Nat} {o : Nat → Nat} (ho : ca_P n o)
    (hu0 : ∀ r, r < n → u r 0 = c r) (hu : ∀ r m, r < n → m < k → u r (m + 1) = ro_a n x (ca_v n (ro_w n x) r + m))
    (hs : ∀ r s, r < s → s < n → ¬ ro_l (u (o s)) (u (o r)) (k + 1)) : ∀ r m, r < n → m < k + 1 → u (o r) m = ro_a n x (ca_v n (ro_w n x) r + m) := by
  have h0 : 0 < n := by omega
  have hU : ∀ r, r < n → ∀ m, m < k + 1 → u r m = ro_a n x (ca_v n (ro_w n x) r + n - 1 + m) := by
    intro r hr m hm
    by_cases e : m = 0
    · subst e; rw [hu0 r hr, ro_vcol hc hr]; rfl
    · obtain ⟨t, rfl⟩ : ∃ t, m = t + 1 := ⟨m - 1, by omega⟩
      rw [hu r t hr (by omega)]
      have e : ca_v n (ro_w n x) r + n - 1 + (t + 1) = ca_v n (ro_w n x) r + t + n := by omega
      rw [e, ro_an]
  have hv := ca_vP (ro_wP n x)
  have hq : ca_P n (fun r => (ca_v n (ro_w n x) (o r) + (n - 1)) % n) := ca_Pcomp (ro_addP h0 (n - 1)) (ca_Pcomp hv ho)
  have hE : ∀ r, r < n → ro_E n x (k + 1) ((ca_v n (ro_w n x) (o r) + (n - 1)) % n) (ca_v n (ro_w n x) r) := by
    intro r hr
    refine ro_SU hq hv (fun r s h hs' => ?_) (fun r s h hs' => ro_vsortw (by omega) h hs') hr
    intro z
    have z2 := (ro_Lcong (ro_Emod n x _ (k + 1)) (ro_Emod n x _ (k + 1))).mp z
    refine hs r s h hs' (ro_lcong z2 (fun m hm => ?_) (fun m hm => ?_))
    · rw [hU _ (ho.1 s hs') m hm]
      have e : ca_v n (ro_w n x) (o s) + (n - 1) + m = ca_v n (ro_w n x) (o s) + n - 1 + m := by omega
      simp only [e]
    · rw [hU _ (ho.1 r (by omega)) m hm]
      have e : ca_v n (ro_w n x) (o r) + (n - 1) + m = ca_v n (ro_w n x) (o r) + n - 1 + m := by omega
      simp only [e]
  intro r m hr hm
  rw [hU _ (ho.1 r hr) m hm]
  have h1 := hE r hr m hm
  simp only [ro_am] at h1
  have e : ca_v n (ro_w n x) (o r) + (n - 1) + m = ca_v n (ro_w n x) (o r) + n - 1 + m := by omega
  rw [e] at h1; exact h1
/-! occurrences of a pattern P of length m: its places from k on follow from rotation i -/
def ro_m (n : Nat) (x P : Nat → Nat) (m k i : Nat) : Prop := ∀ q, k ≤ q → q < m → ro_a n x (i + (q - k)) = P q
theorem ro_mE {n : Nat} {x P : Nat → Nat} {m k i j : Nat} (h0 : 0 < n) (h : ro_E n x n i j) : ro_m n x P m k i ↔ ro_m n x P m k j := by
  constructor
  · intro a q h1 h2; rw [← ro_Einf h0 h]; exact a q h1 h2
  · intro a q h1 h2; rw [ro_Einf h0 h]; exact a q h1 h2
theorem ro_ms {n : Nat} {x P : Nat → Nat} {m k i : Nat} (hk : k < m) : ro_m n x P m k i ↔ ro_a n x i = P k ∧ ro_m n x P m (k + 1) (i + 1) := by
  constructor
  · intro a
    refine ⟨?_, fun q h1 h2 => ?_⟩
    · have := a k (by omega) hk
      rw [Nat.sub_self] at this; exact this
    · have := a q (by omega) h2
      have e : i + (q - k) = i + 1 + (q - (k + 1)) := by omega
      rw [e] at this; exact this
  · rintro ⟨a, b⟩ q h1 h2
    by_cases e : q = k
    · subst e; rw [Nat.sub_self]; exact a
    · have := b q (by omega) h2
      have e : i + 1 + (q - (k + 1)) = i + (q - k) := by omega
      rw [e] at this; exact this
theorem ro_mprev {n p : Nat} {x c P : Nat → Nat} {m k i : Nat} (h0 : 0 < n) (hp : ro_p n x p) (hc : ro_C n x c) (hi : i < n) (hk : k < m) : ro_m n x P m k (ro_s p i) ↔ c (ro_w n x i) = P k ∧ ro_m n x P m (k + 1) i := by
  rw [ro_mE h0 (ro_sE h0 hp i), ro_ms hk, hc i hi]
  have e : i + n - 1 + 1 = i + n := by omega
  rw [e, ro_mE h0 (ro_En n x i n)]
def ro_O (n : Nat) (x P : Nat → Nat) (m k lo hi : Nat) : Prop := ∀ i, i < n → ((lo ≤ ro_w n x i ∧ ro_w n x i < hi) ↔ ro_m n x P m k i)
theorem ro_O0 (n : Nat) (x P : Nat → Nat) (m : Nat) : ro_O n x P m m 0 n :=
  fun i hi => ⟨fun _ q h1 h2 => by omega, fun _ => ⟨by omega, ro_wlt hi⟩⟩
theorem ro_Ono {n : Nat} {x c P : Nat → Nat} {m k lo hi : Nat} (hc : ro_C n x c) (hk : k < m) (h : ro_O n x P m (k + 1) lo hi) (hn : ∀ r, lo ≤ r → r < hi → r < n → c r ≠ P k) : ro_O n x P m k lo lo := by
  intro i hi'
  have h0 : 0 < n := by omega
  obtain ⟨p, hp, _⟩ := ro_pex x h0
  obtain ⟨j, hj, e⟩ := ca_sur (ro_sP hp.1 (ro_pdn h0 hp)) hi'
  refine ⟨fun z => by omega, fun z => ?_⟩
  rw [← e] at z
  obtain ⟨a, b⟩ := (ro_mprev h0 hp hc hj hk).mp z
  have d := (h j hj).mpr b
  exact absurd a (hn _ d.1 d.2 (ro_wlt hj))
theorem ro_Ost {n : Nat} {x c P : Nat → Nat} {m k lo hi f l : Nat} (hc : ro_C n x c) (hk : k < m) (h : ro_O n x P m (k + 1) lo hi) (hf : lo ≤ f) (hl : l < hi) (hfl : f ≤ l) (hln : l < n)
    (cf : c f = P k) (cl : c l = P k) (h1 : ∀ r, lo ≤ r → r < f → c r ≠ P k) (h2 : ∀ r, l < r → r < hi → r < n → c r ≠ P k) : ro_O n x P m k (ro_k n c f) (ro_k n c l + 1) := by
  intro i hi'
  have h0 : 0 < n := by omega
  obtain ⟨p, hp, _⟩ := ro_pex x h0
  obtain ⟨j, hj, e⟩ := ca_sur (ro_sP hp.1 (ro_pdn h0 hp)) hi'
  rw [← e, ro_mprev h0 hp hc hj hk, ← ro_lf h0 hp hc hj, ← h j hj]
  have hw := ro_wlt (x := x) hj
  generalize ro_w n x j = r at hw
  have k1 : ro_k n c r < ro_k n c f ↔ ca_X c r f := (ca_riff (ca_XT n c) hw (by omega)).symm
  have k2 : ro_k n c l < ro_k n c r ↔ ca_X c l r := (ca_riff (ca_XT n c) hln hw).symm
  unfold ca_X at k1 k2
  constructor
  · rintro ⟨a, b⟩
    have n1 : ¬ (c r < c f ∨ (c r = c f ∧ r < f)) := fun z => by have := k1.mpr z; omega
    have n2 : ¬ (c l < c r ∨ (c l = c r ∧ l < r)) := fun z => by have := k2.mpr z; omega
    omega
  · rintro ⟨a, b, d⟩
    have g1 : f ≤ r := by
      refine Classical.byContradiction (fun z => ?_)
      exact h1 r b (by omega) a
    have g2 : r ≤ l := by
      refine Classical.byContradiction (fun z => ?_)
      exact h2 r (by omega) d hw a
    have n1 : ¬ ro_k n c r < ro_k n c f := fun z => by have := k1.mp z; omega
    have n2 : ¬ ro_k n c l < ro_k n c r := fun z => by have := k2.mp z; omega
    omega
theorem ro_Ocount {n : Nat} {x P : Nat → Nat} {m k lo hi : Nat} (h : ro_O n x P m k lo hi) (h1 : lo ≤ hi) (h2 : hi ≤ n) : ca_c (fun i => ro_m n x P m k i) n = hi - lo := by
  have e1 : ca_c (fun i => ro_m n x P m k i) n = ca_c (fun i => lo ≤ ro_w n x i ∧ ro_w n x i < hi) n := ca_cc (fun i hi' => (h i hi').symm)
  have e3 : ca_c (fun r => lo ≤ r ∧ r < hi) n = ca_c (fun r => lo ≤ r) hi := ca_cinit (p := fun r => lo ≤ r) h2
  rw [e1, ca_cperm (ro_wP n x) (fun r => lo ≤ r ∧ r < hi), e3]
  have e2 : ca_c (fun r => lo ≤ r) hi + ca_c (fun r => True ∧ r < lo) hi = hi := by
    rw [← ca_cor (p := fun r => lo ≤ r) (q := fun r => True ∧ r < lo) (fun i _ a b => by have := b.2; omega)]
    exact ca_call (fun i _ => by
      show lo ≤ i ∨ (True ∧ i < lo)
      by_cases c : lo ≤ i
      · exact Or.inl c
      · exact Or.inr ⟨True.intro, by omega⟩)
  rw [ca_cinit (p := fun _ => True) h1, ca_call (fun _ _ => True.intro)] at e2
  omega
theorem ro_mlater {n : Nat} {x P : Nat → Nat} {m k i : Nat} (h : ro_m n x P m 0 i) : ro_m n x P m k ((i + k) % n) := by
  intro q h1 h2
  rw [ro_am]
  have := h q (by omega) h2
  have e : i + (q - 0) = i + k + (q - k) := by omega
  rw [e] at this; exact this
theorem ro_Onone {n : Nat} {x P : Nat → Nat} {m k lo : Nat} (h : ro_O n x P m k lo lo) : ca_c (fun i => ro_m n x P m 0 i) n = 0 := by
  refine ca_cnone (fun i hi z => ?_)
  have a := (h _ (Nat.mod_lt (i + k) (by omega))).mpr (ro_mlater z)
  omega
end
section
/-! sorting by doubling: labels of sorted keys, a round, the end -/
noncomputable def so_lab (q : Nat → Nat) (r : Nat) : Nat := ca_c (fun t => 0 < t ∧ q t ≠ q (t - 1)) (r + 1)
theorem so_lab0 (q : Nat → Nat) : so_lab q 0 = 0 := by
  unfold so_lab; exact ca_cnone (fun i hi z => by have := z.1; omega)
theorem so_labs (q : Nat → Nat) (r : Nat) : so_lab q (r + 1) = so_lab q r + ca_b (q (r + 1) ≠ q r) := by
  unfold so_lab
  rw [ca_cs]
  congr 1
  exact ca_bc ⟨fun z => z.2, fun z => ⟨by omega, z⟩⟩
theorem so_labt {q : Nat → Nat} {r : Nat} (h : q (r + 1) = q r) : so_lab q (r + 1) = so_lab q r := by
  rw [so_labs, ca_bf (fun z => z h)]; omega
theorem so_labf {q : Nat → Nat} {r : Nat} (h : q (r + 1) ≠ q r) : so_lab q (r + 1) = so_lab q r + 1 := by
  rw [so_labs, ca_bt h]
theorem so_lable (q : Nat → Nat) : ∀ r, so_lab q r ≤ r := by
  intro r
  induction r with
  | zero => rw [so_lab0]; omega
  | succ r ih => rw [so_labs]; have := ca_b1 (q (r + 1) ≠ q r); omega
theorem so_labI {n : Nat} {q : Nat → Nat} (hq : ∀ r, r + 1 < n → q r ≤ q (r + 1)) : ∀ t, t < n → ∀ r, r ≤ t → (q r = q t ∧ so_lab q r = so_lab q t) ∨ (q r < q t ∧ so_lab q r < so_lab q t) := by
  intro t
  induction t with
  | zero => intro _ r hr
            have e : r = 0 := by omega
            subst e; exact Or.inl ⟨rfl, rfl⟩
  | succ t ih =>
    intro ht r hr
    by_cases e : r = t + 1
    · subst e; exact Or.inl ⟨rfl, rfl⟩
    · have h1 := ih (by omega) r (by omega)
      have h2 := hq t ht
      by_cases g : q (t + 1) = q t
      · rw [so_labt g, g]; exact h1
      · rw [so_labf g]
        refine Or.inr ⟨?_, ?_⟩
        · rcases h1 with a | a <;> omega
        · rcases h1 with a | a <;> omega
theorem so_labiff {n : Nat} {q : Nat → Nat} (hq : ∀ r, r + 1 < n → q r ≤ q (r + 1)) {r t : Nat} (hr : r < n) (ht : t < n) : so_lab q r < so_lab q t ↔ q r < q t := by
  rcases Nat.le_total r t with h | h
  · rcases so_labI hq t ht r h with a | a
    · constructor <;> intro z <;> omega
    · constructor <;> intro z <;> omega
  · rcases so_labI hq r hr t h with a | a
    · constructor <;> intro z <;> omega
    · constructor <;> intro z <;> omega
def so_key (c : Nat → Nat) (d n a : Nat) : Nat := 64 * c a + c ((a + d) % n)
theorem so_keylt {c : Nat → Nat} {d n a b : Nat} (ha : c ((a + d) % n) < 64) (hb : c ((b + d) % n) < 64) : so_key c d n a < so_key c d n b ↔ c a < c b ∨ (c a = c b ∧ c ((a + d) % n) < c ((b + d) % n)) := by
  unfold so_key; constructor <;> intro h <;> omega
theorem so_keyne {c : Nat → Nat} {d n a b : Nat} (ha : c ((a + d) % n) < 64) (hb : c ((b + d) % n) < 64) : so_key c d n a ≠ so_key c d n b ↔ c a ≠ c b ∨ c ((a + d) % n) ≠ c ((b + d) % n) := by
  unfold so_key; constructor <;> intro h <;> omega
/-- what a stable placing by value gives -/
def so_pl (n : Nat) (c s o : Nat → Nat) : Prop := ∀ j, j < n → o (ca_r n (ca_X (fun j => c (s j))) j) = s j
theorem so_plex {n : Nat} {c s o : Nat → Nat} (h : so_pl n c s o) {r : Nat} (hr : r < n) : ∃ j, j < n ∧ ca_r n (ca_X (fun j => c (s j))) j = r ∧ o r = s j := by
  obtain ⟨j, hj, e⟩ := ca_sur (ca_rP (ca_XT n (fun j => c (s j)))) hr
  exact ⟨j, hj, e, by rw [← e]; exact h j hj⟩
theorem so_plP {n : Nat} {c s o : Nat → Nat} (hs : ca_P n s) (h : so_pl n c s o) : ca_P n o := by
  refine ⟨fun r hr => ?_, fun r t hr ht e => ?_⟩
  · obtain ⟨j, hj, _, e⟩ := so_plex h hr
    rw [e]; exact hs.1 j hj
  · obtain ⟨j, hj, e1, e2⟩ := so_plex h hr
    obtain ⟨k, hk, f1, f2⟩ := so_plex h ht
    have g := hs.2 j k hj hk (by rw [← e2, ← f2]; exact e)
    rw [← e1, ← f1, g]
theorem so_plX {n : Nat} {c s o : Nat → Nat} (h : so_pl n c s o) {r t : Nat} (hrt : r < t) (ht : t < n) : ∃ j k, j < n ∧ k < n ∧ o r = s j ∧ o t = s k ∧ (c (s j) < c (s k) ∨ (c (s j) = c (s k) ∧ j < k)) := by
  obtain ⟨j, hj, e1, e2⟩ := so_plex h (r := r) (by omega)
  obtain ⟨k, hk, f1, f2⟩ := so_plex h ht
  refine ⟨j, k, hj, hk, e2, f2, ?_⟩
  exact (ca_riff (ca_XT n (fun j => c (s j))) hj hk).mpr (by rw [e1, f1]; exact hrt)
/-- the state of the doubling: values c rank the first w places, o is sorted by them -/
def so_I (n : Nat) (x : Nat → Nat) (w : Nat) (c o : Nat → Nat) : Prop :=
  (∀ i, i < n → c i < 48) ∧ (∀ i j, i < n → j < n → (c i < c j ↔ ro_L n x w i j)) ∧ ca_P n o ∧ (∀ r s, r < s → s < n → c (o r) ≤ c (o s))
theorem so_eq {n w : Nat} {x c : Nat → Nat} (h : ∀ i j, i < n → j < n → (c i < c j ↔ ro_L n x w i j)) {i j : Nat} (hi : i < n) (hj : j < n) : c i = c j ↔ ro_E n x w i j := by
  have a := h i j hi hj
  have b := h j i hj hi
  constructor
  · intro e
    rcases ro_tri (fun m => ro_a n x (i + m)) (fun m => ro_a n x (j + m)) w with d | d | d
    · have := a.mpr d; omega
    · exact d
    · have := b.mpr d; omega
  · intro e
    have n1 : ¬ c i < c j := fun z => ro_le (a.mp z) e
    have n2 : ¬ c j < c i := fun z => ro_le (b.mp z) (ro_sym e)
    omega
/-- new values from sorted keys -/
theorem so_new {n w d : Nat} {x c o nc : Nat → Nat} (hn : n ≤ 48) (hc : ∀ i, i < n → c i < 48) (hm : ∀ i, i < n → (i + d) % n < n) (ho : ca_P n o)
    (hs : ∀ r s, r < s → s < n → so_key c d n (o r) ≤ so_key c d n (o s)) (hnc : ∀ r, r < n → nc (o r) = so_lab (fun r => so_key c d n (o r)) r)
    (hk : ∀ i j, i < n → j < n → (c i < c j ∨ (c i = c j ∧ c ((i + d) % n) < c ((j + d) % n)) ↔ ro_L n x w i j)) : so_I n x w nc o := by
  have hq : ∀ r, r + 1 < n → so_key c d n (o r) ≤ so_key c d n (o (r + 1)) := fun r h => hs r (r + 1) (by omega) h
  have hiff : ∀ r t, r < n → t < n → (nc (o r) < nc (o t) ↔ so_key c d n (o r) < so_key c d n (o t)) := by
    intro r t hr ht
    rw [hnc r hr, hnc t ht]
    exact so_labiff (q := fun r => so_key c d n (o r)) hq hr ht
  refine ⟨?_, ?_, ho, ?_⟩
  · intro i hi
    obtain ⟨r, hr, e⟩ := ca_sur ho hi
    rw [← e, hnc r hr]
    have := so_lable (fun r => so_key c d n (o r)) r
    omega
  · intro i j hi hj
    obtain ⟨r, hr, e⟩ := ca_sur ho hi
    obtain ⟨t, ht, f⟩ := ca_sur ho hj
    rw [← hk i j hi hj, ← e, ← f, hiff r t hr ht]
    rw [e, f]
    exact so_keylt (by have := hc _ (hm i hi); omega) (by have := hc _ (hm j hj); omega)
  · intro r s h hs'
    have a := hiff s r hs' (by omega)
    have b := hs r s h hs'
    omega
theorem so_init {n : Nat} {x c s o nc : Nat → Nat} (hn : n ≤ 48) (hc : ∀ i, i < n → c i < 48) (hx : ∀ i, i < n → c i = x i) (hs : ∀ j, j < n → s j = j)
    (ho : so_pl n c s o) (hnc : ∀ r, r < n → nc (o r) = so_lab (fun r => so_key c 0 n (o r)) r) : so_I n x 1 nc o := by
  have hsP : ca_P n s := ⟨fun i hi => by rw [hs i hi]; exact hi, fun i j hi hj e => by rw [hs i hi, hs j hj] at e; exact e⟩
  have hm : ∀ i, i < n → (i + 0) % n = i := fun i hi => Nat.mod_eq_of_lt hi
  refine so_new (d := 0) hn hc (fun i hi => by rw [hm i hi]; exact hi) (so_plP hsP ho) ?_ hnc ?_
  · intro r t h ht
    have hP := so_plP hsP ho
    obtain ⟨j, k, hj, hk, e1, e2, h3⟩ := so_plX ho h ht
    have g1 := hP.1 r (by omega)
    have g2 := hP.1 t ht
    unfold so_key
    rw [hm _ g1, hm _ g2, e1, e2]
    rcases h3 with a | a <;> omega
  · intro i j hi hj
    rw [ro_L1, ro_alt hi, ro_alt hj, hm i hi, hm j hj, hx i hi, hx j hj]
    constructor <;> intro z <;> omega
theorem so_round {n w : Nat} {x c o s o' nc : Nat → Nat} (hn : n ≤ 48) (hw : w < n) (I : so_I n x w c o) (hs : ∀ j, j < n → s j = (o j + (n - w)) % n)
    (ho : so_pl n c s o') (hnc : ∀ r, r < n → nc (o' r) = so_lab (fun r => so_key c w n (o' r)) r) : so_I n x (w + w) nc o' := by
  have h0 : 0 < n := by omega
  obtain ⟨hc, hL, hP, hS⟩ := I
  have hsP0 : ca_P n (fun j => (o j + (n - w)) % n) := ca_Pcomp (ro_addP h0 (n - w)) hP
  have hsP : ca_P n s := ⟨fun i hi => by rw [hs i hi]; exact hsP0.1 i hi, fun i j hi hj e => by rw [hs i hi, hs j hj] at e; exact hsP0.2 i j hi hj e⟩
  have hm : ∀ i, i < n → (i + w) % n < n := fun i _ => Nat.mod_lt _ h0
  have hback : ∀ j, j < n → (s j + w) % n = o j := by
    intro j hj
    rw [hs j hj, Nat.mod_add_mod]
    have e : o j + (n - w) + w = o j + n := by omega
    rw [e, Nat.add_mod_right, Nat.mod_eq_of_lt (hP.1 j hj)]
  refine so_new (d := w) hn hc hm (so_plP hsP ho) ?_ hnc ?_
  · intro r t h ht
    obtain ⟨j, k, hj, hk, e1, e2, h3⟩ := so_plX ho h ht
    unfold so_key
    rw [e1, e2, hback j hj, hback k hk]
    have b1 := hc _ (hP.1 j hj)
    have b2 := hc _ (hP.1 k hk)
    rcases h3 with a | ⟨a, b⟩
    · omega
    · have := hS j k b hk; omega
  · intro i j hi hj
    rw [ro_Lsplit, hL i j hi hj, so_eq hL hi hj, hL _ _ (hm i hi) (hm j hj)]
    have e : ro_L n x w ((i + w) % n) ((j + w) % n) ↔ ro_L n x w (i + w) (j + w) := ro_Lcong (ro_Emod n x _ w) (ro_Emod n x _ w)
    rw [e]
theorem so_end {n w : Nat} {x c o s o' : Nat → Nat} (hw : n ≤ w) (I : so_I n x w c o) (hs : ∀ j, j < n → s j = j) (ho : so_pl n c s o') : ∀ i, i < n → o' (ro_w n x i) = i := by
  intro i hi
  have h0 : 0 < n := by omega
  obtain ⟨_, hL, _, _⟩ := I
  have e : ro_w n x i = ca_r n (ca_X (fun j => c (s j))) i := by
    refine ca_cc (fun j hj => ?_)
    show ro_K n x j i ↔ ca_X (fun j => c (s j)) j i
    unfold ro_K ca_X
    dsimp only
    rw [hs j hj, hs i hi, hL j i hj hi, so_eq hL hj hi, ro_Lw h0 hw]
    have e2 : ro_E n x w j i ↔ ro_E n x n j i := ⟨fun z => ro_Ew hw z, fun z => ro_Eall h0 z w⟩
    rw [e2]
  rw [e, ho i hi, hs i hi]
end
section
/-! move to front -/
def mt_st (l : Nat → Nat) (k : Nat) : Nat → Nat := fun j => if j = 0 then l k else if j ≤ k then l (j - 1) else l j
def mt_l (pl : Nat → Nat) : Nat → Nat → Nat
  | 0 => fun j => j
  | r + 1 => mt_st (mt_l pl r) (pl r)
theorem mt_ls (pl : Nat → Nat) (r : Nat) : mt_l pl (r + 1) = mt_st (mt_l pl r) (pl r) := rfl
def mt_M (A n : Nat) (c pl : Nat → Nat) : Prop := ∀ r, r < n → pl r < A ∧ mt_l pl r (pl r) = c r
theorem mt_lcong {pl pk : Nat → Nat} : ∀ {r : Nat}, (∀ q, q < r → pl q = pk q) → mt_l pl r = mt_l pk r := by
  intro r
  induction r with
  | zero => intro _; rfl
  | succ r ih => intro h; rw [mt_ls, mt_ls, ih (fun q hq => h q (by omega)), h r (by omega)]
theorem mt_stP {A k : Nat} {l : Nat → Nat} (h : ca_P A l) (hk : k < A) : ca_P A (mt_st l k) := by
  have g : ∀ j, j < A → ∃ t, t < A ∧ mt_st l k j = l t ∧ (j = 0 → t = k) ∧ (0 < j → j ≤ k → t + 1 = j) ∧ (k < j → t = j) := by
    intro j hj
    unfold mt_st
    by_cases a : j = 0
    · subst a; exact ⟨k, hk, if_pos rfl, fun _ => rfl, fun z => by omega, fun z => by omega⟩
    · rw [if_neg a]
      by_cases b : j ≤ k
      · rw [if_pos b]; exact ⟨j - 1, by omega, rfl, fun z => by omega, fun _ _ => by omega, fun z => by omega⟩
      · rw [if_neg b]; exact ⟨j, hj, rfl, fun z => by omega, fun _ z => by omega, fun _ => rfl⟩
  refine ⟨fun j hj => ?_, fun i j hi hj e => ?_⟩
  · obtain ⟨t, ht, e, _⟩ := g j hj
    rw [e]; exact h.1 t ht
  · obtain ⟨t, ht, e1, t1, t2, t3⟩ := g i hi
    obtain ⟨s, hs, e2, s1, s2, s3⟩ := g j hj
    have f := h.2 t s ht hs (by rw [← e1, ← e2]; exact e)
    omega
theorem mt_lP {A n : Nat} {pl : Nat → Nat} (h : ∀ r, r < n → pl r < A) : ∀ r, r ≤ n → ca_P A (mt_l pl r) := by
  intro r
  induction r with
  | zero => intro _; exact ca_Pid A
  | succ r ih => intro hr; rw [mt_ls]; exact mt_stP (ih (by omega)) (h r (by omega))
theorem mt_uniq {A n : Nat} {c d pl pk : Nat → Nat} (h : mt_M A n c pl) (g : mt_M A n d pk) (e : ∀ r, r < n → c r = d r) : ∀ r, r < n → pl r = pk r := by
  have H : ∀ m, m ≤ n → ∀ r, r < m → pl r = pk r := by
    intro m
    induction m with
    | zero => intro _ r hr; omega
    | succ m ih =>
      intro hm r hr
      by_cases z : r = m
      · subst z
        have hl := mt_lcong (pl := pl) (pk := pk) (r := r) (ih (by omega))
        have a := h r (by omega)
        have b := g r (by omega)
        have P := mt_lP (A := A) (fun q hq => (h q hq).1) r (by omega)
        refine P.2 _ _ a.1 b.1 ?_
        rw [a.2, hl, b.2]; exact e r (by omega)
      · exact ih (by omega) r (by omega)
  exact H n (Nat.le_refl n)
theorem mt_uniqc {A n : Nat} {c d pl pk : Nat → Nat} (h : mt_M A n c pl) (g : mt_M A n d pk) (e : ∀ r, r < n → pl r = pk r) : ∀ r, r < n → c r = d r := by
  intro r hr
  rw [← (h r hr).2, ← (g r hr).2, mt_lcong (fun q hq => e q (by omega)), e r hr]
/-- when a value was last seen: its place + 1, or 0 -/
def mt_t (c : Nat → Nat) : Nat → Nat → Nat
  | 0, _ => 0
  | r + 1, v => if c r = v then r + 1 else mt_t c r v
theorem mt_tt {c : Nat → Nat} {r v : Nat} (h : c r = v) : mt_t c (r + 1) v = r + 1 := if_pos h
theorem mt_tf {c : Nat → Nat} {r v : Nat} (h : ¬ c r = v) : mt_t c (r + 1) v = mt_t c r v := if_neg h
theorem mt_tle (c : Nat → Nat) (v : Nat) : ∀ r, mt_t c r v ≤ r := by
  intro r
  induction r with
  | zero => exact Nat.le_refl _
  | succ r ih =>
    by_cases h : c r = v
    · rw [mt_tt h]; omega
    · rw [mt_tf h]; omega
def mt_o (c : Nat → Nat) (v f t : Nat) : Prop := ∃ k, f ≤ k ∧ k < t ∧ c k = v
theorem mt_occ (c : Nat → Nat) (v f : Nat) : ∀ r, mt_o c v f r ↔ f < mt_t c r v := by
  intro r
  induction r with
  | zero => exact ⟨fun ⟨k, _, h, _⟩ => by omega, fun h => by have := mt_tle c v 0; omega⟩
  | succ r ih =>
    by_cases h : c r = v
    · rw [mt_tt h]
      constructor
      · rintro ⟨k, h1, h2, _⟩; omega
      · intro z; exact ⟨r, by omega, by omega, h⟩
    · rw [mt_tf h, ← ih]
      constructor
      · rintro ⟨k, h1, h2, h3⟩
        refine ⟨k, h1, ?_, h3⟩
        by_cases e : k = r
        · subst e; exact absurd h3 h
        · omega
      · rintro ⟨k, h1, h2, h3⟩; exact ⟨k, h1, by omega, h3⟩
theorem mt_tc {c : Nat → Nat} {v : Nat} : ∀ {r q : Nat}, mt_t c r v = q + 1 → c q = v := by
  intro r
  induction r with
  | zero => intro q h; have := mt_tle c v 0; omega
  | succ r ih =>
    intro q h
    by_cases e : c r = v
    · rw [mt_tt e] at h
      have e2 : q = r := by omega
      subst e2; exact e
    · rw [mt_tf e] at h; exact ih h
def mt_B (c : Nat → Nat) (r w v : Nat) : Prop := mt_t c r v < mt_t c r w ∨ (mt_t c r w = mt_t c r v ∧ w < v)
theorem mt_BT (A : Nat) (c : Nat → Nat) (r : Nat) : ca_T A (mt_B c r) := by
  refine ⟨?_, ?_, ?_⟩
  · rintro i _ (h | ⟨_, h⟩) <;> omega
  · rintro i j k _ _ _ (a | ⟨a, a'⟩) (b | ⟨b, b'⟩)
    · exact Or.inl (by omega)
    · exact Or.inl (by omega)
    · exact Or.inl (by omega)
    · exact Or.inr ⟨by omega, by omega⟩
  · intro i j _ _
    rcases Nat.lt_trichotomy (mt_t c r i) (mt_t c r j) with h | h | h
    · exact Or.inr (Or.inr (Or.inl h))
    · rcases Nat.lt_trichotomy i j with d | d | d
      · exact Or.inl (Or.inr ⟨h, d⟩)
      · exact Or.inr (Or.inl d)
      · exact Or.inr (Or.inr (Or.inr ⟨h.symm, d⟩))
    · exact Or.inl (Or.inl h)
theorem mt_sorted {A n : Nat} {c pl : Nat → Nat} (h : mt_M A n c pl) : ∀ r, r ≤ n → ∀ i j, i < j → j < A → mt_B c r (mt_l pl r i) (mt_l pl r j) := by
  intro r
  induction r with
  | zero => intro _ i j hij _; exact Or.inr ⟨rfl, hij⟩
  | succ r ih =>
    intro hr i j hij hj
    have ih := ih (by omega)
    have P := mt_lP (A := A) (fun q hq => (h q hq).1) r (by omega)
    obtain ⟨hk, hc⟩ := h r (by omega)
    have keep : ∀ t, t < A → t ≠ pl r → mt_t c (r + 1) (mt_l pl r t) = mt_t c r (mt_l pl r t) := by
      intro t ht hne
      refine mt_tf (fun z => hne ?_)
      exact P.2 _ _ ht hk (by rw [← z, hc])
    have two : ∀ s t, s < t → t < A → s ≠ pl r → t ≠ pl r → mt_B c (r + 1) (mt_l pl r s) (mt_l pl r t) := by
      intro s t hst ht h1 h2
      unfold mt_B
      rw [keep s (by omega) h1, keep t ht h2]
      exact ih s t hst ht
    rw [mt_ls]
    have ej : mt_st (mt_l pl r) (pl r) j = if j ≤ pl r then mt_l pl r (j - 1) else mt_l pl r j := by
      unfold mt_st; rw [if_neg (by omega)]
    by_cases a : i = 0
    · subst a
      have e0 : mt_st (mt_l pl r) (pl r) 0 = c r := by unfold mt_st; rw [if_pos rfl, hc]
      rw [e0, ej]
      have top : ∀ t, t < A → t ≠ pl r → mt_B c (r + 1) (c r) (mt_l pl r t) := by
        intro t ht hne
        refine Or.inl ?_
        rw [keep t ht hne, mt_tt rfl]
        have := mt_tle c (mt_l pl r t) r; omega
      split
      · exact top _ (by omega) (by omega)
      · exact top _ hj (by omega)
    · have ei : mt_st (mt_l pl r) (pl r) i = if i ≤ pl r then mt_l pl r (i - 1) else mt_l pl r i := by
        unfold mt_st; rw [if_neg a]
      rw [ei, ej]
      split
      · split
        · exact two _ _ (by omega) (by omega) (by omega) (by omega)
        · exact two _ _ (by omega) hj (by omega) (by omega)
      · split
        · omega
        · exact two _ _ hij hj (by omega) (by omega)
theorem mt_rank {A n : Nat} {c pl : Nat → Nat} (h : mt_M A n c pl) {r : Nat} (hr : r < n) : pl r = ca_r A (mt_B c r) (c r) := by
  have P := mt_lP (A := A) (fun q hq => (h q hq).1) r (by omega)
  have e := ca_rsort (mt_BT A c r) P.1 (fun i j hij hj => mt_sorted h r (by omega) i j hij hj) (pl r) (h r hr).1
  rw [(h r hr).2] at e
  exact e.symm
theorem mt_front1 {A : Nat} {c : Nat → Nat} {r v : Nat} (hv : 0 < mt_t c r v) : ca_r A (mt_B c r) v = ca_c (fun w => mt_o c w (mt_t c r v) r) A := by
  refine ca_cc (fun w hw => ?_)
  show mt_B c r w v ↔ mt_o c w (mt_t c r v) r
  rw [mt_occ]
  constructor
  · rintro (a | ⟨a, b⟩)
    · exact a
    · exfalso
      obtain ⟨q, e⟩ : ∃ q, mt_t c r v = q + 1 := ⟨mt_t c r v - 1, by omega⟩
      have e1 := mt_tc e
      have e2 := mt_tc (a.trans e)
      omega
  · intro a; exact Or.inl a
theorem mt_front0 {A : Nat} {c : Nat → Nat} {r v : Nat} (hA : v < A) (hv : mt_t c r v = 0) : ca_r A (mt_B c r) v = ca_c (fun w => mt_o c w 0 r) A + ca_c (fun w => ¬ mt_o c w 0 r) v := by
  have e : ca_r A (mt_B c r) v = ca_c (fun w => mt_o c w 0 r ∨ (¬ mt_o c w 0 r ∧ w < v)) A := by
    refine ca_cc (fun w hw => ?_)
    show mt_B c r w v ↔ _
    unfold mt_B
    rw [mt_occ, hv]
    constructor
    · rintro (a | ⟨a, b⟩)
      · exact Or.inl a
      · exact Or.inr ⟨by omega, b⟩
    · rintro (a | ⟨a, b⟩)
      · exact Or.inl a
      · exact Or.inr ⟨by omega, b⟩
  rw [e, ca_cor (p := fun w => mt_o c w 0 r) (q := fun w => ¬ mt_o c w 0 r ∧ w < v) (fun w _ a b => b.1 a), ca_cinit (p := fun w => ¬ mt_o c w 0 r) (by omega)]
theorem mt_diff {A : Nat} {c : Nat → Nat} {f : Nat} : ∀ {t : Nat}, (∀ k, k < t → c k < A) → ca_c (fun k => f ≤ k ∧ ¬ mt_o c (c k) f k) t = ca_c (fun w => mt_o c w f t) A := by
  intro t
  induction t with
  | zero => intro _; rw [ca_c0]; exact (ca_cnone (fun w _ ⟨k, _, h, _⟩ => by omega)).symm
  | succ t ih =>
    intro h
    have ih := ih (fun k hk => h k (by omega))
    by_cases z : f ≤ t ∧ ¬ mt_o c (c t) f t
    · rw [ca_cst (p := fun k => f ≤ k ∧ ¬ mt_o c (c k) f k) z, ih]
      have e : ca_c (fun w => mt_o c w f (t + 1)) A = ca_c (fun w => mt_o c w f t ∨ w = c t) A := by
        refine ca_cc (fun w _ => ?_)
        constructor
        · rintro ⟨k, h1, h2, h3⟩
          by_cases e : k = t
          · subst e; exact Or.inr h3.symm
          · exact Or.inl ⟨k, h1, by omega, h3⟩
        · rintro (⟨k, h1, h2, h3⟩ | e)
          · exact ⟨k, h1, by omega, h3⟩
          · exact ⟨t, z.1, by omega, e.symm⟩
      rw [e, ca_cor (p := fun w => mt_o c w f t) (q := fun w => w = c t) (fun w _ a b => by subst b; exact z.2 a), ca_c1 (h t (by omega))]
    · rw [ca_csf (p := fun k => f ≤ k ∧ ¬ mt_o c (c k) f k) z, ih]
      refine ca_cc (fun w _ => ?_)
      constructor
      · rintro ⟨k, h1, h2, h3⟩; exact ⟨k, h1, by omega, h3⟩
      · rintro ⟨k, h1, h2, h3⟩
        by_cases e : k = t
        · subst e
          have y : mt_o c (c k) f k := Classical.byContradiction (fun y => z ⟨h1, y⟩)
          rw [h3] at y; exact y
        · exact ⟨k, h1, by omega, h3⟩
end
section
/-! runs of zero ranks as digits -/
def ru_p (y : Nat → Nat) : Nat → Nat × Nat
  | 0 => (0, 1)
  | s + 1 => if y s < 2 then ((ru_p y s).1 + (y s + 1) * (ru_p y s).2, 2 * (ru_p y s).2) else ((ru_p y s).1 + 1, 1)
def ru_a (y : Nat → Nat) (s : Nat) : Nat := (ru_p y s).1
def ru_w (y : Nat → Nat) (s : Nat) : Nat := (ru_p y s).2
theorem ru_a0 (y : Nat → Nat) : ru_a y 0 = 0 := rfl
theorem ru_w0 (y : Nat → Nat) : ru_w y 0 = 1 := rfl
theorem ru_al {y : Nat → Nat} {s : Nat} (h : y s < 2) : ru_a y (s + 1) = ru_a y s + (y s + 1) * ru_w y s := by
  unfold ru_a ru_w; rw [ru_p, if_pos h]
theorem ru_wl {y : Nat → Nat} {s : Nat} (h : y s < 2) : ru_w y (s + 1) = 2 * ru_w y s := by
  unfold ru_w; rw [ru_p, if_pos h]
theorem ru_ah {y : Nat → Nat} {s : Nat} (h : ¬ y s < 2) : ru_a y (s + 1) = ru_a y s + 1 := by
  unfold ru_a; rw [ru_p, if_neg h]
theorem ru_wh {y : Nat → Nat} {s : Nat} (h : ¬ y s < 2) : ru_w y (s + 1) = 1 := by
  unfold ru_w; rw [ru_p, if_neg h]
theorem ru_wp (y : Nat → Nat) : ∀ s, 0 < ru_w y s := by
  intro s
  induction s with
  | zero => rw [ru_w0]; omega
  | succ s ih =>
    by_cases h : y s < 2
    · rw [ru_wl h]; omega
    · rw [ru_wh h]; omega
theorem ru_inc (y : Nat → Nat) (s : Nat) : ru_a y s < ru_a y (s + 1) := by
  by_cases h : y s < 2
  · rw [ru_al h]
    have := Nat.mul_pos (show 0 < y s + 1 by omega) (ru_wp y s)
    omega
  · rw [ru_ah h]; omega
theorem ru_mono (y : Nat → Nat) (s : Nat) : ∀ d, ru_a y s + d ≤ ru_a y (s + d) := by
  intro d
  induction d with
  | zero => exact Nat.le_refl _
  | succ d ih => have := ru_inc y (s + d); have e : s + (d + 1) = s + d + 1 := by omega
                 rw [e]; omega
theorem ru_le (y : Nat → Nat) (s : Nat) : s ≤ ru_a y s := by
  have := ru_mono y 0 s
  rw [ru_a0, Nat.zero_add] at this; simpa using this
theorem ru_cong {y z : Nat → Nat} : ∀ {s : Nat}, (∀ q, q < s → y q = z q) → ru_p y s = ru_p z s := by
  intro s
  induction s with
  | zero => intro _; rfl
  | succ s ih => intro h; rw [ru_p, ru_p, ih (fun q hq => h q (by omega)), h s (by omega)]
def ru_Q (rk y : Nat → Nat) (sc : Nat) : Prop := ∀ s, s < sc → (y s < 2 → ∀ i, ru_a y s ≤ i → i < ru_a y (s + 1) → rk i = 0) ∧ (¬ y s < 2 → rk (ru_a y s) = y s - 1)
theorem ru_Qcong {rk y z : Nat → Nat} {sc : Nat} (h : ∀ q, q < sc → y q = z q) (g : ru_Q rk y sc) : ru_Q rk z sc := by
  intro s hs
  have e1 : ru_a z s = ru_a y s := by unfold ru_a; rw [ru_cong (fun q hq => h q (by omega))]
  have e2 : ru_a z (s + 1) = ru_a y (s + 1) := by unfold ru_a; rw [ru_cong (fun q hq => h q (by omega))]
  rw [e1, e2, ← h s hs]
  exact g s hs
theorem ru_hi {rk y z : Nat → Nat} {sc : Nat} (h : ∀ q, q < sc → z q = y q) (g : ru_Q rk y sc) (hz : z sc = rk (ru_a y sc) + 1) (h0 : rk (ru_a y sc) ≠ 0) : ru_Q rk z (sc + 1) ∧ ru_a z (sc + 1) = ru_a y sc + 1 ∧ ru_w z (sc + 1) = 1 := by
  have g2 := ru_Qcong (z := z) (fun q hq => (h q hq).symm) g
  have e : ru_a z sc = ru_a y sc := by unfold ru_a; rw [ru_cong h]
  have n2 : ¬ z sc < 2 := by omega
  refine ⟨fun s hs => ?_, ?_, ru_wh n2⟩
  · by_cases c : s = sc
    · subst c
      refine ⟨fun c => absurd c n2, fun _ => ?_⟩
      rw [e]; omega
    · exact g2 s (by omega)
  · rw [ru_ah n2, e]
theorem ru_lo {rk y z : Nat → Nat} {sc d : Nat} (h : ∀ q, q < sc → z q = y q) (g : ru_Q rk y sc) (hz : z sc = d) (hd : d < 2) (h0 : ∀ i, ru_a y sc ≤ i → i < ru_a y sc + (d + 1) * ru_w y sc → rk i = 0) : ru_Q rk z (sc + 1) ∧ ru_a z (sc + 1) = ru_a y sc + (d + 1) * ru_w y sc ∧ ru_w z (sc + 1) = 2 * ru_w y sc := by
  have g2 := ru_Qcong (z := z) (fun q hq => (h q hq).symm) g
  have e : ru_a z sc = ru_a y sc := by unfold ru_a; rw [ru_cong h]
  have ew : ru_w z sc = ru_w y sc := by unfold ru_w; rw [ru_cong h]
  have n2 : z sc < 2 := by omega
  have ea : ru_a z (sc + 1) = ru_a y sc + (d + 1) * ru_w y sc := by rw [ru_al n2, e, ew, hz]
  refine ⟨fun s hs => ?_, ea, by rw [ru_wl n2, ew]⟩
  by_cases c : s = sc
  · subst c
    refine ⟨fun _ i h1 h2 => ?_, fun c => absurd n2 c⟩
    rw [ea] at h2; rw [e] at h1
    exact h0 i h1 h2
  · exact g2 s (by omega)
end
section
/-! canonical codes from lengths -/
noncomputable def hu_n (l : Nat → Nat) (cc L : Nat) : Nat := ca_c (fun v => l v = L) cc
noncomputable def hu_f (l : Nat → Nat) (cc : Nat) : Nat → Nat
  | 0 => 0
  | L + 1 => 2 * (hu_f l cc L + hu_n l cc L)
theorem hu_fs (l : Nat → Nat) (cc L : Nat) : hu_f l cc (L + 1) = 2 * (hu_f l cc L + hu_n l cc L) := rfl
noncomputable def hu_c (l : Nat → Nat) (cc v : Nat) : Nat := hu_f l cc (l v) + ca_c (fun u => l u = l v) v
noncomputable def hu_q (l : Nat → Nat) (cc L : Nat) : Nat := ca_c (fun v => l v < L) cc
theorem hu_qs (l : Nat → Nat) (cc L : Nat) : hu_q l cc (L + 1) = hu_q l cc L + hu_n l cc L := by
  unfold hu_q hu_n
  rw [← ca_cor (p := fun v => l v < L) (q := fun v => l v = L) (fun v _ a b => by omega)]
  exact ca_cc (fun v _ => by constructor <;> intro z <;> omega)
theorem hu_qr {l : Nat → Nat} {cc v : Nat} (hv : v < cc) : hu_q l cc (l v) + ca_c (fun u => l u = l v) v = ca_r cc (ca_X l) v := (ca_Xr hv).symm
/-- good lengths -/
def hu_G (l : Nat → Nat) (cc : Nat) : Prop := (∀ v, v < cc → 1 ≤ l v ∧ l v ≤ 16) ∧ ca_s (fun v => 2 ^ (16 - l v)) cc ≤ 2 ^ 16
theorem hu_Gcong {l k : Nat → Nat} {cc : Nat} (h : ∀ v, v < cc → l v = k v) (g : hu_G l cc) : hu_G k cc := by
  refine ⟨fun v hv => by rw [← h v hv]; exact g.1 v hv, ?_⟩
  rw [← ca_sc (f := fun v => 2 ^ (16 - l v)) (fun v hv => by rw [h v hv])]
  exact g.2
theorem hu_ncong {l k : Nat → Nat} {cc : Nat} (h : ∀ v, v < cc → l v = k v) (L : Nat) : hu_n l cc L = hu_n k cc L := ca_cc (fun v hv => by rw [h v hv])
theorem hu_fcong {l k : Nat → Nat} {cc : Nat} (h : ∀ v, v < cc → l v = k v) : ∀ L, hu_f l cc L = hu_f k cc L := by
  intro L
  induction L with
  | zero => rfl
  | succ L ih => rw [hu_fs, hu_fs, ih, hu_ncong h]
theorem hu_ccong {l k : Nat → Nat} {cc : Nat} (h : ∀ v, v < cc → l v = k v) {v : Nat} (hv : v < cc) : hu_c l cc v = hu_c k cc v := by
  unfold hu_c
  rw [hu_fcong h, h v hv, ca_cc (p := fun u => l u = k v) (q := fun u => k u = k v) (fun u hu => by rw [h u (by omega)])]
theorem hu_sum {l : Nat → Nat} {cc : Nat} (g : hu_G l cc) : ∀ L, L ≤ 16 → (hu_f l cc L + hu_n l cc L) * 2 ^ (16 - L) = ca_s (fun v => ca_b (l v ≤ L) * 2 ^ (16 - l v)) cc := by
  intro L
  induction L with
  | zero =>
    intro _
    have e : hu_n l cc 0 = 0 := ca_cnone (fun v hv z => by have := (g.1 v hv).1; omega)
    rw [e]
    refine (Eq.trans ?_ (ca_sz (fun v hv => ?_)).symm)
    · rw [hu_f]
    · show ca_b (l v ≤ 0) * 2 ^ (16 - l v) = 0
      rw [ca_bf (fun z => by have := (g.1 v hv).1; omega)]; omega
  | succ L ih =>
    intro hL
    have ih := ih (by omega)
    have e1 : 2 ^ (16 - L) = 2 * 2 ^ (16 - (L + 1)) := by
      have e : 16 - L = (16 - (L + 1)) + 1 := by omega
      rw [e, Nat.pow_succ]; omega
    have e2 : hu_n l cc (L + 1) * 2 ^ (16 - (L + 1)) = ca_s (fun v => ca_b (l v = L + 1) * 2 ^ (16 - l v)) cc := by
      unfold hu_n ca_c
      rw [Nat.mul_comm, ← ca_smul]
      refine ca_sc (fun v _ => ?_)
      by_cases z : l v = L + 1
      · show 2 ^ (16 - (L + 1)) * ca_b (l v = L + 1) = ca_b (l v = L + 1) * 2 ^ (16 - l v)
        rw [z, Nat.mul_comm]
      · show 2 ^ (16 - (L + 1)) * ca_b (l v = L + 1) = ca_b (l v = L + 1) * 2 ^ (16 - l v)
        rw [ca_bf z]; omega
    rw [Nat.add_mul, e2, hu_fs]
    have e3 : 2 * (hu_f l cc L + hu_n l cc L) * 2 ^ (16 - (L + 1)) = (hu_f l cc L + hu_n l cc L) * 2 ^ (16 - L) := by
      rw [e1, Nat.mul_comm 2, Nat.mul_assoc]
    rw [e3, ih, ← ca_sadd]
    refine ca_sc (fun v _ => ?_)
    by_cases a : l v ≤ L
    · rw [ca_bt a, ca_bf (p := l v = L + 1) (by omega), ca_bt (p := l v ≤ L + 1) (by omega)]; omega
    · by_cases b : l v = L + 1
      · rw [ca_bf a, ca_bt b, ca_bt (p := l v ≤ L + 1) (by omega)]; omega
      · rw [ca_bf a, ca_bf b, ca_bf (p := l v ≤ L + 1) (by omega)]; omega
theorem hu_room {l : Nat → Nat} {cc : Nat} (g : hu_G l cc) {L : Nat} (hL : L ≤ 16) : hu_f l cc L + hu_n l cc L ≤ 2 ^ L := by
  have h1 := hu_sum g L hL
  have h2 : ca_s (fun v => ca_b (l v ≤ L) * 2 ^ (16 - l v)) cc ≤ 2 ^ 16 := by
    refine Nat.le_trans (ca_sle (fun v _ => ?_)) g.2
    have := Nat.mul_le_mul_right (2 ^ (16 - l v)) (ca_b1 (l v ≤ L))
    omega
  rw [← h1] at h2
  have e : 2 ^ 16 = 2 ^ L * 2 ^ (16 - L) := by
    rw [← Nat.pow_add]
    have e : L + (16 - L) = 16 := by omega
    rw [e]
  rw [e] at h2
  exact Nat.le_of_mul_le_mul_right h2 (Nat.pow_pos (by omega))
theorem hu_off {l : Nat → Nat} {cc v : Nat} (hv : v < cc) : ca_c (fun u => l u = l v) v < hu_n l cc (l v) := by
  unfold hu_n
  have h1 : ca_c (fun u => l u = l v) (v + 1) = ca_c (fun u => l u = l v) v + 1 := ca_cst (p := fun u => l u = l v) rfl
  have h2 := ca_cmono (fun u => l u = l v) (a := v + 1) (b := cc) hv
  omega
theorem hu_clt {l : Nat → Nat} {cc : Nat} (g : hu_G l cc) {v : Nat} (hv : v < cc) : hu_c l cc v < 2 ^ l v := by
  have h1 := hu_room g (g.1 v hv).2
  have h2 := hu_off (l := l) hv
  unfold hu_c; omega
theorem hu_pre {l : Nat → Nat} {cc L : Nat} : ∀ d, 2 ^ (d + 1) * (hu_f l cc L + hu_n l cc L) ≤ hu_f l cc (L + d + 1) := by
  intro d
  induction d with
  | zero => rw [Nat.add_zero, hu_fs]; omega
  | succ d ih =>
    have e : L + (d + 1) + 1 = (L + d + 1) + 1 := by omega
    rw [e, hu_fs, Nat.pow_succ, Nat.mul_comm (2 ^ (d + 1)) 2, Nat.mul_assoc]
    omega
theorem hu_late {l : Nat → Nat} {cc v L : Nat} (h : L < l v) : hu_f l cc L + hu_n l cc L ≤ hu_c l cc v / 2 ^ (l v - L) := by
  obtain ⟨d, e⟩ : ∃ d, l v - L = d + 1 := ⟨l v - L - 1, by omega⟩
  have h1 := hu_pre (l := l) (cc := cc) (L := L) d
  have e2 : L + d + 1 = l v := by omega
  rw [e2] at h1
  rw [e, Nat.le_div_iff_mul_le (Nat.pow_pos (by omega)), Nat.mul_comm]
  unfold hu_c; omega
/-! the tree of merges: parents par, nodes N -/
def hu_T (cc N : Nat) (par : Nat → Nat) : Prop :=
  (∀ v, v < N → par v = 0 ∨ (v < par v ∧ par v < N ∧ cc ≤ par v)) ∧ (∀ k, cc ≤ k → k < N → ca_c (fun v => par v = k) N = 2) ∧ ca_c (fun v => par v = 0) N + N = 2 * cc ∧ (cc < N → par (N - 1) = 0)
theorem hu_T0 {cc : Nat} {par : Nat → Nat} (h : ∀ v, v < cc → par v = 0) : hu_T cc cc par := by
  refine ⟨fun v hv => Or.inl (h v hv), fun k h1 h2 => by omega, ?_, fun z => by omega⟩
  rw [ca_call h]; omega
theorem hu_two {N a : Nat} {p : Nat → Prop} (ha : a < N) (hp : p a) : ca_c (fun v => p v ∧ v ≠ a) N + 1 = ca_c p N := by
  have e : ca_c p N = ca_c (fun v => (p v ∧ v ≠ a) ∨ v = a) N := by
    refine ca_cc (fun v _ => ?_)
    constructor
    · intro z
      by_cases e : v = a
      · exact Or.inr e
      · exact Or.inl ⟨z, e⟩
    · rintro (z | z)
      · exact z.1
      · subst z; exact hp
  rw [e, ca_cor (p := fun v => p v ∧ v ≠ a) (q := fun v => v = a) (fun v _ x y => x.2 y), ca_c1 ha]
theorem hu_Ts {cc N a b : Nat} {par qar : Nat → Nat} (hc : 0 < cc) (hN : cc ≤ N) (T : hu_T cc N par) (ha : a < N) (hb : b < N) (hab : a ≠ b) (pa : par a = 0) (pb : par b = 0)
    (qa : qar a = N) (qb : qar b = N) (qN : qar N = 0) (qo : ∀ v, v < N → v ≠ a → v ≠ b → qar v = par v) : hu_T cc (N + 1) qar := by
  obtain ⟨h1, h2, h3, h4⟩ := T
  have q0 : ∀ v, v < N → (qar v = 0 ↔ (par v = 0 ∧ v ≠ a) ∧ v ≠ b) := by
    intro v hv
    by_cases e : v = a
    · subst e; rw [qa]; constructor
      · intro z; omega
      · intro z; exact absurd rfl z.1.2
    · by_cases f : v = b
      · subst f; rw [qb]; constructor
        · intro z; omega
        · intro z; exact absurd rfl z.2
      · rw [qo v hv e f]; exact ⟨fun z => ⟨⟨z, e⟩, f⟩, fun z => z.1.1⟩
  refine ⟨?_, ?_, ?_, ?_⟩
  · intro v hv
    by_cases z : v = N
    · subst z; exact Or.inl qN
    · by_cases e : v = a
      · subst e; rw [qa]; exact Or.inr ⟨by omega, by omega, hN⟩
      · by_cases f : v = b
        · subst f; rw [qb]; exact Or.inr ⟨by omega, by omega, hN⟩
        · rw [qo v (by omega) e f]
          rcases h1 v (by omega) with g | ⟨g1, g2, g3⟩
          · exact Or.inl g
          · exact Or.inr ⟨g1, by omega, g3⟩
  · intro k k1 k2
    rw [ca_csf (p := fun v => qar v = k) (by rw [qN]; omega)]
    by_cases e : k = N
    · subst e
      have e1 : ca_c (fun v => qar v = k) k = ca_c (fun v => v = a ∨ v = b) k := by
        refine ca_cc (fun v hv => ?_)
        constructor
        · intro z
          by_cases e : v = a
          · exact Or.inl e
          · by_cases f : v = b
            · exact Or.inr f
            · rw [qo v hv e f] at z
              rcases h1 v hv with g | g <;> omega
        · rintro (z | z)
          · subst z; exact qa
          · subst z; exact qb
      rw [e1, ca_cor (p := fun v => v = a) (q := fun v => v = b) (fun v _ x y => hab (x.symm.trans y)), ca_c1 ha, ca_c1 hb]
    · rw [← h2 k k1 (by omega)]
      refine ca_cc (fun v hv => ?_)
      by_cases e : v = a
      · subst e; rw [qa, pa]; constructor <;> intro z <;> omega
      · by_cases f : v = b
        · subst f; rw [qb, pb]; constructor <;> intro z <;> omega
        · rw [qo v hv e f]
  · rw [ca_cst (p := fun v => qar v = 0) qN, ca_cc q0]
    have g1 := hu_two (N := N) (a := a) (p := fun v => par v = 0) ha pa
    have g2 := hu_two (N := N) (a := b) (p := fun v => par v = 0 ∧ v ≠ a) hb ⟨pb, fun z => hab z.symm⟩
    omega
  · intro _
    rw [Nat.add_sub_cancel]; exact qN
/-- the depths of a finished tree are good lengths -/
theorem hu_kraft {cc : Nat} {par dep : Nat → Nat} (h2 : 2 ≤ cc) (h17 : cc ≤ 17) (T : hu_T cc (2 * cc - 1) par) (d0 : dep (2 * cc - 2) = 0) (ds : ∀ v, v < 2 * cc - 2 → dep v = dep (par v) + 1) : hu_G dep cc := by
  obtain ⟨h1, hk, h3, h4⟩ := T
  have h4 := h4 (by omega)
  have e4 : 2 * cc - 1 - 1 = 2 * cc - 2 := by omega
  rw [e4] at h4
  have hroot : ∀ v, v < 2 * cc - 2 → v < par v ∧ par v < 2 * cc - 1 ∧ cc ≤ par v := by
    intro v hv
    rcases h1 v (by omega) with g | g
    · exfalso
      have u := hu_two (N := 2 * cc - 1) (a := v) (p := fun v => par v = 0) (by omega) g
      have w := ca_cpos (p := fun w => par w = 0 ∧ w ≠ v) (n := 2 * cc - 1) (k := 2 * cc - 2) (by omega) ⟨h4, by omega⟩
      omega
    · exact g
  have hd : ∀ d k, k + d = 2 * cc - 2 → cc ≤ k → dep k ≤ d := by
    intro d
    induction d using Nat.strongRecOn with
    | ind d ih =>
      intro k hkd hck
      by_cases e : k = 2 * cc - 2
      · subst e; rw [d0]; omega
      · have r := hroot k (by omega)
        have := ih (2 * cc - 2 - par k) (by omega) (par k) (by omega) r.2.2
        rw [ds k (by omega)]; omega
  have hint : ∀ k, cc ≤ k → k < 2 * cc - 1 → dep k ≤ 15 := by
    intro k h h'
    have := hd (2 * cc - 2 - k) k (by omega) h
    omega
  have hleaf : ∀ v, v < cc → 1 ≤ dep v ∧ dep v ≤ 16 := by
    intro v hv
    have r := hroot v (by omega)
    have := hint (par v) r.2.2 r.2.1
    rw [ds v (by omega)]; omega
  have hall : ∀ v, v < 2 * cc - 2 → dep v ≤ 16 := by
    intro v hv
    by_cases c : v < cc
    · exact (hleaf v c).2
    · have := hint v (by omega) (by omega); omega
  refine ⟨hleaf, ?_⟩
  -- sum over nodes below k whose parent is k or later
  have hS : ∀ d k, k + d = 2 * cc - 2 → cc ≤ k → ca_s (fun v => ca_b (k ≤ par v) * 2 ^ (16 - dep v)) k = 2 ^ 16 := by
    intro d
    induction d with
    | zero =>
      intro k hkd hck
      have ek : k = 2 * cc - 2 := by omega
      have e1 : ca_s (fun v => ca_b (k ≤ par v) * 2 ^ (16 - dep v)) k = ca_s (fun v => 2 ^ 15 * ca_b (par v = k)) k := by
        refine ca_sc (fun v hv => ?_)
        have r := hroot v (by omega)
        by_cases z : par v = k
        · rw [ca_bt z, ca_bt (p := k ≤ par v) (by omega), ds v (by omega), z, ek, d0]
        · rw [ca_bf z, ca_bf (p := k ≤ par v) (by omega)]; omega
      have e2 := hk k (by omega) (by omega)
      have e3 : 2 * cc - 1 = k + 1 := by omega
      rw [e3, ca_csf (p := fun v => par v = k) (by rw [ek, h4]; omega)] at e2
      rw [e1, ca_smul]
      have e4 : ca_s (fun v => ca_b (par v = k)) k = 2 := e2
      rw [e4]
    | succ d ih =>
      intro k hkd hck
      have ih := ih (k + 1) (by omega) (by omega)
      have rk := hroot k (by omega)
      rw [ca_ss, ca_bt (p := k + 1 ≤ par k) (by omega)] at ih
      have e1 : ca_s (fun v => ca_b (k ≤ par v) * 2 ^ (16 - dep v)) k = ca_s (fun v => ca_b (k + 1 ≤ par v) * 2 ^ (16 - dep v)) k + ca_s (fun v => 2 ^ (15 - dep k) * ca_b (par v = k)) k := by
        rw [← ca_sadd]
        refine ca_sc (fun v hv => ?_)
        by_cases z : par v = k
        · have e : 16 - dep v = 15 - dep k := by rw [ds v (by omega), z]; omega
          rw [ca_bt z, ca_bt (p := k ≤ par v) (by omega), ca_bf (p := k + 1 ≤ par v) (by omega), e]; omega
        · by_cases y : k ≤ par v
          · rw [ca_bf z, ca_bt y, ca_bt (p := k + 1 ≤ par v) (by omega)]; omega
          · rw [ca_bf z, ca_bf y, ca_bf (p := k + 1 ≤ par v) (by omega)]; omega
      have e2 := hk k hck (by omega)
      have e3 : ca_c (fun v => par v = k) (2 * cc - 1) = ca_c (fun v => par v = k ∧ v < k) (2 * cc - 1) := by
        refine ca_cc (fun v hv => ?_)
        constructor
        · intro z
          refine ⟨z, ?_⟩
          rcases h1 v hv with g | g <;> omega
        · intro z; exact z.1
      rw [e3, ca_cinit (p := fun v => par v = k) (by omega)] at e2
      have e4 : ca_s (fun v => ca_b (par v = k)) k = 2 := e2
      rw [e1, ca_smul, e4]
      have e5 : 2 ^ (16 - dep k) = 2 ^ (15 - dep k) * 2 := by
        have := hint k hck (by omega)
        have e : 16 - dep k = (15 - dep k) + 1 := by omega
        rw [e, Nat.pow_succ]
      rw [← e5]; omega
  have h := hS (cc - 2) cc (by omega) (by omega)
  rw [← h]
  refine Nat.le_of_eq (ca_sc (fun v hv => ?_))
  rw [ca_bt (hroot v (by omega)).2.2]; omega
end
section
/-! laws of simple loops; the check sum -/
def wk_ov (e : Nat) (g a : Nat → Int32) : Nat → Int32 := fun j => if j < e then g j else a j
theorem wk_ov0 (g a : Nat → Int32) : wk_ov 0 g a = a := by
  funext j; unfold wk_ov; rw [if_neg (by omega)]
theorem wk_ovs (i : Nat) (g a : Nat → Int32) : upd (wk_ov i g a) i (g i) = wk_ov (i + 1) g a := by
  funext j; unfold upd wk_ov
  by_cases h : j = i
  · subst h; rw [if_pos rfl, if_pos (by omega)]
  · rw [if_neg h]
    by_cases c : j < i
    · rw [if_pos c, if_pos (by omega)]
    · rw [if_neg c, if_neg (by omega)]
theorem wk_ovl {e : Nat} {g a : Nat → Int32} {j : Nat} (h : j < e) : wk_ov e g a j = g j := if_pos h
theorem wk_ovg {e : Nat} {g a : Nat → Int32} {j : Nat} (h : e ≤ j) : wk_ov e g a j = a j := if_neg (by omega)
theorem wk_cp (W : Nat → Nat → (Nat → Int32) → Prop) (g a : Nat → Int32) (e : Nat) (hx : ∀ n, W (n + 1) e (wk_ov e g a))
    (hs : ∀ n i, i < e → W n (i + 1) (wk_ov (i + 1) g a) → W (n + 1) i (wk_ov i g a)) : ∃ n, W n 0 a := by
  have H : ∀ d i, i + d = e → W (d + 1) i (wk_ov i g a) := by
    intro d
    induction d with
    | zero => intro i h; have e1 : i = e := by omega
              subst e1; exact hx 0
    | succ d ih => intro i h; exact hs (d + 1) i (by omega) (ih (i + 1) (by omega))
  have h := H e 0 (by omega)
  rw [wk_ov0] at h
  exact ⟨e + 1, h⟩
theorem wk_c {i : Nat} (h : i < 2 ^ 31) : (nI i).toNatClampNeg = i := nI_clamp h
/-! the check sum -/
def wk_cs (g : Int32) : Int32 := if g &&& 1 = 1 then ((g.toUInt32 >>> ((1 : Int32).toUInt32 &&& Int32.toUInt32 31)).toInt32) ^^^ (-306674912) else (g.toUInt32 >>> ((1 : Int32).toUInt32 &&& Int32.toUInt32 31)).toInt32
theorem wk_cst {g : Int32} (h : g &&& 1 = 1) : ((g.toUInt32 >>> ((1 : Int32).toUInt32 &&& Int32.toUInt32 31)).toInt32) ^^^ (-306674912) = wk_cs g := (if_pos h).symm
theorem wk_csf {g : Int32} (h : ¬ g &&& 1 = 1) : (g.toUInt32 >>> ((1 : Int32).toUInt32 &&& Int32.toUInt32 31)).toInt32 = wk_cs g := (if_neg h).symm
def wk_c8 : Nat → Int32 → Int32
  | 0, g => g
  | k + 1, g => wk_c8 k (wk_cs g)
def wk_cr (a : Nat → Int32) : Nat → Nat → Int32 → Int32
  | 0, _, g => g
  | k + 1, i, g => wk_cr a k (i + 1) (wk_c8 8 (g ^^^ a i))
theorem wk_crc {a b : Nat → Int32} : ∀ k i g, (∀ j, i ≤ j → j < i + k → a j = b j) → wk_cr a k i g = wk_cr b k i g := by
  intro k
  induction k with
  | zero => intro i g _; rfl
  | succ k ih =>
    intro i g h
    show wk_cr a k (i + 1) (wk_c8 8 (g ^^^ a i)) = wk_cr b k (i + 1) (wk_c8 8 (g ^^^ b i))
    rw [h i (by omega) (by omega)]
    exact ih (i + 1) _ (fun j h1 h2 => h j (by omega) (by omega))
def wk_crc0 (a : Nat → Int32) (n : Nat) : Int32 := wk_cr a n 0 (-1) ^^^ (-1)
theorem wk_crceq {a b : Nat → Int32} {n : Nat} (h : ∀ j, j < n → a j = b j) : wk_crc0 a n = wk_crc0 b n := by
  unfold wk_crc0; rw [wk_crc n 0 (-1) (fun j _ h2 => h j (by omega))]
section
variable {f_capacity f_alphabet f_slots f_tables f_codeCount f_inputSize f_outputSize f_blockLength f_columnIndex f_symbolCount f_groupCount f_tableCount f_bitBase f_bitPlace : Int32} {a_input a_output a_held a_checks a_packed a_block a_column a_ranks a_otherRanks a_links a_starts a_order a_shifted a_classes a_nextClasses a_buckets a_list a_symbols a_selectors a_lengths a_codes a_lengthCounts a_sorted a_weights a_parents a_depths : Nat → Int32}
theorem xw_crc8 {post : Int32 → Prop} {J : Int32 → Int32 → Prop} {x2 : Int32} : ∀ d j k g, j + d = 8 → d < k → J (wk_c8 d g) (x2 + 1) → wX_blockCheck_23 post J x2 f_capacity f_alphabet f_slots f_tables f_codeCount f_inputSize f_outputSize f_blockLength f_columnIndex f_symbolCount f_groupCount f_tableCount f_bitBase f_bitPlace a_input a_output a_held a_checks a_packed a_block a_column a_ranks a_otherRanks a_links a_starts a_order a_shifted a_classes a_nextClasses a_buckets a_list a_symbols a_selectors a_lengths a_codes a_lengthCounts a_sorted a_weights a_parents a_depths k g (nI j) := by
  intro d
  induction d with
  | zero =>
    intro j k g hj hk h
    obtain ⟨k, rfl⟩ : ∃ q, k = q + 1 := ⟨k - 1, by omega⟩
    exact br_t (nI_le (a := 8) (by omega) (by omega)) (nm_e h)
  | succ d ih =>
    intro j k g hj hk h
    obtain ⟨k, rfl⟩ : ∃ q, k = q + 1 := ⟨k - 1, by omega⟩
    refine br_f (nI_ge (b := 8) (by omega) (by omega)) ?_
    by_cases c : g &&& 1 = 1
    · exact br_t c (nm_r (wk_cst c) (nm_r (nI_1 j) (ih (j + 1) k _ (by omega) (by omega) h)))
    · exact br_f c (nm_r (wk_csf c) (nm_r (nI_1 j) (ih (j + 1) k _ (by omega) (by omega) h)))
theorem xw_crcl {post : Int32 → Prop} {n : Nat} (hn : n ≤ 48) : ∀ d i k g, i + d = n → d < k → post (wk_cr a_block d i g ^^^ (-1)) → wX_blockCheck_4 post f_capacity f_alphabet f_slots f_tables f_codeCount f_inputSize f_outputSize (nI n) f_columnIndex f_symbolCount f_groupCount f_tableCount f_bitBase f_bitPlace a_input a_output a_held a_checks a_packed a_block a_column a_ranks a_otherRanks a_links a_starts a_order a_shifted a_classes a_nextClasses a_buckets a_list a_symbols a_selectors a_lengths a_codes a_lengthCounts a_sorted a_weights a_parents a_depths k g (nI i) := by
  intro d
  induction d with
  | zero =>
    intro i k g hi hk h
    obtain ⟨k, rfl⟩ : ∃ q, k = q + 1 := ⟨k - 1, by omega⟩
    exact br_t (nI_le (by omega) (by omega)) h
  | succ d ih =>
    intro i k g hi hk h
    obtain ⟨k, rfl⟩ : ∃ q, k = q + 1 := ⟨k - 1, by omega⟩
    refine br_f (nI_ge (by omega) (by omega)) ⟨vp_in_nI (by omega) (by omega), nm_r (e' := g ^^^ a_block i) (by rw [wk_c (by omega)]) ⟨9, ?_⟩⟩
    refine xw_crc8 8 0 9 _ rfl (by omega) ?_
    rw [nI_1]
    exact ih (i + 1) k _ (by omega) (by omega) h
theorem xw_crc {post : Int32 → Prop} {n : Nat} (hn : n ≤ 48) (h : post (wk_crc0 a_block n)) : wpX_blockCheck post (f_capacity, f_alphabet, f_slots, f_tables, f_codeCount, f_inputSize, f_outputSize, nI n, f_columnIndex, f_symbolCount, f_groupCount, f_tableCount, f_bitBase, f_bitPlace, a_input, a_output, a_held, a_checks, a_packed, a_block, a_column, a_ranks, a_otherRanks, a_links, a_starts, a_order, a_shifted, a_classes, a_nextClasses, a_buckets, a_list, a_symbols, a_selectors, a_lengths, a_codes, a_lengthCounts, a_sorted, a_weights, a_parents, a_depths) :=
  ⟨n + 1, xw_crcl hn n 0 (n + 1) (-1) (by omega) (by omega) h⟩
theorem xw_load {post : SX → Prop} {n : Nat} (hn : n ≤ 48) (K : post (f_capacity, f_alphabet, f_slots, f_tables, f_codeCount, nI n, f_outputSize, nI n, f_columnIndex, f_symbolCount, f_groupCount, f_tableCount, f_bitBase, f_bitPlace, a_input, a_output, a_held, a_checks, a_packed, wk_ov n a_input a_block, a_column, a_ranks, a_otherRanks, a_links, a_starts, a_order, a_shifted, a_classes, a_nextClasses, a_buckets, a_list, a_symbols, a_selectors, a_lengths, a_codes, a_lengthCounts, a_sorted, a_weights, a_parents, a_depths)) : wpX_loadInput post (f_capacity, f_alphabet, f_slots, f_tables, f_codeCount, nI n, f_outputSize, f_blockLength, f_columnIndex, f_symbolCount, f_groupCount, f_tableCount, f_bitBase, f_bitPlace, a_input, a_output, a_held, a_checks, a_packed, a_block, a_column, a_ranks, a_otherRanks, a_links, a_starts, a_order, a_shifted, a_classes, a_nextClasses, a_buckets, a_list, a_symbols, a_selectors, a_lengths, a_codes, a_lengthCounts, a_sorted, a_weights, a_parents, a_depths) := by
  refine wk_cp (fun k i b => wX_loadInput_10 post f_capacity f_alphabet f_slots f_tables f_codeCount (nI n) f_outputSize (nI n) f_columnIndex f_symbolCount f_groupCount f_tableCount f_bitBase f_bitPlace k (nI i) a_input a_output a_held a_checks a_packed b a_column a_ranks a_otherRanks a_links a_starts a_order a_shifted a_classes a_nextClasses a_buckets a_list a_symbols a_selectors a_lengths a_codes a_lengthCounts a_sorted a_weights a_parents a_depths) a_input a_block n ?_ ?_
  · intro k; exact br_t (nI_le (Nat.le_refl n) (by omega)) K
  · intro k i hi ih
    exact br_f (nI_ge hi (by omega)) ⟨vp_in_nI (by omega) (by omega), vp_in_nI (by omega) (by omega), nm_r (by rw [wk_c (by omega)]; exact wk_ovs i a_input a_block) (nm_r (nI_1 i) ih)⟩
theorem xw_out {post : SX → Prop} {n : Nat} (hn : n ≤ 48) (K : post (f_capacity, f_alphabet, f_slots, f_tables, f_codeCount, f_inputSize, nI n, nI n, f_columnIndex, f_symbolCount, f_groupCount, f_tableCount, f_bitBase, f_bitPlace, a_input, wk_ov n a_block a_output, a_held, a_checks, a_packed, a_block, a_column, a_ranks, a_otherRanks, a_links, a_starts, a_order, a_shifted, a_classes, a_nextClasses, a_buckets, a_list, a_symbols, a_selectors, a_lengths, a_codes, a_lengthCounts, a_sorted, a_weights, a_parents, a_depths)) : wpX_blockToOutput post (f_capacity, f_alphabet, f_slots, f_tables, f_codeCount, f_inputSize, f_outputSize, nI n, f_columnIndex, f_symbolCount, f_groupCount, f_tableCount, f_bitBase, f_bitPlace, a_input, a_output, a_held, a_checks, a_packed, a_block, a_column, a_ranks, a_otherRanks, a_links, a_starts, a_order, a_shifted, a_classes, a_nextClasses, a_buckets, a_list, a_symbols, a_selectors, a_lengths, a_codes, a_lengthCounts, a_sorted, a_weights, a_parents, a_depths) := by
  refine wk_cp (fun k i b => wX_blockToOutput_2 post f_capacity f_alphabet f_slots f_tables f_codeCount f_inputSize f_outputSize (nI n) f_columnIndex f_symbolCount f_groupCount f_tableCount f_bitBase f_bitPlace k (nI i) a_input b a_held a_checks a_packed a_block a_column a_ranks a_otherRanks a_links a_starts a_order a_shifted a_classes a_nextClasses a_buckets a_list a_symbols a_selectors a_lengths a_codes a_lengthCounts a_sorted a_weights a_parents a_depths) a_block a_output n ?_ ?_
  · intro k; exact br_t (nI_le (Nat.le_refl n) (by omega)) K
  · intro k i hi ih
    exact br_f (nI_ge hi (by omega)) ⟨vp_in_nI (by omega) (by omega), vp_in_nI (by omega) (by omega), nm_r (by rw [wk_c (by omega)]; exact wk_ovs i a_block a_output) (nm_r (nI_1 i) ih)⟩
end
section
variable {g_capacity g_alphabet g_slots g_tables g_inLen g_outLen g_n : Int32} {b_input b_output b_holds b_held b_heldLen b_checks b_x b_col b_table b_sorted b_order : Nat → Int32}
theorem yw_crc8 {post : Int32 → Prop} {J : Int32 → Int32 → Prop} {x2 : Int32} : ∀ d j k g, j + d = 8 → d < k → J (wk_c8 d g) (x2 + 1) → wY_crc_23 post J x2 g_capacity g_alphabet g_slots g_tables g_inLen g_outLen g_n b_input b_output b_holds b_held b_heldLen b_checks b_x b_col b_table b_sorted b_order k g (nI j) := by
  intro d
  induction d with
  | zero =>
    intro j k g hj hk h
    obtain ⟨k, rfl⟩ : ∃ q, k = q + 1 := ⟨k - 1, by omega⟩
    exact br_t (nI_le (a := 8) (by omega) (by omega)) (nm_e h)
  | succ d ih =>
    intro j k g hj hk h
    obtain ⟨k, rfl⟩ : ∃ q, k = q + 1 := ⟨k - 1, by omega⟩
    refine br_f (nI_ge (b := 8) (by omega) (by omega)) ?_
    by_cases c : g &&& 1 = 1
    · exact br_t c (nm_r (wk_cst c) (nm_r (nI_1 j) (ih (j + 1) k _ (by omega) (by omega) h)))
    · exact br_f c (nm_r (wk_csf c) (nm_r (nI_1 j) (ih (j + 1) k _ (by omega) (by omega) h)))
theorem yw_crcl {post : Int32 → Prop} {n : Nat} (hn : n ≤ 48) : ∀ d i k g, i + d = n → d < k → post (wk_cr b_x d i g ^^^ (-1)) → wY_crc_4 post g_capacity g_alphabet g_slots g_tables g_inLen g_outLen (nI n) b_input b_output b_holds b_held b_heldLen b_checks b_x b_col b_table b_sorted b_order k g (nI i) := by
  intro d
  induction d with
  | zero =>
    intro i k g hi hk h
    obtain ⟨k, rfl⟩ : ∃ q, k = q + 1 := ⟨k - 1, by omega⟩
    exact br_t (nI_le (by omega) (by omega)) h
  | succ d ih =>
    intro i k g hi hk h
    obtain ⟨k, rfl⟩ : ∃ q, k = q + 1 := ⟨k - 1, by omega⟩
    refine br_f (nI_ge (by omega) (by omega)) ⟨vp_in_nI (by omega) (by omega), nm_r (e' := g ^^^ b_x i) (by rw [wk_c (by omega)]) ⟨9, ?_⟩⟩
    refine yw_crc8 8 0 9 _ rfl (by omega) ?_
    rw [nI_1]
    exact ih (i + 1) k _ (by omega) (by omega) h
theorem yw_crc {post : Int32 → Prop} {n : Nat} (hn : n ≤ 48) (h : post (wk_crc0 b_x n)) : wpY_crc post (g_capacity, g_alphabet, g_slots, g_tables, g_inLen, g_outLen, nI n, b_input, b_output, b_holds, b_held, b_heldLen, b_checks, b_x, b_col, b_table, b_sorted, b_order) :=
  ⟨n + 1, yw_crcl hn n 0 (n + 1) (-1) (by omega) (by omega) h⟩
theorem yw_load {post : SY → Prop} {n : Nat} (hn : n ≤ 48) (K : post (g_capacity, g_alphabet, g_slots, g_tables, nI n, g_outLen, nI n, b_input, b_output, b_holds, b_held, b_heldLen, b_checks, wk_ov n b_input b_x, b_col, b_table, b_sorted, b_order)) : wpY_lookAtInput post (g_capacity, g_alphabet, g_slots, g_tables, nI n, g_outLen, g_n, b_input, b_output, b_holds, b_held, b_heldLen, b_checks, b_x, b_col, b_table, b_sorted, b_order) := by
  refine wk_cp (fun k i b => wY_lookAtInput_10 post g_capacity g_alphabet g_slots g_tables (nI n) g_outLen (nI n) k (nI i) b_input b_output b_holds b_held b_heldLen b_checks b b_col b_table b_sorted b_order) b_input b_x n ?_ ?_
  · intro k; exact br_t (nI_le (Nat.le_refl n) (by omega)) K
  · intro k i hi ih
    exact br_f (nI_ge hi (by omega)) ⟨vp_in_nI (by omega) (by omega), vp_in_nI (by omega) (by omega), nm_r (by rw [wk_c (by omega)]; exact wk_ovs i b_input b_x) (nm_r (nI_1 i) ih)⟩
theorem yw_out {post : SY → Prop} {n : Nat} (hn : n ≤ 48) (K : post (g_capacity, g_alphabet, g_slots, g_tables, g_inLen, nI n, nI n, b_input, wk_ov n b_x b_output, b_holds, b_held, b_heldLen, b_checks, b_x, b_col, b_table, b_sorted, b_order)) : wpY_blockToOutput post (g_capacity, g_alphabet, g_slots, g_tables, g_inLen, g_outLen, nI n, b_input, b_output, b_holds, b_held, b_heldLen, b_checks, b_x, b_col, b_table, b_sorted, b_order) := by
  refine wk_cp (fun k i b => wY_blockToOutput_2 post g_capacity g_alphabet g_slots g_tables g_inLen g_outLen (nI n) k (nI i) b_input b b_holds b_held b_heldLen b_checks b_x b_col b_table b_sorted b_order) b_x b_output n ?_ ?_
  · intro k; exact br_t (nI_le (Nat.le_refl n) (by omega)) K
  · intro k i hi ih
    exact br_f (nI_ge hi (by omega)) ⟨vp_in_nI (by omega) (by omega), vp_in_nI (by omega) (by omega), nm_r (by rw [wk_c (by omega)]; exact wk_ovs i b_x b_output) (nm_r (nI_1 i) ih)⟩
theorem yw_slot {post : SY → Prop} {n s : Nat} (hn : n ≤ 48) (hs : s < 4) (hl : b_heldLen s = nI n) (K : post (g_capacity, g_alphabet, g_slots, g_tables, g_inLen, g_outLen, nI n, b_input, b_output, b_holds, b_held, b_heldLen, b_checks, wk_ov n (fun i => b_held (s * 48 + i)) b_x, b_col, b_table, b_sorted, b_order)) : wpY_lookAtSlot post (g_capacity, g_alphabet, g_slots, g_tables, g_inLen, g_outLen, g_n, b_input, b_output, b_holds, b_held, b_heldLen, b_checks, b_x, b_col, b_table, b_sorted, b_order) (nI s) := by
  refine ⟨vp_in_nI hs (by omega), nm_r (e' := nI n) (by rw [wk_c (by omega), hl]) ?_⟩
  refine wk_cp (fun k i b => wY_lookAtSlot_12 post (nI s) g_capacity g_alphabet g_slots g_tables g_inLen g_outLen (nI n) k (nI i) b_input b_output b_holds b_held b_heldLen b_checks b b_col b_table b_sorted b_order) (fun i => b_held (s * 48 + i)) b_x n ?_ ?_
  · intro k; exact br_t (nI_le (Nat.le_refl n) (by omega)) K
  · intro k i hi ih
    have e : nI s * 48 + nI i = nI (s * 48 + i) := by
      show nI s * nI 48 + nI i = _
      rw [pk_mul, nI_add]
    refine br_f (nI_ge hi (by omega)) ?_
    rw [e]
    exact ⟨vp_in_nI (by omega) (by omega), vp_in_nI (by omega) (by omega), nm_r (by rw [wk_c (by omega), wk_c (by omega)]; exact wk_ovs i (fun i => b_held (s * 48 + i)) b_x) (nm_r (nI_1 i) ih)⟩
end
end
section
/-! the stable counting sort of the places by value -/
section
variable {f_capacity f_alphabet f_slots f_tables f_codeCount f_inputSize f_outputSize f_blockLength f_columnIndex f_symbolCount f_groupCount f_tableCount f_bitBase f_bitPlace : Int32} {a_input a_output a_held a_checks a_packed a_block a_column a_ranks a_otherRanks a_links a_starts a_order a_shifted a_classes a_nextClasses a_buckets a_list a_symbols a_selectors a_lengths a_codes a_lengthCounts a_sorted a_weights a_parents a_depths : Nat → Int32}
theorem xw_pl87 {post : SX → Prop} {n : Nat} {c s : Nat → Nat} (hn : n ≤ 48) (hc : ∀ i, i < n → a_classes i = nI (c i) ∧ c i < 48) (hs : ∀ j, j < n → a_shifted j = nI (s j) ∧ s j < n)
    (K : ∀ o' b' : Nat → Int32, (∀ j, j < n → o' (ca_r n (ca_X (fun j => c (s j))) j) = nI (s j)) → post (f_capacity, f_alphabet, f_slots, f_tables, f_codeCount, f_inputSize, f_outputSize, nI n, f_columnIndex, f_symbolCount, f_groupCount, f_tableCount, f_bitBase, f_bitPlace, a_input, a_output, a_held, a_checks, a_packed, a_block, a_column, a_ranks, a_otherRanks, a_links, a_starts, o', a_shifted, a_classes, a_nextClasses, b', a_list, a_symbols, a_selectors, a_lengths, a_codes, a_lengthCounts, a_sorted, a_weights, a_parents, a_depths)) :
    ∀ d j k o' b', j + d = n → d < k → (∀ v, v < 48 → b' v = nI (ca_c (fun i => c (s i) < v) n + ca_c (fun i => c (s i) = v) j)) → (∀ i, i < j → o' (ca_r n (ca_X (fun j => c (s j))) i) = nI (s i)) →
    wX_placeByClass_87 post f_capacity f_alphabet f_slots f_tables f_codeCount f_inputSize f_outputSize (nI n) f_columnIndex f_symbolCount f_groupCount f_tableCount f_bitBase f_bitPlace k (nI j) a_input a_output a_held a_checks a_packed a_block a_column a_ranks a_otherRanks a_links a_starts o' a_shifted a_classes a_nextClasses b' a_list a_symbols a_selectors a_lengths a_codes a_lengthCounts a_sorted a_weights a_parents a_depths := by
  intro d
  induction d with
  | zero =>
    intro j k o' b' hj hk hb ho
    obtain ⟨k, rfl⟩ : ∃ q, k = q + 1 := ⟨k - 1, by omega⟩
    have e : j = n := by omega
    subst e
    exact br_t (nI_le (Nat.le_refl j) (by omega)) (K o' b' ho)
  | succ d ih =>
    intro j k o' b' hj hk hb ho
    obtain ⟨k, rfl⟩ : ∃ q, k = q + 1 := ⟨k - 1, by omega⟩
    have hsj := hs j (by omega)
    have hcj := hc (s j) hsj.2
    have hbj := hb (c (s j)) hcj.2
    have hp : ca_c (fun i => c (s i) < c (s j)) n + ca_c (fun i => c (s i) = c (s j)) j = ca_r n (ca_X (fun j => c (s j))) j := (ca_Xr (c := fun j => c (s j)) (by omega)).symm
    rw [hp] at hbj
    have hlt : ca_r n (ca_X (fun j => c (s j))) j < n := ca_rlt (ca_XT n _) (by omega)
    refine br_f (nI_ge (by omega) (by omega)) ⟨vp_in_nI (by omega) (by omega), nm_r (e' := nI (s j)) (by rw [wk_c (by omega)]; exact hsj.1) ⟨vp_in_nI (by omega) (by omega), nm_r (e' := nI (c (s j))) (by rw [wk_c (by omega)]; exact hcj.1) ⟨vp_in_nI (by omega) (by omega), ?_⟩⟩⟩
    rw [wk_c (i := c (s j)) (by omega), hbj, wk_c (i := ca_r n (ca_X (fun j => c (s j))) j) (by omega)]
    refine ⟨vp_in_nI (by omega) (by omega), nm_e ⟨vp_in_nI (by omega) (by omega), vp_in_nI (by omega) (by omega), nm_e (nm_r (nI_1 j) ?_)⟩⟩
    refine ih (j + 1) k _ _ (by omega) (by omega) (fun v hv => ?_) (fun i hi => ?_)
    · by_cases e : v = c (s j)
      · subst e
        rw [pk_us, nI_1, ca_cst (p := fun i => c (s i) = c (s j)) rfl, ← hp, Nat.add_assoc]
      · rw [pk_un e, hb v hv, ca_csf (p := fun i => c (s i) = v) (fun z => e z.symm)]
    · by_cases e : i = j
      · subst e; rw [pk_us]
      · rw [pk_un (fun z => e ((ca_rP (ca_XT n (fun j => c (s j)))).2 i j (by omega) (by omega) z))]
        exact ho i (by omega)
theorem xw_pl56 {post : SX → Prop} {n : Nat} {c s : Nat → Nat} (hn : n ≤ 48) (hc : ∀ i, i < n → a_classes i = nI (c i) ∧ c i < 48) (hs : ∀ j, j < n → a_shifted j = nI (s j) ∧ s j < n) (hP : ca_P n s)
    (K : ∀ o' b' : Nat → Int32, (∀ j, j < n → o' (ca_r n (ca_X (fun j => c (s j))) j) = nI (s j)) → post (f_capacity, f_alphabet, f_slots, f_tables, f_codeCount, f_inputSize, f_outputSize, nI n, f_columnIndex, f_symbolCount, f_groupCount, f_tableCount, f_bitBase, f_bitPlace, a_input, a_output, a_held, a_checks, a_packed, a_block, a_column, a_ranks, a_otherRanks, a_links, a_starts, o', a_shifted, a_classes, a_nextClasses, b', a_list, a_symbols, a_selectors, a_lengths, a_codes, a_lengthCounts, a_sorted, a_weights, a_parents, a_depths)) :
    ∀ d j k b', j + d = 48 → d < k → (∀ v, v < j + 1 → b' v = nI (ca_c (fun i => c i < v) n)) → (∀ v, j < v → v < 49 → b' v = nI (ca_c (fun i => c i + 1 = v) n)) →
    wX_placeByClass_56 post f_capacity f_alphabet f_slots f_tables f_codeCount f_inputSize f_outputSize (nI n) f_columnIndex f_symbolCount f_groupCount f_tableCount f_bitBase f_bitPlace k (nI (j + 1)) a_input a_output a_held a_checks a_packed a_block a_column a_ranks a_otherRanks a_links a_starts a_order a_shifted a_classes a_nextClasses b' a_list a_symbols a_selectors a_lengths a_codes a_lengthCounts a_sorted a_weights a_parents a_depths := by
  intro d
  induction d with
  | zero =>
    intro j k b' hj hk hb ho
    obtain ⟨k, rfl⟩ : ∃ q, k = q + 1 := ⟨k - 1, by omega⟩
    refine br_t (nI_le (a := 49) (by omega) (by omega)) ⟨n + 1, xw_pl87 hn hc hs K n 0 (n + 1) _ _ (by omega) (by omega) (fun v hv => ?_) (fun i hi => by omega)⟩
    rw [ca_cperm hP (fun i => c i < v), ca_c0]
    exact hb v (by omega)
  | succ d ih =>
    intro j k b' hj hk hb ho
    obtain ⟨k, rfl⟩ : ∃ q, k = q + 1 := ⟨k - 1, by omega⟩
    refine br_f (nI_ge (b := 49) (by omega) (by omega)) ?_
    rw [nI_pred, wk_c (i := j + 1) (by omega), wk_c (i := j) (by omega)]
    refine ⟨vp_in_nI (by omega) (by omega), vp_in_nI (by omega) (by omega), vp_in_nI (by omega) (by omega), nm_e (nm_r (nI_1 (j + 1)) ?_)⟩
    refine ih (j + 1) k _ (by omega) (by omega) (fun v hv => ?_) (fun v h1 h2 => ?_)
    · by_cases e : v = j + 1
      · subst e
        rw [pk_us, ho (j + 1) (by omega) (by omega), hb j (by omega), nI_add]
        congr 1
        rw [Nat.add_comm, ← ca_cor (p := fun i => c i < j) (q := fun i => c i + 1 = j + 1) (fun i _ a b => by omega)]
        exact ca_cc (fun i _ => by constructor <;> intro z <;> omega)
      · rw [pk_un e]; exact hb v (by omega)
    · rw [pk_un (by omega)]; exact ho v (by omega) h2
theorem xw_pl23 {post : SX → Prop} {n : Nat} {c s : Nat → Nat} (hn : n ≤ 48) (hc : ∀ i, i < n → a_classes i = nI (c i) ∧ c i < 48) (hs : ∀ j, j < n → a_shifted j = nI (s j) ∧ s j < n) (hP : ca_P n s)
    (K : ∀ o' b' : Nat → Int32, (∀ j, j < n → o' (ca_r n (ca_X (fun j => c (s j))) j) = nI (s j)) → post (f_capacity, f_alphabet, f_slots, f_tables, f_codeCount, f_inputSize, f_outputSize, nI n, f_columnIndex, f_symbolCount, f_groupCount, f_tableCount, f_bitBase, f_bitPlace, a_input, a_output, a_held, a_checks, a_packed, a_block, a_column, a_ranks, a_otherRanks, a_links, a_starts, o', a_shifted, a_classes, a_nextClasses, b', a_list, a_symbols, a_selectors, a_lengths, a_codes, a_lengthCounts, a_sorted, a_weights, a_parents, a_depths)) :
    ∀ d j k b', j + d = n → d < k → (∀ v, v < 49 → b' v = nI (ca_c (fun i => c i + 1 = v) j)) →
    wX_placeByClass_23 post f_capacity f_alphabet f_slots f_tables f_codeCount f_inputSize f_outputSize (nI n) f_columnIndex f_symbolCount f_groupCount f_tableCount f_bitBase f_bitPlace k (nI j) a_input a_output a_held a_checks a_packed a_block a_column a_ranks a_otherRanks a_links a_starts a_order a_shifted a_classes a_nextClasses b' a_list a_symbols a_selectors a_lengths a_codes a_lengthCounts a_sorted a_weights a_parents a_depths := by
  intro d
  induction d with
  | zero =>
    intro j k b' hj hk hb
    obtain ⟨k, rfl⟩ : ∃ q, k = q + 1 := ⟨k - 1, by omega⟩
    have e : j = n := by omega
    subst e
    refine br_t (nI_le (Nat.le_refl j) (by omega)) ⟨49, xw_pl56 hn hc hs hP K 48 0 49 _ (by omega) (by omega) (fun v hv => ?_) (fun v h1 h2 => hb v h2)⟩
    have e : v = 0 := by omega
    subst e
    rw [hb 0 (by omega), ca_cnone (fun i _ z => by omega), ca_cnone (fun i _ z => by omega)]
  | succ d ih =>
    intro j k b' hj hk hb
    obtain ⟨k, rfl⟩ : ∃ q, k = q + 1 := ⟨k - 1, by omega⟩
    have hcj := hc j (by omega)
    refine br_f (nI_ge (by omega) (by omega)) ?_
    rw [wk_c (i := j) (by omega), hcj.1, nI_1, wk_c (i := c j + 1) (by omega)]
    refine ⟨vp_in_nI (by omega) (by omega), vp_in_nI (by omega) (by omega), vp_in_nI (by omega) (by omega), nm_e (nm_r (nI_1 j) ?_)⟩
    refine ih (j + 1) k _ (by omega) (by omega) (fun v hv => ?_)
    by_cases e : v = c j + 1
    · subst e
      rw [pk_us, hb _ hv, nI_1, ca_cst (p := fun i => c i + 1 = c j + 1) rfl]
    · rw [pk_un e, hb v hv, ca_csf (p := fun i => c i + 1 = v) (fun z => e z.symm)]
theorem xw_place {post : SX → Prop} {n : Nat} {c s : Nat → Nat} (hn : n ≤ 48) (hc : ∀ i, i < n → a_classes i = nI (c i) ∧ c i < 48) (hs : ∀ j, j < n → a_shifted j = nI (s j) ∧ s j < n) (hP : ca_P n s)
    (K : ∀ (o' b' : Nat → Int32) (o : Nat → Nat), (∀ r, r < n → o' r = nI (o r)) → so_pl n c s o → ca_P n o → post (f_capacity, f_alphabet, f_slots, f_tables, f_codeCount, f_inputSize, f_outputSize, nI n, f_columnIndex, f_symbolCount, f_groupCount, f_tableCount, f_bitBase, f_bitPlace, a_input, a_output, a_held, a_checks, a_packed, a_block, a_column, a_ranks, a_otherRanks, a_links, a_starts, o', a_shifted, a_classes, a_nextClasses, b', a_list, a_symbols, a_selectors, a_lengths, a_codes, a_lengthCounts, a_sorted, a_weights, a_parents, a_depths)) : wpX_placeByClass post (f_capacity, f_alphabet, f_slots, f_tables, f_codeCount, f_inputSize, f_outputSize, nI n, f_columnIndex, f_symbolCount, f_groupCount, f_tableCount, f_bitBase, f_bitPlace, a_input, a_output, a_held, a_checks, a_packed, a_block, a_column, a_ranks, a_otherRanks, a_links, a_starts, a_order, a_shifted, a_classes, a_nextClasses, a_buckets, a_list, a_symbols, a_selectors, a_lengths, a_codes, a_lengthCounts, a_sorted, a_weights, a_parents, a_depths) := by
  refine wk_cp (fun k i b => wX_placeByClass_2 post f_capacity f_alphabet f_slots f_tables f_codeCount f_inputSize f_outputSize (nI n) f_columnIndex f_symbolCount f_groupCount f_tableCount f_bitBase f_bitPlace k (nI i) a_input a_output a_held a_checks a_packed a_block a_column a_ranks a_otherRanks a_links a_starts a_order a_shifted a_classes a_nextClasses b a_list a_symbols a_selectors a_lengths a_codes a_lengthCounts a_sorted a_weights a_parents a_depths) (fun _ => 0) a_buckets 49 ?_ ?_
  · intro k
    refine br_t (nI_le (a := 49) (Nat.le_refl 49) (by omega)) ⟨n + 1, xw_pl23 hn hc hs hP (fun o' b' h => ?_) n 0 (n + 1) _ (by omega) (by omega) (fun v hv => ?_)⟩
    · have h2 : so_pl n c s (fun r => (o' r).toNatClampNeg) := by
        intro j hj
        show (o' (ca_r n (ca_X (fun j => c (s j))) j)).toNatClampNeg = s j
        rw [h j hj, wk_c (by have := (hs j hj).2; omega)]
      refine K o' b' _ (fun r hr => ?_) h2 (so_plP hP h2)
      obtain ⟨j, hj, e⟩ := ca_sur (ca_rP (ca_XT n (fun j => c (s j)))) hr
      show o' r = nI (o' r).toNatClampNeg
      rw [← e, h j hj, wk_c (by have := (hs j hj).2; omega)]
    · rw [wk_ovl hv, ca_c0]; rfl
  · intro k i hi ih
    exact br_f (nI_ge (b := 49) hi (by omega)) ⟨vp_in_nI (by omega) (by omega), nm_r (by rw [wk_c (by omega)]; exact wk_ovs i (fun _ => 0) a_buckets) (nm_r (nI_1 i) ih)⟩
end
end
section
/-! new labels in sorted order -/
section
variable {f_capacity f_alphabet f_slots f_tables f_codeCount f_inputSize f_outputSize f_blockLength f_columnIndex f_symbolCount f_groupCount f_tableCount f_bitBase f_bitPlace : Int32} {a_input a_output a_held a_checks a_packed a_block a_column a_ranks a_otherRanks a_links a_starts a_order a_shifted a_classes a_nextClasses a_buckets a_list a_symbols a_selectors a_lengths a_codes a_lengthCounts a_sorted a_weights a_parents a_depths : Nat → Int32}
theorem xw_re131 {post : SX → Prop} {n : Nat} (hn : n ≤ 48) (K : post (f_capacity, f_alphabet, f_slots, f_tables, f_codeCount, f_inputSize, f_outputSize, nI n, f_columnIndex, f_symbolCount, f_groupCount, f_tableCount, f_bitBase, f_bitPlace, a_input, a_output, a_held, a_checks, a_packed, a_block, a_column, a_ranks, a_otherRanks, a_links, a_starts, a_order, a_shifted, wk_ov n a_nextClasses a_classes, a_nextClasses, a_buckets, a_list, a_symbols, a_selectors, a_lengths, a_codes, a_lengthCounts, a_sorted, a_weights, a_parents, a_depths)) : ∃ k, wX_relabel_131 post (nI n) f_capacity f_alphabet f_slots f_tables f_codeCount f_inputSize f_outputSize (nI n) f_columnIndex f_symbolCount f_groupCount f_tableCount f_bitBase f_bitPlace k 0 a_input a_output a_held a_checks a_packed a_block a_column a_ranks a_otherRanks a_links a_starts a_order a_shifted a_classes a_nextClasses a_buckets a_list a_symbols a_selectors a_lengths a_codes a_lengthCounts a_sorted a_weights a_parents a_depths := by
  refine wk_cp (fun k i b => wX_relabel_131 post (nI n) f_capacity f_alphabet f_slots f_tables f_codeCount f_inputSize f_outputSize (nI n) f_columnIndex f_symbolCount f_groupCount f_tableCount f_bitBase f_bitPlace k (nI i) a_input a_output a_held a_checks a_packed a_block a_column a_ranks a_otherRanks a_links a_starts a_order a_shifted b a_nextClasses a_buckets a_list a_symbols a_selectors a_lengths a_codes a_lengthCounts a_sorted a_weights a_parents a_depths) a_nextClasses a_classes n ?_ ?_
  · intro k; exact br_t (nI_le (Nat.le_refl n) (by omega)) K
  · intro k i hi ih
    exact br_f (nI_ge hi (by omega)) ⟨vp_in_nI (by omega) (by omega), vp_in_nI (by omega) (by omega), nm_r (by rw [wk_c (by omega)]; exact wk_ovs i a_nextClasses a_classes) (nm_r (nI_1 i) ih)⟩
/-- the join behind both reduced places: J is the loop's next turn -/
theorem xw_re77 {post : SX → Prop} {J : Int32 → Int32 → (Nat → Int32) → (Nat → Int32) → (Nat → Int32) → (Nat → Int32) → (Nat → Int32) → (Nat → Int32) → (Nat → Int32) → (Nat → Int32) → (Nat → Int32) → (Nat → Int32) → (Nat → Int32) → (Nat → Int32) → (Nat → Int32) → (Nat → Int32) → (Nat → Int32) → (Nat → Int32) → (Nat → Int32) → (Nat → Int32) → (Nat → Int32) → (Nat → Int32) → (Nat → Int32) → (Nat → Int32) → (Nat → Int32) → (Nat → Int32) → (Nat → Int32) → (Nat → Int32) → Prop}
    {x1 x2 : Int32} {n L j a b a' b' : Nat} {c : Nat → Nat} (ha : a < 48) (hb : b < 48) (ha' : a' < 48) (hb' : b' < 48) (ca : a_classes a = nI (c a)) (cb : a_classes b = nI (c b)) (ca' : a_classes a' = nI (c a')) (cb' : a_classes b' = nI (c b'))
    (la : c a < 48) (lb : c b < 48) (la' : c a' < 48) (lb' : c b' < 48)
    (h1 : c a = c b ∧ c a' = c b' → J (nI L) (nI (j + 1)) a_input a_output a_held a_checks a_packed a_block a_column a_ranks a_otherRanks a_links a_starts a_order a_shifted a_classes (upd a_nextClasses a (nI L)) a_buckets a_list a_symbols a_selectors a_lengths a_codes a_lengthCounts a_sorted a_weights a_parents a_depths) (h2 : ¬ (c a = c b ∧ c a' = c b') → J (nI (L + 1)) (nI (j + 1)) a_input a_output a_held a_checks a_packed a_block a_column a_ranks a_otherRanks a_links a_starts a_order a_shifted a_classes (upd a_nextClasses a (nI (L + 1))) a_buckets a_list a_symbols a_selectors a_lengths a_codes a_lengthCounts a_sorted a_weights a_parents a_depths) :
    wX_relabel_77 post J x1 x2 (nI L) (nI j) (nI a) (nI b) (nI a') (nI b') f_capacity f_alphabet f_slots f_tables f_codeCount f_inputSize f_outputSize (nI n) f_columnIndex f_symbolCount f_groupCount f_tableCount f_bitBase f_bitPlace a_input a_output a_held a_checks a_packed a_block a_column a_ranks a_otherRanks a_links a_starts a_order a_shifted a_classes a_nextClasses a_buckets a_list a_symbols a_selectors a_lengths a_codes a_lengthCounts a_sorted a_weights a_parents a_depths := by
  have h3 : ¬ (c a = c b ∧ c a' = c b') → wX_relabel_111 post J x1 x2 (nI L) (nI j) (nI a) f_capacity f_alphabet f_slots f_tables f_codeCount f_inputSize f_outputSize (nI n) f_columnIndex f_symbolCount f_groupCount f_tableCount f_bitBase f_bitPlace a_input a_output a_held a_checks a_packed a_block a_column a_ranks a_otherRanks a_links a_starts a_order a_shifted a_classes a_nextClasses a_buckets a_list a_symbols a_selectors a_lengths a_codes a_lengthCounts a_sorted a_weights a_parents a_depths := by
    intro z
    refine nm_r (nI_1 L) ⟨vp_in_nI ha (by omega), ?_⟩
    rw [wk_c (i := a) (by omega)]
    exact nm_e (nm_r (nI_1 j) (h2 z))
  unfold wX_relabel_77
  rw [wk_c (i := a) (by omega), wk_c (i := b) (by omega), wk_c (i := a') (by omega), wk_c (i := b') (by omega), ca, cb, ca', cb']
  refine ⟨vp_in_nI ha (by omega), vp_in_nI hb (by omega), pk_eq (c a) (c b) (fun e => ⟨vp_in_nI ha' (by omega), vp_in_nI hb' (by omega), pk_eq (c a') (c b') (fun f => ⟨vp_in_nI ha (by omega), nm_e (nm_r (nI_1 j) (h1 ⟨e, f⟩))⟩) (fun f => h3 (fun z => f z.2))⟩) (fun e => h3 (fun z => e z.1))⟩
theorem xw_rered {n d a : Nat} (hd : d < n) (ha : a < n) {A : Int32 → Prop} (hn : n ≤ 48) (h : A (nI ((a + d) % n))) : ∀ y : Int32, y = nI a + nI d → ((y < nI n → A y) ∧ (¬ y < nI n → ∀ z : Int32, z = y - nI n → A z)) := by
  refine nm_r (nI_add a d) (pk_lt (a + d) n (fun z => ?_) (fun z => ?_))
  · rw [Nat.mod_eq_of_lt z] at h; exact h
  · refine nm_r (pk_sub z) ?_
    have e : (a + d) % n = a + d - n := by
      rw [Nat.mod_eq_sub_mod z, Nat.mod_eq_of_lt (by omega)]
    rw [e] at h; exact h
theorem xw_re10 {post : SX → Prop} {n p : Nat} {c o : Nat → Nat} (hn : n ≤ 48) (hp : p < n) (hc : ∀ i, i < n → a_classes i = nI (c i) ∧ c i < 48) (ho : ∀ r, r < n → a_order r = nI (o r)) (hP : ca_P n o)
    (K : ∀ n' : Nat → Int32, (∀ r, r < n → n' (o r) = nI (so_lab (fun r => so_key c p n (o r)) r)) → post (f_capacity, f_alphabet, f_slots, f_tables, f_codeCount, f_inputSize, f_outputSize, nI n, f_columnIndex, f_symbolCount, f_groupCount, f_tableCount, f_bitBase, f_bitPlace, a_input, a_output, a_held, a_checks, a_packed, a_block, a_column, a_ranks, a_otherRanks, a_links, a_starts, a_order, a_shifted, wk_ov n n' a_classes, n', a_buckets, a_list, a_symbols, a_selectors, a_lengths, a_codes, a_lengthCounts, a_sorted, a_weights, a_parents, a_depths)) :
    ∀ d j k L n', j + d = n → d < k → (j = 0 → L = 0) → (0 < j → L = so_lab (fun r => so_key c p n (o r)) (j - 1)) → (∀ r, r < j → n' (o r) = nI (so_lab (fun r => so_key c p n (o r)) r)) →
    wX_relabel_10 post (nI p) (nI n) f_capacity f_alphabet f_slots f_tables f_codeCount f_inputSize f_outputSize (nI n) f_columnIndex f_symbolCount f_groupCount f_tableCount f_bitBase f_bitPlace k (nI L) (nI j) a_input a_output a_held a_checks a_packed a_block a_column a_ranks a_otherRanks a_links a_starts a_order a_shifted a_classes n' a_buckets a_list a_symbols a_selectors a_lengths a_codes a_lengthCounts a_sorted a_weights a_parents a_depths := by
  intro d
  induction d with
  | zero =>
    intro j k L n' hj hk _ _ hN
    obtain ⟨k, rfl⟩ : ∃ q, k = q + 1 := ⟨k - 1, by omega⟩
    have e : j = n := by omega
    subst e
    exact br_t (nI_le (Nat.le_refl j) (by omega)) (xw_re131 hn (K n' hN))
  | succ d ih =>
    intro j k L n' hj hk hL0 hL hN
    obtain ⟨k, rfl⟩ : ∃ q, k = q + 1 := ⟨k - 1, by omega⟩
    have hoj := ho j (by omega)
    have hol := hP.1 j (by omega)
    refine br_f (nI_ge (by omega) (by omega)) ⟨vp_in_nI (by omega) (by omega), nm_r (e' := nI (o j)) (by rw [wk_c (by omega)]; exact hoj) ?_⟩
    have keep : ∀ M, M = so_lab (fun r => so_key c p n (o r)) j → ∀ r, r < j + 1 → upd n' (o j) (nI M) (o r) = nI (so_lab (fun r => so_key c p n (o r)) r) := by
      intro M hM r hr
      by_cases e : r = j
      · subst e; rw [pk_us, hM]
      · rw [pk_un (fun z => e (hP.2 r j (by omega) (by omega) z))]; exact hN r (by omega)
    rcases Nat.eq_zero_or_pos j with hz | hz
    · subst hz
      have e0 := hL0 rfl
      subst e0
      refine br_t (nI_le (a := 0) (b := 0) (by omega) (by omega)) ⟨vp_in_nI (by omega) (by omega), ?_⟩
      rw [wk_c (i := o 0) (by omega)]
      exact nm_e (nm_r (nI_1 0) (ih 1 k 0 _ (by omega) (by omega) (fun z => by omega) (fun _ => (so_lab0 _).symm) (keep 0 (so_lab0 _).symm)))
    · obtain ⟨i, rfl⟩ : ∃ i, j = i + 1 := ⟨j - 1, by omega⟩
      have hL' := hL hz
      rw [Nat.add_sub_cancel] at hL'
      have hoi := ho i (by omega)
      have hil := hP.1 i (by omega)
      refine br_f (nI_nle (by omega) (by omega)) ?_
      rw [nI_pred]
      refine ⟨vp_in_nI (by omega) (by omega), nm_r (e' := nI (o i)) (by rw [wk_c (by omega)]; exact hoi) ?_⟩
      refine xw_rered hp hol hn (A := fun z => wX_relabel_59 post (wX_relabel_10 post (nI p) (nI n) f_capacity f_alphabet f_slots f_tables f_codeCount f_inputSize f_outputSize (nI n) f_columnIndex f_symbolCount f_groupCount f_tableCount f_bitBase f_bitPlace k) (nI p) (nI n) (nI L) (nI (i + 1)) (nI (o (i + 1))) (nI (o i)) z f_capacity f_alphabet f_slots f_tables f_codeCount f_inputSize f_outputSize (nI n) f_columnIndex f_symbolCount f_groupCount f_tableCount f_bitBase f_bitPlace a_input a_output a_held a_checks a_packed a_block a_column a_ranks a_otherRanks a_links a_starts a_order a_shifted a_classes n' a_buckets a_list a_symbols a_selectors a_lengths a_codes a_lengthCounts a_sorted a_weights a_parents a_depths) ?_
      refine xw_rered hp hil hn (A := fun z => wX_relabel_77 post (wX_relabel_10 post (nI p) (nI n) f_capacity f_alphabet f_slots f_tables f_codeCount f_inputSize f_outputSize (nI n) f_columnIndex f_symbolCount f_groupCount f_tableCount f_bitBase f_bitPlace k) (nI p) (nI n) (nI L) (nI (i + 1)) (nI (o (i + 1))) (nI (o i)) (nI ((o (i + 1) + p) % n)) z f_capacity f_alphabet f_slots f_tables f_codeCount f_inputSize f_outputSize (nI n) f_columnIndex f_symbolCount f_groupCount f_tableCount f_bitBase f_bitPlace a_input a_output a_held a_checks a_packed a_block a_column a_ranks a_otherRanks a_links a_starts a_order a_shifted a_classes n' a_buckets a_list a_symbols a_selectors a_lengths a_codes a_lengthCounts a_sorted a_weights a_parents a_depths) ?_
      have m1 : (o (i + 1) + p) % n < n := Nat.mod_lt _ (by omega)
      have m2 : (o i + p) % n < n := Nat.mod_lt _ (by omega)
      have c1 := hc _ hol
      have c2 := hc _ hil
      have c3 := hc _ m1
      have c4 := hc _ m2
      refine xw_re77 (c := c) (by omega) (by omega) (by omega) (by omega) c1.1 c2.1 c3.1 c4.1 c1.2 c2.2 c3.2 c4.2 (fun z => ?_) (fun z => ?_)
      · have e : L = so_lab (fun r => so_key c p n (o r)) (i + 1) := by
          rw [so_labt (q := fun r => so_key c p n (o r)) (by show so_key c p n (o (i + 1)) = so_key c p n (o i); unfold so_key; rw [z.1, z.2])]; exact hL'
        exact ih (i + 1 + 1) k L _ (by omega) (by omega) (fun z => by omega) (fun _ => e) (keep L e)
      · have e : L + 1 = so_lab (fun r => so_key c p n (o r)) (i + 1) := by
          rw [so_labf (q := fun r => so_key c p n (o r)) (by
            show so_key c p n (o (i + 1)) ≠ so_key c p n (o i)
            rw [so_keyne (by omega) (by omega)]
            by_cases y : c (o (i + 1)) = c (o i)
            · exact Or.inr (fun w => z ⟨y, w⟩)
            · exact Or.inl y)]
          rw [hL']
        exact ih (i + 1 + 1) k (L + 1) _ (by omega) (by omega) (fun z => by omega) (fun _ => e) (keep (L + 1) e)
theorem xw_relabel {post : SX → Prop} {n p : Nat} {c o : Nat → Nat} (hn : n ≤ 48) (hp : p < n ∨ n = 0) (hc : ∀ i, i < n → a_classes i = nI (c i) ∧ c i < 48) (ho : ∀ r, r < n → a_order r = nI (o r)) (hP : ca_P n o)
    (K : ∀ (c' n' : Nat → Int32) (nc : Nat → Nat), (∀ i, i < n → c' i = nI (nc i)) → (∀ r, r < n → nc (o r) = so_lab (fun r => so_key c p n (o r)) r) → post (f_capacity, f_alphabet, f_slots, f_tables, f_codeCount, f_inputSize, f_outputSize, nI n, f_columnIndex, f_symbolCount, f_groupCount, f_tableCount, f_bitBase, f_bitPlace, a_input, a_output, a_held, a_checks, a_packed, a_block, a_column, a_ranks, a_otherRanks, a_links, a_starts, a_order, a_shifted, c', n', a_buckets, a_list, a_symbols, a_selectors, a_lengths, a_codes, a_lengthCounts, a_sorted, a_weights, a_parents, a_depths)) : wpX_relabel post (f_capacity, f_alphabet, f_slots, f_tables, f_codeCount, f_inputSize, f_outputSize, nI n, f_columnIndex, f_symbolCount, f_groupCount, f_tableCount, f_bitBase, f_bitPlace, a_input, a_output, a_held, a_checks, a_packed, a_block, a_column, a_ranks, a_otherRanks, a_links, a_starts, a_order, a_shifted, a_classes, a_nextClasses, a_buckets, a_list, a_symbols, a_selectors, a_lengths, a_codes, a_lengthCounts, a_sorted, a_weights, a_parents, a_depths) (nI p) := by
  have K2 : ∀ n' : Nat → Int32, (∀ r, r < n → n' (o r) = nI (so_lab (fun r => so_key c p n (o r)) r)) → post (f_capacity, f_alphabet, f_slots, f_tables, f_codeCount, f_inputSize, f_outputSize, nI n, f_columnIndex, f_symbolCount, f_groupCount, f_tableCount, f_bitBase, f_bitPlace, a_input, a_output, a_held, a_checks, a_packed, a_block, a_column, a_ranks, a_otherRanks, a_links, a_starts, a_order, a_shifted, wk_ov n n' a_classes, n', a_buckets, a_list, a_symbols, a_selectors, a_lengths, a_codes, a_lengthCounts, a_sorted, a_weights, a_parents, a_depths) := by
    intro n' h
    have hl : ∀ r, r < n → (n' (o r)).toNatClampNeg = so_lab (fun r => so_key c p n (o r)) r := by
      intro r hr
      rw [h r hr, wk_c (by have := so_lable (fun r => so_key c p n (o r)) r; omega)]
    refine K _ n' (fun i => (n' i).toNatClampNeg) (fun i hi => ?_) hl
    obtain ⟨r, hr, e⟩ := ca_sur hP hi
    show wk_ov n n' a_classes i = nI (n' i).toNatClampNeg
    rw [wk_ovl hi, ← e, hl r hr, h r hr]
  rcases hp with hp | hp
  · exact ⟨n + 1, xw_re10 hn hp hc ho hP K2 n 0 (n + 1) 0 _ (by omega) (by omega) (fun _ => rfl) (fun z => by omega) (fun r hr => by omega)⟩
  · subst hp
    exact ⟨1, br_t (nI_le (a := 0) (b := 0) (by omega) (by omega)) (xw_re131 (n := 0) hn (K2 _ (fun r hr => by omega)))⟩
end
end
section
/-! the sort of the rotations -/
noncomputable def ro_col (n : Nat) (x : Nat → Nat) (r : Nat) : Nat := ro_a n x (ca_v n (ro_w n x) r + n - 1)
theorem ro_colC (n : Nat) (x : Nat → Nat) : ro_C n x (ro_col n x) := by
  intro i hi
  unfold ro_col
  rw [ca_vf (ro_wP n x) hi]
theorem ro_alt2 {n A : Nat} {x : Nat → Nat} (h0 : 0 < n) (h : ∀ i, i < n → x i < A) (i : Nat) : ro_a n x i < A := h _ (Nat.mod_lt _ h0)
theorem ro_collt {n A : Nat} {x : Nat → Nat} (h : ∀ i, i < n → x i < A) {r : Nat} (hr : r < n) : ro_col n x r < A := ro_alt2 (by omega) h _
theorem wk_mneg {a b n : Nat} (h : b ≤ a + n) : nI a - nI b + nI n = nI (a + n - b) := by
  have e : nI a - nI b + nI n = nI a + nI n - nI b := by grind
  rw [e, nI_add, pk_sub h]
theorem wk_back {n w a : Nat} (ha : a < n) (hw : w < n) : (a + (n - w)) % n = if w ≤ a then a - w else a + n - w := by
  by_cases c : w ≤ a
  · rw [if_pos c]
    have e : a + (n - w) = (a - w) + n := by omega
    rw [e, Nat.add_mod_right, Nat.mod_eq_of_lt (by omega)]
  · rw [if_neg c, Nat.mod_eq_of_lt (by omega)]; omega
section
variable {f_capacity f_alphabet f_slots f_tables f_codeCount f_inputSize f_outputSize f_blockLength f_columnIndex f_symbolCount f_groupCount f_tableCount f_bitBase f_bitPlace : Int32} {a_input a_output a_held a_checks a_packed a_block a_column a_ranks a_otherRanks a_links a_starts a_order a_shifted a_classes a_nextClasses a_buckets a_list a_symbols a_selectors a_lengths a_codes a_lengthCounts a_sorted a_weights a_parents a_depths : Nat → Int32}
theorem xw_so143 {post : SX → Prop} {n : Nat} {x o : Nat → Nat} (hn : n ≤ 48) (hx : ∀ i, i < n → a_block i = nI (x i)) (ho : ∀ r, r < n → a_order r = nI (o r)) (hw : ∀ i, i < n → o (ro_w n x i) = i)
    (K : ∀ cl' : Nat → Int32, (∀ r, r < n → cl' r = nI (ro_col n x r)) → post (f_capacity, f_alphabet, f_slots, f_tables, f_codeCount, f_inputSize, f_outputSize, nI n, nI (ro_w n x 0), f_symbolCount, f_groupCount, f_tableCount, f_bitBase, f_bitPlace, a_input, a_output, a_held, a_checks, a_packed, a_block, cl', a_ranks, a_otherRanks, a_links, a_starts, a_order, a_shifted, a_classes, a_nextClasses, a_buckets, a_list, a_symbols, a_selectors, a_lengths, a_codes, a_lengthCounts, a_sorted, a_weights, a_parents, a_depths)) :
    ∀ d r k cl' ix, r + d = n → d < k → ix = (if ro_w n x 0 < r then ro_w n x 0 else 0) → (∀ q, q < r → cl' q = nI (ro_col n x q)) → wX_sortRotations_143 post (nI n) f_capacity f_alphabet f_slots f_tables f_codeCount f_inputSize f_outputSize (nI n) f_symbolCount f_groupCount f_tableCount f_bitBase f_bitPlace k (nI r) (nI ix) a_input a_output a_held a_checks a_packed a_block cl' a_ranks a_otherRanks a_links a_starts a_order a_shifted a_classes a_nextClasses a_buckets a_list a_symbols a_selectors a_lengths a_codes a_lengthCounts a_sorted a_weights a_parents a_depths := by
  have hv : ∀ r, r < n → o r = ca_v n (ro_w n x) r := by
    intro r hr
    have a := ca_vs (ro_wP n x) hr
    have b := hw _ a.1
    rw [a.2] at b; exact b
  intro d
  induction d with
  | zero =>
    intro r k cl' ix hr hk hix hc
    obtain ⟨k, rfl⟩ : ∃ q, k = q + 1 := ⟨k - 1, by omega⟩
    have e : r = n := by omega
    subst e
    have e2 : (if ro_w r x 0 < r then ro_w r x 0 else 0) = ro_w r x 0 := by
      rcases Nat.eq_zero_or_pos r with z | z
      · subst z; rfl
      · rw [if_pos (ro_wlt z)]
    rw [hix, e2]
    exact br_t (nI_le (Nat.le_refl r) (by omega)) (K cl' hc)
  | succ d ih =>
    intro r k cl' ix hr hk hix hc
    obtain ⟨k, rfl⟩ : ∃ q, k = q + 1 := ⟨k - 1, by omega⟩
    have hor := hv r (by omega)
    have vs := ca_vs (ro_wP n x) (v := r) (by omega)
    have next : ∀ y, y = ro_col n x r → ∀ q, q < r + 1 → upd cl' r (nI y) q = nI (ro_col n x q) := by
      intro y hy q hq
      by_cases e : q = r
      · subst e; rw [pk_us, hy]
      · rw [pk_un e]; exact hc q (by omega)
    refine br_f (nI_ge (by omega) (by omega)) ⟨vp_in_nI (by omega) (by omega), nm_r (e' := nI (o r)) (by rw [wk_c (by omega)]; exact ho r (by omega)) ?_⟩
    have hol : o r < n := by rw [hor]; exact vs.1
    by_cases z : o r = 0
    · have e1 : ro_w n x 0 = r := by
        rw [hor] at z; rw [z] at vs; exact vs.2
      rw [z]
      refine br_t rfl ?_
      have e2 : nI n - 1 = nI (n - 1) := pk_sub (b := 1) (by omega)
      rw [e2, wk_c (i := n - 1) (by omega), wk_c (i := r) (by omega), hx (n - 1) (by omega)]
      refine ⟨vp_in_nI (by omega) (by omega), vp_in_nI (by omega) (by omega), nm_e (nm_r (nI_1 r) ?_)⟩
      refine ih (r + 1) k (upd cl' r (nI (x (n - 1)))) r (by omega) (by omega) (by rw [e1, if_pos (by omega)]) (next _ ?_)
      · unfold ro_col
        rw [← hor, z, Nat.zero_add, ro_alt (by omega)]
    · have e2 : nI (o r) - 1 = nI (o r - 1) := pk_sub (b := 1) (by omega)
      refine br_f (nI_ne0 (by omega) (by omega)) ?_
      rw [e2, wk_c (i := o r - 1) (by omega), wk_c (i := r) (by omega), hx (o r - 1) (by omega)]
      refine ⟨vp_in_nI (by omega) (by omega), vp_in_nI (by omega) (by omega), nm_e (nm_r (nI_1 r) ?_)⟩
      have ne : ro_w n x 0 ≠ r := by
        intro e; apply z; have := hw 0 (by omega); rw [e] at this; exact this
      have e3 : (if ro_w n x 0 < r + 1 then ro_w n x 0 else 0) = (if ro_w n x 0 < r then ro_w n x 0 else 0) := by
        by_cases y : ro_w n x 0 < r
        · rw [if_pos y, if_pos (by omega)]
        · rw [if_neg y, if_neg (by omega)]
      refine ih (r + 1) k (upd cl' r (nI (x (o r - 1)))) ix (by omega) (by omega) (hix.trans e3.symm) (next _ ?_)
      · unfold ro_col
        rw [← hor]
        have e4 : o r + n - 1 = (o r - 1) + n := by omega
        rw [e4, ro_an, ro_alt (by omega)]
theorem xw_so114 {post : SX → Prop} {n w : Nat} {x c o : Nat → Nat} (hn : n ≤ 48) (hx : ∀ i, i < n → a_block i = nI (x i)) (hw : n ≤ w) (I : so_I n x w c o) (hc : ∀ i, i < n → a_classes i = nI (c i))
    (K : ∀ (o' s' b' cl' : Nat → Int32), (∀ r, r < n → cl' r = nI (ro_col n x r)) → post (f_capacity, f_alphabet, f_slots, f_tables, f_codeCount, f_inputSize, f_outputSize, nI n, nI (ro_w n x 0), f_symbolCount, f_groupCount, f_tableCount, f_bitBase, f_bitPlace, a_input, a_output, a_held, a_checks, a_packed, a_block, cl', a_ranks, a_otherRanks, a_links, a_starts, o', s', a_classes, a_nextClasses, b', a_list, a_symbols, a_selectors, a_lengths, a_codes, a_lengthCounts, a_sorted, a_weights, a_parents, a_depths)) :
    ∃ k, wX_sortRotations_114 post (nI n) f_capacity f_alphabet f_slots f_tables f_codeCount f_inputSize f_outputSize (nI n) f_columnIndex f_symbolCount f_groupCount f_tableCount f_bitBase f_bitPlace k 0 a_input a_output a_held a_checks a_packed a_block a_column a_ranks a_otherRanks a_links a_starts a_order a_shifted a_classes a_nextClasses a_buckets a_list a_symbols a_selectors a_lengths a_codes a_lengthCounts a_sorted a_weights a_parents a_depths := by
  refine wk_cp (fun k i b => wX_sortRotations_114 post (nI n) f_capacity f_alphabet f_slots f_tables f_codeCount f_inputSize f_outputSize (nI n) f_columnIndex f_symbolCount f_groupCount f_tableCount f_bitBase f_bitPlace k (nI i) a_input a_output a_held a_checks a_packed a_block a_column a_ranks a_otherRanks a_links a_starts a_order b a_classes a_nextClasses a_buckets a_list a_symbols a_selectors a_lengths a_codes a_lengthCounts a_sorted a_weights a_parents a_depths) nI a_shifted n ?_ ?_
  · intro k
    refine br_t (nI_le (Nat.le_refl n) (by omega)) (xw_place (c := c) (s := fun j => j) hn (fun i hi => ⟨hc i hi, I.1 i hi⟩) (fun j hj => ⟨wk_ovl hj, hj⟩) (ca_Pid n) (fun o' b' q h1 h2 h3 => ?_))
    have he := so_end hw I (fun j _ => rfl) h2
    exact ⟨n + 1, xw_so143 hn hx h1 he (fun cl' h => K o' _ b' cl' h) n 0 (n + 1) a_column 0 (by omega) (by omega) (by rw [if_neg (by omega)]) (fun q hq => by omega)⟩
  · intro k i hi ih
    exact br_f (nI_ge hi (by omega)) ⟨vp_in_nI (by omega) (by omega), nm_r (by rw [wk_c (by omega)]; exact wk_ovs i nI a_shifted) (nm_r (nI_1 i) ih)⟩
theorem xw_so48 {post : SX → Prop} {n : Nat} {x : Nat → Nat} (hn : n ≤ 48) (hx : ∀ i, i < n → a_block i = nI (x i))
    (K : ∀ (o' s' c' n' b' cl' : Nat → Int32), (∀ r, r < n → cl' r = nI (ro_col n x r)) → post (f_capacity, f_alphabet, f_slots, f_tables, f_codeCount, f_inputSize, f_outputSize, nI n, nI (ro_w n x 0), f_symbolCount, f_groupCount, f_tableCount, f_bitBase, f_bitPlace, a_input, a_output, a_held, a_checks, a_packed, a_block, cl', a_ranks, a_otherRanks, a_links, a_starts, o', s', c', n', b', a_list, a_symbols, a_selectors, a_lengths, a_codes, a_lengthCounts, a_sorted, a_weights, a_parents, a_depths)) :
    ∀ m k w (c o : Nat → Nat) (o' s' c' n' b' : Nat → Int32), n - w ≤ m → m < k → 1 ≤ w → w ≤ 96 → so_I n x w c o → (∀ i, i < n → c' i = nI (c i)) → (∀ r, r < n → o' r = nI (o r)) →
    wX_sortRotations_48 post (nI n) k (nI w) f_capacity f_alphabet f_slots f_tables f_codeCount f_inputSize f_outputSize (nI n) f_columnIndex f_symbolCount f_groupCount f_tableCount f_bitBase f_bitPlace a_input a_output a_held a_checks a_packed a_block a_column a_ranks a_otherRanks a_links a_starts o' s' c' n' b' a_list a_symbols a_selectors a_lengths a_codes a_lengthCounts a_sorted a_weights a_parents a_depths := by
  intro m
  induction m with
  | zero =>
    intro k w c o o' s' c' n' b' hm hk h1 h96 I hc ho
    obtain ⟨k, rfl⟩ : ∃ q, k = q + 1 := ⟨k - 1, by omega⟩
    exact br_t (nI_le (by omega) (by omega)) (xw_so114 hn hx (by omega) I hc (fun o' s' b' cl' h => K o' s' c' n' b' cl' h))
  | succ m ih =>
    intro k w c o o' s' c' n' b' hm hk h1 h96 I hc ho
    obtain ⟨k, rfl⟩ : ∃ q, k = q + 1 := ⟨k - 1, by omega⟩
    by_cases z : n ≤ w
    · exact br_t (nI_le (by omega) (by omega)) (xw_so114 hn hx (by omega) I hc (fun o' s' b' cl' h => K o' s' c' n' b' cl' h))
    refine br_f (nI_ge (by omega) (by omega)) ?_
    have hP := I.2.2.1
    refine wk_cp (fun k' i b => wX_sortRotations_55 post (wX_sortRotations_48 post (nI n) k) (nI n) (nI w) f_capacity f_alphabet f_slots f_tables f_codeCount f_inputSize f_outputSize (nI n) f_columnIndex f_symbolCount f_groupCount f_tableCount f_bitBase f_bitPlace k' (nI i) a_input a_output a_held a_checks a_packed a_block a_column a_ranks a_otherRanks a_links a_starts o' b c' n' b' a_list a_symbols a_selectors a_lengths a_codes a_lengthCounts a_sorted a_weights a_parents a_depths) (fun j => nI ((o j + (n - w)) % n)) s' n ?_ ?_
    · intro k'
      refine br_t (nI_le (Nat.le_refl n) (by omega)) (xw_place (c := c) (s := fun j => (o j + (n - w)) % n) hn (fun i hi => ⟨hc i hi, I.1 i hi⟩) (fun j hj => ⟨wk_ovl hj, Nat.mod_lt _ (by omega)⟩) (ca_Pcomp (ro_addP (by omega) (n - w)) hP) (fun o2 b2 q h1 h2 h3 => ?_))
      refine xw_relabel (c := c) (o := q) hn (Or.inl (by omega)) (fun i hi => ⟨hc i hi, I.1 i hi⟩) h1 h3 (fun c2 n2 nc g1 g2 => ?_)
      refine nm_r (nI_add w w) ?_
      exact ih k (w + w) nc q _ _ _ _ _ (by omega) (by omega) (by omega) (by omega) (so_round hn (by omega) I (fun j _ => rfl) h2 g2) g1 h1
    · intro k' i hi ih2
      refine br_f (nI_ge hi (by omega)) ⟨vp_in_nI (by omega) (by omega), nm_r (e' := nI (o i) - nI w) (by rw [wk_c (by omega), ho i hi]) ?_⟩
      have hb := wk_back (hP.1 i hi) (show w < n by omega)
      have hol := hP.1 i hi
      by_cases y : w ≤ o i
      · rw [pk_sub y]
        rw [if_pos y] at hb
        rw [wk_c (i := i) (by omega)]
        exact br_t (nI_le (a := 0) (by omega) (by omega)) ⟨vp_in_nI (by omega) (by omega), nm_r (by rw [← hb]; exact wk_ovs i (fun j => nI ((o j + (n - w)) % n)) s') (nm_r (nI_1 i) ih2)⟩
      · rw [if_neg y] at hb
        have ng : nI (o i) - nI w < 0 := pk_sneg (by omega) (by omega)
        refine br_f (Int32.not_le.mpr ng) ?_
        rw [wk_mneg (by omega), wk_c (i := i) (by omega)]
        exact ⟨vp_in_nI (by omega) (by omega), nm_r (by rw [← hb]; exact wk_ovs i (fun j => nI ((o j + (n - w)) % n)) s') (nm_r (nI_1 i) ih2)⟩
theorem xw_so7 {post : SX → Prop} {n : Nat} {x : Nat → Nat} (hn : n ≤ 48) (hx : ∀ i, i < n → a_block i = nI (x i) ∧ x i < 16)
    (K : ∀ (o' s' c' n' b' cl' : Nat → Int32), (∀ r, r < n → cl' r = nI (ro_col n x r)) → post (f_capacity, f_alphabet, f_slots, f_tables, f_codeCount, f_inputSize, f_outputSize, nI n, nI (ro_w n x 0), f_symbolCount, f_groupCount, f_tableCount, f_bitBase, f_bitPlace, a_input, a_output, a_held, a_checks, a_packed, a_block, cl', a_ranks, a_otherRanks, a_links, a_starts, o', s', c', n', b', a_list, a_symbols, a_selectors, a_lengths, a_codes, a_lengthCounts, a_sorted, a_weights, a_parents, a_depths)) :
    ∀ d i k s' c', i + d = n → d < k → s' = wk_ov i nI a_shifted → c' = wk_ov i a_block a_classes → wX_sortRotations_7 post (nI n) f_capacity f_alphabet f_slots f_tables f_codeCount f_inputSize f_outputSize (nI n) f_columnIndex f_symbolCount f_groupCount f_tableCount f_bitBase f_bitPlace k (nI i) a_input a_output a_held a_checks a_packed a_block a_column a_ranks a_otherRanks a_links a_starts a_order s' c' a_nextClasses a_buckets a_list a_symbols a_selectors a_lengths a_codes a_lengthCounts a_sorted a_weights a_parents a_depths := by
  intro d
  induction d with
  | zero =>
    intro i k s' c' hi hk hs' hc'
    subst hs'
    subst hc'
    obtain ⟨k, rfl⟩ : ∃ q, k = q + 1 := ⟨k - 1, by omega⟩
    have e : i = n := by omega
    subst e
    have hc : ∀ j, j < i → wk_ov i a_block a_classes j = nI (x j) ∧ x j < 48 := fun j hj => ⟨by rw [wk_ovl hj]; exact (hx j hj).1, by have := (hx j hj).2; omega⟩
    refine br_t (nI_le (Nat.le_refl i) (by omega)) (xw_place (c := x) (s := fun j => j) hn hc (fun j hj => ⟨wk_ovl hj, hj⟩) (ca_Pid i) (fun o2 b2 q h1 h2 h3 => ?_))
    refine xw_relabel (p := 0) (c := x) (o := q) hn (by omega) hc h1 h3 (fun c2 n2 nc g1 g2 => ?_)
    exact ⟨i + 1, xw_so48 hn (fun i hi => (hx i hi).1) K i (i + 1) 1 nc q _ _ _ _ _ (by omega) (by omega) (by omega) (by omega) (so_init hn (fun j hj => (hc j hj).2) (fun _ _ => rfl) (fun _ _ => rfl) h2 g2) g1 h1⟩
  | succ d ih =>
    intro i k s' c' hi hk hs' hc'
    subst hs'
    subst hc'
    obtain ⟨k, rfl⟩ : ∃ q, k = q + 1 := ⟨k - 1, by omega⟩
    exact br_f (nI_ge (by omega) (by omega)) ⟨vp_in_nI (by omega) (by omega), vp_in_nI (by omega) (by omega), nm_r (by rw [wk_c (by omega)]; exact wk_ovs i a_block a_classes) ⟨vp_in_nI (by omega) (by omega), nm_r (by rw [wk_c (by omega)]; exact wk_ovs i nI a_shifted) (nm_r (nI_1 i) (ih (i + 1) k _ _ (by omega) (by omega) rfl rfl))⟩⟩
theorem xw_sort {post : SX → Prop} {n : Nat} {x : Nat → Nat} (hn : n ≤ 48) (hx : ∀ i, i < n → a_block i = nI (x i) ∧ x i < 16)
    (K : ∀ (o' s' c' n' b' cl' : Nat → Int32), (∀ r, r < n → cl' r = nI (ro_col n x r)) → post (f_capacity, f_alphabet, f_slots, f_tables, f_codeCount, f_inputSize, f_outputSize, nI n, nI (ro_w n x 0), f_symbolCount, f_groupCount, f_tableCount, f_bitBase, f_bitPlace, a_input, a_output, a_held, a_checks, a_packed, a_block, cl', a_ranks, a_otherRanks, a_links, a_starts, o', s', c', n', b', a_list, a_symbols, a_selectors, a_lengths, a_codes, a_lengthCounts, a_sorted, a_weights, a_parents, a_depths)) :
    wpX_sortRotations post (f_capacity, f_alphabet, f_slots, f_tables, f_codeCount, f_inputSize, f_outputSize, nI n, f_columnIndex, f_symbolCount, f_groupCount, f_tableCount, f_bitBase, f_bitPlace, a_input, a_output, a_held, a_checks, a_packed, a_block, a_column, a_ranks, a_otherRanks, a_links, a_starts, a_order, a_shifted, a_classes, a_nextClasses, a_buckets, a_list, a_symbols, a_selectors, a_lengths, a_codes, a_lengthCounts, a_sorted, a_weights, a_parents, a_depths) :=
  ⟨n + 1, xw_so7 hn hx K n 0 (n + 1) a_shifted a_classes (by omega) (by omega) (wk_ov0 nI a_shifted).symm (wk_ov0 a_block a_classes).symm⟩
end
end
section
/-! links, unwinding, the cycle -/
theorem wk_m1 (n : Nat) : nI n + (-1) = nI n - 1 := by grind
theorem wk_neg : (nI 0 - 1 : Int32) < 0 := by decide
section
variable {f_capacity f_alphabet f_slots f_tables f_codeCount f_inputSize f_outputSize f_blockLength f_columnIndex f_symbolCount f_groupCount f_tableCount f_bitBase f_bitPlace : Int32} {a_input a_output a_held a_checks a_packed a_block a_column a_ranks a_otherRanks a_links a_starts a_order a_shifted a_classes a_nextClasses a_buckets a_list a_symbols a_selectors a_lengths a_codes a_lengthCounts a_sorted a_weights a_parents a_depths : Nat → Int32}
theorem xw_li87 {post : SX → Prop} {n : Nat} {c : Nat → Nat} (hn : n ≤ 48) (hc : ∀ i, i < n → a_column i = nI (c i) ∧ c i < 16)
    (K : ∀ l' b' : Nat → Int32, (∀ r, r < n → l' r = nI (ro_k n c r)) → post (f_capacity, f_alphabet, f_slots, f_tables, f_codeCount, f_inputSize, f_outputSize, nI n, f_columnIndex, f_symbolCount, f_groupCount, f_tableCount, f_bitBase, f_bitPlace, a_input, a_output, a_held, a_checks, a_packed, a_block, a_column, a_ranks, a_otherRanks, l', b', a_order, a_shifted, a_classes, a_nextClasses, a_buckets, a_list, a_symbols, a_selectors, a_lengths, a_codes, a_lengthCounts, a_sorted, a_weights, a_parents, a_depths)) :
    ∀ d j k l' b', j + d = n → d < k → (∀ v, v < 16 → b' v = nI (ca_c (fun i => c i < v) n + ca_c (fun i => c i = v) j)) → (∀ i, i < j → l' i = nI (ro_k n c i)) →
    wX_buildLinks_87 post f_capacity f_alphabet f_slots f_tables f_codeCount f_inputSize f_outputSize (nI n) f_columnIndex f_symbolCount f_groupCount f_tableCount f_bitBase f_bitPlace k (nI j) a_input a_output a_held a_checks a_packed a_block a_column a_ranks a_otherRanks l' b' a_order a_shifted a_classes a_nextClasses a_buckets a_list a_symbols a_selectors a_lengths a_codes a_lengthCounts a_sorted a_weights a_parents a_depths := by
  intro d
  induction d with
  | zero =>
    intro j k l' b' hj hk hb ho
    obtain ⟨k, rfl⟩ : ∃ q, k = q + 1 := ⟨k - 1, by omega⟩
    have e : j = n := by omega
    subst e
    exact br_t (nI_le (Nat.le_refl j) (by omega)) (K l' b' ho)
  | succ d ih =>
    intro j k l' b' hj hk hb ho
    obtain ⟨k, rfl⟩ : ∃ q, k = q + 1 := ⟨k - 1, by omega⟩
    have hcj := hc j (by omega)
    have hbj := hb (c j) hcj.2
    have hp : ca_c (fun i => c i < c j) n + ca_c (fun i => c i = c j) j = ro_k n c j := (ca_Xr (c := c) (by omega)).symm
    rw [hp] at hbj
    have hlt : ro_k n c j < n := (ro_kP n c).1 j (by omega)
    refine br_f (nI_ge (by omega) (by omega)) ⟨vp_in_nI (by omega) (by omega), nm_r (e' := nI (c j)) (by rw [wk_c (by omega)]; exact hcj.1) ⟨vp_in_nI (by omega) (by omega), vp_in_nI (by omega) (by omega), ?_⟩⟩
    rw [wk_c (i := c j) (by omega), hbj, wk_c (i := j) (by omega)]
    refine nm_e ⟨vp_in_nI (by omega) (by omega), vp_in_nI (by omega) (by omega), nm_e (nm_r (nI_1 j) ?_)⟩
    refine ih (j + 1) k _ _ (by omega) (by omega) (fun v hv => ?_) (fun i hi => ?_)
    · by_cases e : v = c j
      · subst e
        rw [pk_us, nI_1, ca_cst (p := fun i => c i = c j) rfl, ← hp, Nat.add_assoc]
      · rw [pk_un e, hb v hv, ca_csf (p := fun i => c i = v) (fun z => e z.symm)]
    · by_cases e : i = j
      · subst e; rw [pk_us]
      · rw [pk_un e]
        exact ho i (by omega)
theorem xw_li56 {post : SX → Prop} {n : Nat} {c : Nat → Nat} (hn : n ≤ 48) (hc : ∀ i, i < n → a_column i = nI (c i) ∧ c i < 16)
    (K : ∀ l' b' : Nat → Int32, (∀ r, r < n → l' r = nI (ro_k n c r)) → post (f_capacity, f_alphabet, f_slots, f_tables, f_codeCount, f_inputSize, f_outputSize, nI n, f_columnIndex, f_symbolCount, f_groupCount, f_tableCount, f_bitBase, f_bitPlace, a_input, a_output, a_held, a_checks, a_packed, a_block, a_column, a_ranks, a_otherRanks, l', b', a_order, a_shifted, a_classes, a_nextClasses, a_buckets, a_list, a_symbols, a_selectors, a_lengths, a_codes, a_lengthCounts, a_sorted, a_weights, a_parents, a_depths)) :
    ∀ d j k b', j + d = 16 → d < k → (∀ v, v < j + 1 → b' v = nI (ca_c (fun i => c i < v) n)) → (∀ v, j < v → v < 17 → b' v = nI (ca_c (fun i => c i + 1 = v) n)) →
    wX_buildLinks_56 post f_capacity f_alphabet f_slots f_tables f_codeCount f_inputSize f_outputSize (nI n) f_columnIndex f_symbolCount f_groupCount f_tableCount f_bitBase f_bitPlace k (nI (j + 1)) a_input a_output a_held a_checks a_packed a_block a_column a_ranks a_otherRanks a_links b' a_order a_shifted a_classes a_nextClasses a_buckets a_list a_symbols a_selectors a_lengths a_codes a_lengthCounts a_sorted a_weights a_parents a_depths := by
  intro d
  induction d with
  | zero =>
    intro j k b' hj hk hb ho
    obtain ⟨k, rfl⟩ : ∃ q, k = q + 1 := ⟨k - 1, by omega⟩
    refine br_t (nI_le (a := 17) (by omega) (by omega)) ⟨n + 1, xw_li87 hn hc K n 0 (n + 1) _ _ (by omega) (by omega) (fun v hv => ?_) (fun i hi => by omega)⟩
    rw [ca_c0]
    exact hb v (by omega)
  | succ d ih =>
    intro j k b' hj hk hb ho
    obtain ⟨k, rfl⟩ : ∃ q, k = q + 1 := ⟨k - 1, by omega⟩
    refine br_f (nI_ge (b := 17) (by omega) (by omega)) ?_
    rw [nI_pred, wk_c (i := j + 1) (by omega), wk_c (i := j) (by omega)]
    refine ⟨vp_in_nI (by omega) (by omega), vp_in_nI (by omega) (by omega), vp_in_nI (by omega) (by omega), nm_e (nm_r (nI_1 (j + 1)) ?_)⟩
    refine ih (j + 1) k _ (by omega) (by omega) (fun v hv => ?_) (fun v h1 h2 => ?_)
    · by_cases e : v = j + 1
      · subst e
        rw [pk_us, ho (j + 1) (by omega) (by omega), hb j (by omega), nI_add]
        congr 1
        rw [Nat.add_comm, ← ca_cor (p := fun i => c i < j) (q := fun i => c i + 1 = j + 1) (fun i _ a b => by omega)]
        exact ca_cc (fun i _ => by constructor <;> intro z <;> omega)
      · rw [pk_un e]; exact hb v (by omega)
    · rw [pk_un (by omega)]; exact ho v (by omega) h2
theorem xw_li23 {post : SX → Prop} {n : Nat} {c : Nat → Nat} (hn : n ≤ 48) (hc : ∀ i, i < n → a_column i = nI (c i) ∧ c i < 16)
    (K : ∀ l' b' : Nat → Int32, (∀ r, r < n → l' r = nI (ro_k n c r)) → post (f_capacity, f_alphabet, f_slots, f_tables, f_codeCount, f_inputSize, f_outputSize, nI n, f_columnIndex, f_symbolCount, f_groupCount, f_tableCount, f_bitBase, f_bitPlace, a_input, a_output, a_held, a_checks, a_packed, a_block, a_column, a_ranks, a_otherRanks, l', b', a_order, a_shifted, a_classes, a_nextClasses, a_buckets, a_list, a_symbols, a_selectors, a_lengths, a_codes, a_lengthCounts, a_sorted, a_weights, a_parents, a_depths)) :
    ∀ d j k b', j + d = n → d < k → (∀ v, v < 17 → b' v = nI (ca_c (fun i => c i + 1 = v) j)) →
    wX_buildLinks_23 post f_capacity f_alphabet f_slots f_tables f_codeCount f_inputSize f_outputSize (nI n) f_columnIndex f_symbolCount f_groupCount f_tableCount f_bitBase f_bitPlace k (nI j) a_input a_output a_held a_checks a_packed a_block a_column a_ranks a_otherRanks a_links b' a_order a_shifted a_classes a_nextClasses a_buckets a_list a_symbols a_selectors a_lengths a_codes a_lengthCounts a_sorted a_weights a_parents a_depths := by
  intro d
  induction d with
  | zero =>
    intro j k b' hj hk hb
    obtain ⟨k, rfl⟩ : ∃ q, k = q + 1 := ⟨k - 1, by omega⟩
    have e : j = n := by omega
    subst e
    refine br_t (nI_le (Nat.le_refl j) (by omega)) ⟨17, xw_li56 hn hc K 16 0 17 _ (by omega) (by omega) (fun v hv => ?_) (fun v h1 h2 => hb v h2)⟩
    have e : v = 0 := by omega
    subst e
    rw [hb 0 (by omega), ca_cnone (fun i _ z => by omega), ca_cnone (fun i _ z => by omega)]
  | succ d ih =>
    intro j k b' hj hk hb
    obtain ⟨k, rfl⟩ : ∃ q, k = q + 1 := ⟨k - 1, by omega⟩
    have hcj := hc j (by omega)
    refine br_f (nI_ge (by omega) (by omega)) ?_
    rw [wk_c (i := j) (by omega), hcj.1, nI_1, wk_c (i := c j + 1) (by omega)]
    refine ⟨vp_in_nI (by omega) (by omega), vp_in_nI (by omega) (by omega), vp_in_nI (by omega) (by omega), nm_e (nm_r (nI_1 j) ?_)⟩
    refine ih (j + 1) k _ (by omega) (by omega) (fun v hv => ?_)
    by_cases e : v = c j + 1
    · subst e
      rw [pk_us, hb _ hv, nI_1, ca_cst (p := fun i => c i + 1 = c j + 1) rfl]
    · rw [pk_un e, hb v hv, ca_csf (p := fun i => c i + 1 = v) (fun z => e z.symm)]
theorem xw_links {post : SX → Prop} {n : Nat} {c : Nat → Nat} (hn : n ≤ 48) (hc : ∀ i, i < n → a_column i = nI (c i) ∧ c i < 16)
    (K : ∀ l' b' : Nat → Int32, (∀ r, r < n → l' r = nI (ro_k n c r)) → post (f_capacity, f_alphabet, f_slots, f_tables, f_codeCount, f_inputSize, f_outputSize, nI n, f_columnIndex, f_symbolCount, f_groupCount, f_tableCount, f_bitBase, f_bitPlace, a_input, a_output, a_held, a_checks, a_packed, a_block, a_column, a_ranks, a_otherRanks, l', b', a_order, a_shifted, a_classes, a_nextClasses, a_buckets, a_list, a_symbols, a_selectors, a_lengths, a_codes, a_lengthCounts, a_sorted, a_weights, a_parents, a_depths)) : wpX_buildLinks post (f_capacity, f_alphabet, f_slots, f_tables, f_codeCount, f_inputSize, f_outputSize, nI n, f_columnIndex, f_symbolCount, f_groupCount, f_tableCount, f_bitBase, f_bitPlace, a_input, a_output, a_held, a_checks, a_packed, a_block, a_column, a_ranks, a_otherRanks, a_links, a_starts, a_order, a_shifted, a_classes, a_nextClasses, a_buckets, a_list, a_symbols, a_selectors, a_lengths, a_codes, a_lengthCounts, a_sorted, a_weights, a_parents, a_depths) := by
  refine wk_cp (fun k i b => wX_buildLinks_2 post f_capacity f_alphabet f_slots f_tables f_codeCount f_inputSize f_outputSize (nI n) f_columnIndex f_symbolCount f_groupCount f_tableCount f_bitBase f_bitPlace k (nI i) a_input a_output a_held a_checks a_packed a_block a_column a_ranks a_otherRanks a_links b a_order a_shifted a_classes a_nextClasses a_buckets a_list a_symbols a_selectors a_lengths a_codes a_lengthCounts a_sorted a_weights a_parents a_depths) (fun _ => 0) a_starts 17 ?_ ?_
  · intro k
    refine br_t (nI_le (a := 17) (Nat.le_refl 17) (by omega)) ⟨n + 1, xw_li23 hn hc K n 0 (n + 1) _ (by omega) (by omega) (fun v hv => ?_)⟩
    rw [wk_ovl hv, ca_c0]; rfl
  · intro k i hi ih
    exact br_f (nI_ge (b := 17) hi (by omega)) ⟨vp_in_nI (by omega) (by omega), nm_r (by rw [wk_c (by omega)]; exact wk_ovs i (fun _ => 0) a_starts) (nm_r (nI_1 i) ih)⟩
theorem xw_unw9 {post : SX → Prop} {n r0 : Nat} {c : Nat → Nat} (hn : n ≤ 48) (hr : r0 < n ∨ n = 0) (hc : ∀ i, i < n → a_column i = nI (c i)) (hl : ∀ i, i < n → a_links i = nI (ro_k n c i))
    (K : ∀ bl' : Nat → Int32, (∀ k, k < n → bl' (n - 1 - k) = nI (c (ro_i (ro_k n c) k r0))) → post (f_capacity, f_alphabet, f_slots, f_tables, f_codeCount, f_inputSize, f_outputSize, nI n, f_columnIndex, f_symbolCount, f_groupCount, f_tableCount, f_bitBase, f_bitPlace, a_input, a_output, a_held, a_checks, a_packed, bl', a_column, a_ranks, a_otherRanks, a_links, a_starts, a_order, a_shifted, a_classes, a_nextClasses, a_buckets, a_list, a_symbols, a_selectors, a_lengths, a_codes, a_lengthCounts, a_sorted, a_weights, a_parents, a_depths)) :
    ∀ d j k x3 bl', j + d = n → d < k → x3 = nI d - 1 → (∀ q, q < j → bl' (n - 1 - q) = nI (c (ro_i (ro_k n c) q r0))) → wX_unwind_9 post f_capacity f_alphabet f_slots f_tables f_codeCount f_inputSize f_outputSize (nI n) f_columnIndex f_symbolCount f_groupCount f_tableCount f_bitBase f_bitPlace k (nI (ro_i (ro_k n c) j r0)) x3 a_input a_output a_held a_checks a_packed bl' a_column a_ranks a_otherRanks a_links a_starts a_order a_shifted a_classes a_nextClasses a_buckets a_list a_symbols a_selectors a_lengths a_codes a_lengthCounts a_sorted a_weights a_parents a_depths := by
  intro d
  induction d with
  | zero =>
    intro j k x3 bl' hj hk hx hb
    obtain ⟨k, rfl⟩ : ∃ q, k = q + 1 := ⟨k - 1, by omega⟩
    have e : j = n := by omega
    subst e
    subst hx
    exact br_t wk_neg (K bl' hb)
  | succ d ih =>
    intro j k x3 bl' hj hk hx hb
    obtain ⟨k, rfl⟩ : ∃ q, k = q + 1 := ⟨k - 1, by omega⟩
    rw [nI_pred] at hx
    subst hx
    have hR : ro_i (ro_k n c) j r0 < n := ro_iP (ro_kP n c) (by omega) j
    refine br_f (nI_pos (by omega)) ?_
    rw [wk_c (i := d) (by omega), wk_c (i := ro_i (ro_k n c) j r0) (by omega), hc _ hR]
    refine ⟨vp_in_nI (by omega) (by omega), vp_in_nI (by omega) (by omega), nm_e ⟨vp_in_nI (by omega) (by omega), nm_r (e' := nI (ro_i (ro_k n c) (j + 1) r0)) (hl _ hR) (nm_r (wk_m1 d) ?_)⟩⟩
    refine ih (j + 1) k _ _ (by omega) (by omega) rfl (fun q hq => ?_)
    by_cases e : q = j
    · subst e
      have e2 : n - 1 - q = d := by omega
      rw [e2, pk_us]
    · rw [pk_un (by omega)]; exact hb q (by omega)
theorem xw_unwind {post : SX → Prop} {n r0 : Nat} {c : Nat → Nat} (hn : n ≤ 48) (hr : r0 < n ∨ n = 0) (hc : ∀ i, i < n → a_column i = nI (c i)) (hl : ∀ i, i < n → a_links i = nI (ro_k n c i))
    (K : ∀ bl' : Nat → Int32, (∀ k, k < n → bl' (n - 1 - k) = nI (c (ro_i (ro_k n c) k r0))) → post (f_capacity, f_alphabet, f_slots, f_tables, f_codeCount, f_inputSize, f_outputSize, nI n, f_columnIndex, f_symbolCount, f_groupCount, f_tableCount, f_bitBase, f_bitPlace, a_input, a_output, a_held, a_checks, a_packed, bl', a_column, a_ranks, a_otherRanks, a_links, a_starts, a_order, a_shifted, a_classes, a_nextClasses, a_buckets, a_list, a_symbols, a_selectors, a_lengths, a_codes, a_lengthCounts, a_sorted, a_weights, a_parents, a_depths)) : wpX_unwind post (f_capacity, f_alphabet, f_slots, f_tables, f_codeCount, f_inputSize, f_outputSize, nI n, f_columnIndex, f_symbolCount, f_groupCount, f_tableCount, f_bitBase, f_bitPlace, a_input, a_output, a_held, a_checks, a_packed, a_block, a_column, a_ranks, a_otherRanks, a_links, a_starts, a_order, a_shifted, a_classes, a_nextClasses, a_buckets, a_list, a_symbols, a_selectors, a_lengths, a_codes, a_lengthCounts, a_sorted, a_weights, a_parents, a_depths) (nI r0) :=
  nm_e ⟨n + 1, xw_unw9 hn hr hc hl K n 0 (n + 1) _ _ (by omega) (by omega) rfl (fun q hq => by omega)⟩
theorem xw_cyc7 {post : Int32 → Prop} {n r0 p : Nat} {c : Nat → Nat} (hn : n ≤ 48) (hr : r0 < n) (hl : ∀ i, i < n → a_links i = nI (ro_k n c i)) (hp : p ≤ n)
    (h : ∀ s, 0 < s → s ≤ p → (ro_i (ro_k n c) s r0 = r0 ↔ s = p)) (K : post (nI p)) : ∀ d s k, s + d = p → 0 < d → d < k → wX_cycleLength_7 post f_capacity f_alphabet f_slots f_tables f_codeCount f_inputSize f_outputSize (nI n) (nI r0) f_symbolCount f_groupCount f_tableCount f_bitBase f_bitPlace a_input a_output a_held a_checks a_packed a_block a_column a_ranks a_otherRanks a_links a_starts a_order a_shifted a_classes a_nextClasses a_buckets a_list a_symbols a_selectors a_lengths a_codes a_lengthCounts a_sorted a_weights a_parents a_depths k (nI (ro_i (ro_k n c) s r0)) (nI (s + 1)) := by
  intro d
  induction d with
  | zero => intro s k _ h; omega
  | succ d ih =>
    intro s k hs _ hk
    obtain ⟨k, rfl⟩ : ∃ q, k = q + 1 := ⟨k - 1, by omega⟩
    have hR : ro_i (ro_k n c) s r0 < n := ro_iP (ro_kP n c) (by omega) s
    have hR1 : ro_i (ro_k n c) (s + 1) r0 < n := ro_iP (ro_kP n c) (by omega) (s + 1)
    refine br_f (nI_nlt (by omega) (by omega)) ⟨vp_in_nI (by omega) (by omega), nm_r (e' := nI (ro_i (ro_k n c) (s + 1) r0)) (by rw [wk_c (by omega)]; exact hl _ hR) (pk_eq (ro_i (ro_k n c) (s + 1) r0) r0 (fun e => ?_) (fun e => ?_))⟩
    · have e2 := (h (s + 1) (by omega) (by omega)).mp e
      rw [e2]; exact K
    · have e2 : s + 1 ≠ p := fun z => e ((h (s + 1) (by omega) (by omega)).mpr z)
      exact nm_r (nI_1 (s + 1)) (ih (s + 1) k (by omega) (by omega) (by omega))
theorem xw_cyc {post : Int32 → Prop} {n r0 p : Nat} {c : Nat → Nat} (hn : n ≤ 48) (hr : r0 < n) (hl : ∀ i, i < n → a_links i = nI (ro_k n c i)) (hp : p ≤ n) (h0 : 0 < p)
    (h : ∀ s, 0 < s → s ≤ p → (ro_i (ro_k n c) s r0 = r0 ↔ s = p)) (K : post (nI p)) : wpX_cycleLength post (f_capacity, f_alphabet, f_slots, f_tables, f_codeCount, f_inputSize, f_outputSize, nI n, nI r0, f_symbolCount, f_groupCount, f_tableCount, f_bitBase, f_bitPlace, a_input, a_output, a_held, a_checks, a_packed, a_block, a_column, a_ranks, a_otherRanks, a_links, a_starts, a_order, a_shifted, a_classes, a_nextClasses, a_buckets, a_list, a_symbols, a_selectors, a_lengths, a_codes, a_lengthCounts, a_sorted, a_weights, a_parents, a_depths) :=
  ⟨p + 1, xw_cyc7 hn hr hl hp h K p 0 (p + 1) (by omega) (by omega) (by omega)⟩
theorem xw_cyc0 {post : Int32 → Prop} (K : post (nI 0)) : wpX_cycleLength post (f_capacity, f_alphabet, f_slots, f_tables, f_codeCount, f_inputSize, f_outputSize, nI 0, f_columnIndex, f_symbolCount, f_groupCount, f_tableCount, f_bitBase, f_bitPlace, a_input, a_output, a_held, a_checks, a_packed, a_block, a_column, a_ranks, a_otherRanks, a_links, a_starts, a_order, a_shifted, a_classes, a_nextClasses, a_buckets, a_list, a_symbols, a_selectors, a_lengths, a_codes, a_lengthCounts, a_sorted, a_weights, a_parents, a_depths) :=
  ⟨1, br_t (nI_lt (a := 0) (b := 1) (by omega) (by omega)) K⟩
end
end
section
/-! the list moved to front -/
def wk_mf (a : Nat → Int32) (p : Nat) : Nat → Int32 := fun j => if j = 0 then a p else if j ≤ p then a (j - 1) else a j
def wk_sh (a : Nat → Int32) (p j : Nat) : Nat → Int32 := fun i => if j < i ∧ i ≤ p then a (i - 1) else a i
theorem wk_sh0 (a : Nat → Int32) (p : Nat) : wk_sh a p p = a := by
  funext i; unfold wk_sh; rw [if_neg (by omega)]
theorem wk_shl {a : Nat → Int32} {p j i : Nat} (h : i ≤ j) : wk_sh a p j i = a i := by
  unfold wk_sh; rw [if_neg (by omega)]
theorem wk_shs {a : Nat → Int32} {p j : Nat} (h : j < p) : upd (wk_sh a p (j + 1)) (j + 1) (a j) = wk_sh a p j := by
  funext i; unfold upd wk_sh
  by_cases e : i = j + 1
  · subst e; rw [if_pos rfl, if_pos (by omega)]; rfl
  · rw [if_neg e]
    by_cases f : j < i ∧ i ≤ p
    · rw [if_pos f, if_pos (by omega)]
    · rw [if_neg f, if_neg (by omega)]
theorem wk_she (a : Nat → Int32) (p : Nat) : upd (wk_sh a p 0) 0 (a p) = wk_mf a p := by
  funext i; unfold upd wk_sh wk_mf
  by_cases e : i = 0
  · rw [if_pos e, if_pos e]
  · rw [if_neg e, if_neg e]
    by_cases f : i ≤ p
    · rw [if_pos f, if_pos (by omega)]
    · rw [if_neg f, if_neg (by omega)]
theorem wk_mfh {a : Nat → Int32} {l : Nat → Nat} {A p : Nat} (h : ∀ j, j < A → a j = nI (l j)) (hp : p < A) : ∀ j, j < A → wk_mf a p j = nI (mt_st l p j) := by
  intro j hj
  unfold wk_mf mt_st
  by_cases e : j = 0
  · rw [if_pos e, if_pos e]; exact h p hp
  · rw [if_neg e, if_neg e]
    by_cases f : j ≤ p
    · rw [if_pos f, if_pos f]; exact h _ (by omega)
    · rw [if_neg f, if_neg f]; exact h _ hj
section
variable {f_capacity f_alphabet f_slots f_tables f_codeCount f_inputSize f_outputSize f_blockLength f_columnIndex f_symbolCount f_groupCount f_tableCount f_bitBase f_bitPlace : Int32} {a_input a_output a_held a_checks a_packed a_block a_column a_ranks a_otherRanks a_links a_starts a_order a_shifted a_classes a_nextClasses a_buckets a_list a_symbols a_selectors a_lengths a_codes a_lengthCounts a_sorted a_weights a_parents a_depths : Nat → Int32}
theorem xw_reset {post : SX → Prop} {m : Nat} (hm : m ≤ 16) (K : post (f_capacity, f_alphabet, f_slots, f_tables, f_codeCount, f_inputSize, f_outputSize, f_blockLength, f_columnIndex, f_symbolCount, f_groupCount, f_tableCount, f_bitBase, f_bitPlace, a_input, a_output, a_held, a_checks, a_packed, a_block, a_column, a_ranks, a_otherRanks, a_links, a_starts, a_order, a_shifted, a_classes, a_nextClasses, a_buckets, wk_ov m nI a_list, a_symbols, a_selectors, a_lengths, a_codes, a_lengthCounts, a_sorted, a_weights, a_parents, a_depths)) : wpX_resetList post (f_capacity, f_alphabet, f_slots, f_tables, f_codeCount, f_inputSize, f_outputSize, f_blockLength, f_columnIndex, f_symbolCount, f_groupCount, f_tableCount, f_bitBase, f_bitPlace, a_input, a_output, a_held, a_checks, a_packed, a_block, a_column, a_ranks, a_otherRanks, a_links, a_starts, a_order, a_shifted, a_classes, a_nextClasses, a_buckets, a_list, a_symbols, a_selectors, a_lengths, a_codes, a_lengthCounts, a_sorted, a_weights, a_parents, a_depths) (nI m) := by
  refine wk_cp (fun k i b => wX_resetList_2 post (nI m) f_capacity f_alphabet f_slots f_tables f_codeCount f_inputSize f_outputSize f_blockLength f_columnIndex f_symbolCount f_groupCount f_tableCount f_bitBase f_bitPlace k (nI i) a_input a_output a_held a_checks a_packed a_block a_column a_ranks a_otherRanks a_links a_starts a_order a_shifted a_classes a_nextClasses a_buckets b a_symbols a_selectors a_lengths a_codes a_lengthCounts a_sorted a_weights a_parents a_depths) nI a_list m ?_ ?_
  · intro k; exact br_t (nI_le (Nat.le_refl m) (by omega)) K
  · intro k i hi ih
    exact br_f (nI_ge hi (by omega)) ⟨vp_in_nI (by omega) (by omega), nm_r (by rw [wk_c (by omega)]; exact wk_ovs i nI a_list) (nm_r (nI_1 i) ih)⟩
theorem xw_btf9 {post : Int32 → SX → Prop} {p : Nat} (hp : p < 16) (K : post (a_list p) (f_capacity, f_alphabet, f_slots, f_tables, f_codeCount, f_inputSize, f_outputSize, f_blockLength, f_columnIndex, f_symbolCount, f_groupCount, f_tableCount, f_bitBase, f_bitPlace, a_input, a_output, a_held, a_checks, a_packed, a_block, a_column, a_ranks, a_otherRanks, a_links, a_starts, a_order, a_shifted, a_classes, a_nextClasses, a_buckets, wk_mf a_list p, a_symbols, a_selectors, a_lengths, a_codes, a_lengthCounts, a_sorted, a_weights, a_parents, a_depths)) :
    ∀ j k l', j ≤ p → j < k → l' = wk_sh a_list p j → wX_bringToFront_9 post (a_list p) f_capacity f_alphabet f_slots f_tables f_codeCount f_inputSize f_outputSize f_blockLength f_columnIndex f_symbolCount f_groupCount f_tableCount f_bitBase f_bitPlace k (nI j) a_input a_output a_held a_checks a_packed a_block a_column a_ranks a_otherRanks a_links a_starts a_order a_shifted a_classes a_nextClasses a_buckets l' a_symbols a_selectors a_lengths a_codes a_lengthCounts a_sorted a_weights a_parents a_depths := by
  intro j
  induction j with
  | zero =>
    intro k l' hj hk hl
    obtain ⟨k, rfl⟩ : ∃ q, k = q + 1 := ⟨k - 1, by omega⟩
    subst hl
    exact br_t (nI_le (a := 0) (b := 0) (by omega) (by omega)) (nm_r (wk_she a_list p) K)
  | succ j ih =>
    intro k l' hj hk hl
    obtain ⟨k, rfl⟩ : ∃ q, k = q + 1 := ⟨k - 1, by omega⟩
    subst hl
    refine br_f (nI_nle (by omega) (by omega)) ?_
    rw [nI_pred, wk_c (i := j + 1) (by omega), wk_c (i := j) (by omega), wk_shl (by omega)]
    exact ⟨vp_in_nI (by omega) (by omega), vp_in_nI (by omega) (by omega), nm_r (wk_shs (by omega)) (nm_r (pk_m1 j) (ih k _ (by omega) (by omega) rfl))⟩
theorem xw_btf {post : Int32 → SX → Prop} {p : Nat} (hp : p < 16) (K : post (a_list p) (f_capacity, f_alphabet, f_slots, f_tables, f_codeCount, f_inputSize, f_outputSize, f_blockLength, f_columnIndex, f_symbolCount, f_groupCount, f_tableCount, f_bitBase, f_bitPlace, a_input, a_output, a_held, a_checks, a_packed, a_block, a_column, a_ranks, a_otherRanks, a_links, a_starts, a_order, a_shifted, a_classes, a_nextClasses, a_buckets, wk_mf a_list p, a_symbols, a_selectors, a_lengths, a_codes, a_lengthCounts, a_sorted, a_weights, a_parents, a_depths)) : wpX_bringToFront post (f_capacity, f_alphabet, f_slots, f_tables, f_codeCount, f_inputSize, f_outputSize, f_blockLength, f_columnIndex, f_symbolCount, f_groupCount, f_tableCount, f_bitBase, f_bitPlace, a_input, a_output, a_held, a_checks, a_packed, a_block, a_column, a_ranks, a_otherRanks, a_links, a_starts, a_order, a_shifted, a_classes, a_nextClasses, a_buckets, a_list, a_symbols, a_selectors, a_lengths, a_codes, a_lengthCounts, a_sorted, a_weights, a_parents, a_depths) (nI p) :=
  ⟨vp_in_nI hp (by omega), nm_r (e' := a_list p) (by rw [wk_c (by omega)]) ⟨p + 1, xw_btf9 hp K p (p + 1) _ (by omega) (by omega) (wk_sh0 a_list p).symm⟩⟩
theorem xw_po5 {post : Int32 → SX → Prop} {m p v : Nat} {l : Nat → Nat} (hm : m ≤ 16) (hl : ∀ j, j < m → a_list j = nI (l j)) (hlt : ∀ j, j < m → l j < 2 ^ 31) (hP : ∀ i j, i < m → j < m → l i = l j → i = j) (hp : p < m) (hv : l p = v)
    (K : post (nI p) (f_capacity, f_alphabet, f_slots, f_tables, f_codeCount, f_inputSize, f_outputSize, f_blockLength, f_columnIndex, f_symbolCount, f_groupCount, f_tableCount, f_bitBase, f_bitPlace, a_input, a_output, a_held, a_checks, a_packed, a_block, a_column, a_ranks, a_otherRanks, a_links, a_starts, a_order, a_shifted, a_classes, a_nextClasses, a_buckets, wk_mf a_list p, a_symbols, a_selectors, a_lengths, a_codes, a_lengthCounts, a_sorted, a_weights, a_parents, a_depths)) : ∀ d j k q, j + d = m → d < k → (p < j → q = nI p) → wX_placeOf_5 post (nI v) (nI m) f_capacity f_alphabet f_slots f_tables f_codeCount f_inputSize f_outputSize f_blockLength f_columnIndex f_symbolCount f_groupCount f_tableCount f_bitBase f_bitPlace a_input a_output a_held a_checks a_packed a_block a_column a_ranks a_otherRanks a_links a_starts a_order a_shifted a_classes a_nextClasses a_buckets a_list a_symbols a_selectors a_lengths a_codes a_lengthCounts a_sorted a_weights a_parents a_depths k q (nI j) := by
  intro d
  induction d with
  | zero =>
    intro j k q hj hk hq
    obtain ⟨k, rfl⟩ : ∃ q, k = q + 1 := ⟨k - 1, by omega⟩
    rw [hq (by omega)]
    exact br_t (nI_le (by omega) (by omega)) (xw_btf (by omega) K)
  | succ d ih =>
    intro j k q hj hk hq
    obtain ⟨k, rfl⟩ : ∃ q, k = q + 1 := ⟨k - 1, by omega⟩
    have hvl := hlt p hp
    have hjl := hlt j (by omega)
    refine br_f (nI_ge (by omega) (by omega)) ⟨vp_in_nI (by omega) (by omega), ?_⟩
    rw [wk_c (i := j) (by omega), hl j (by omega)]
    refine pk_eq (l j) v (fun e => nm_r (nI_1 j) (ih (j + 1) k _ (by omega) (by omega) (fun _ => ?_))) (fun e => nm_r (nI_1 j) (ih (j + 1) k _ (by omega) (by omega) (fun z => ?_)))
    · rw [hP j p (by omega) hp (e.trans hv.symm)]
    · refine hq ?_
      by_cases y : p = j
      · subst y; exact absurd hv e
      · omega
theorem xw_po {post : Int32 → SX → Prop} {m p v : Nat} {l : Nat → Nat} (hm : m ≤ 16) (hl : ∀ j, j < m → a_list j = nI (l j)) (hP : ca_P m l) (hp : p < m) (hv : l p = v)
    (K : post (nI p) (f_capacity, f_alphabet, f_slots, f_tables, f_codeCount, f_inputSize, f_outputSize, f_blockLength, f_columnIndex, f_symbolCount, f_groupCount, f_tableCount, f_bitBase, f_bitPlace, a_input, a_output, a_held, a_checks, a_packed, a_block, a_column, a_ranks, a_otherRanks, a_links, a_starts, a_order, a_shifted, a_classes, a_nextClasses, a_buckets, wk_mf a_list p, a_symbols, a_selectors, a_lengths, a_codes, a_lengthCounts, a_sorted, a_weights, a_parents, a_depths)) : wpX_placeOf post (f_capacity, f_alphabet, f_slots, f_tables, f_codeCount, f_inputSize, f_outputSize, f_blockLength, f_columnIndex, f_symbolCount, f_groupCount, f_tableCount, f_bitBase, f_bitPlace, a_input, a_output, a_held, a_checks, a_packed, a_block, a_column, a_ranks, a_otherRanks, a_links, a_starts, a_order, a_shifted, a_classes, a_nextClasses, a_buckets, a_list, a_symbols, a_selectors, a_lengths, a_codes, a_lengthCounts, a_sorted, a_weights, a_parents, a_depths) (nI v) (nI m) :=
  ⟨m + 1, xw_po5 hm hl (fun j hj => by have := hP.1 j hj; omega) hP.2 hp hv K m 0 (m + 1) _ (by omega) (by omega) (fun z => by omega)⟩
theorem xw_rk10 {post : SX → Prop} {n A : Nat} {c : Nat → Nat} (hn : n ≤ 48) (hA : A ≤ 16) (hc : ∀ i, i < n → a_column i = nI (c i) ∧ c i < A)
    (K : ∀ (l' rk' : Nat → Int32) (pl : Nat → Nat), mt_M A n c pl → (∀ r, r < n → rk' r = nI (pl r)) → post (f_capacity, nI A, f_slots, f_tables, f_codeCount, f_inputSize, f_outputSize, nI n, f_columnIndex, f_symbolCount, f_groupCount, f_tableCount, f_bitBase, f_bitPlace, a_input, a_output, a_held, a_checks, a_packed, a_block, a_column, rk', a_otherRanks, a_links, a_starts, a_order, a_shifted, a_classes, a_nextClasses, a_buckets, l', a_symbols, a_selectors, a_lengths, a_codes, a_lengthCounts, a_sorted, a_weights, a_parents, a_depths)) :
    ∀ d r k (l' rk' : Nat → Int32) (pl : Nat → Nat), r + d = n → d < k → mt_M A r c pl → (∀ q, q < r → rk' q = nI (pl q)) → (∀ j, j < A → l' j = nI (mt_l pl r j)) →
    wX_rankColumn_10 post k (nI r) f_capacity (nI A) f_slots f_tables f_codeCount f_inputSize f_outputSize (nI n) f_columnIndex f_symbolCount f_groupCount f_tableCount f_bitBase f_bitPlace a_input a_output a_held a_checks a_packed a_block a_column rk' a_otherRanks a_links a_starts a_order a_shifted a_classes a_nextClasses a_buckets l' a_symbols a_selectors a_lengths a_codes a_lengthCounts a_sorted a_weights a_parents a_depths := by
  intro d
  induction d with
  | zero =>
    intro r k l' rk' pl hr hk hM hq hl
    obtain ⟨k, rfl⟩ : ∃ q, k = q + 1 := ⟨k - 1, by omega⟩
    have e : r = n := by omega
    subst e
    exact br_t (nI_le (Nat.le_refl r) (by omega)) (K l' rk' pl hM hq)
  | succ d ih =>
    intro r k l' rk' pl hr hk hM hq hl
    obtain ⟨k, rfl⟩ : ∃ q, k = q + 1 := ⟨k - 1, by omega⟩
    have hcr := hc r (by omega)
    have P := mt_lP (A := A) (fun q hq => (hM q hq).1) r (Nat.le_refl r)
    obtain ⟨p, hp, e⟩ := ca_sur P hcr.2
    refine br_f (nI_ge (by omega) (by omega)) ⟨vp_in_nI (by omega) (by omega), ?_⟩
    rw [wk_c (i := r) (by omega), hcr.1]
    refine xw_po hA hl P hp e ⟨vp_in_nI (by omega) (by omega), nm_e (nm_r (nI_1 r) ?_)⟩
    have el : ∀ q, q ≤ r → mt_l (fun q => if q = r then p else pl q) q = mt_l pl q := fun q hq => mt_lcong (fun t ht => if_neg (by omega))
    refine ih (r + 1) k _ _ (fun q => if q = r then p else pl q) (by omega) (by omega) (fun q hqr => ?_) (fun q hqr => ?_) ?_
    · by_cases z : q = r
      · subst z
        rw [el q (by omega)]
        show (if q = q then p else pl q) < A ∧ mt_l pl q (if q = q then p else pl q) = c q
        rw [if_pos rfl]; exact ⟨hp, e⟩
      · rw [el q (by omega)]
        show (if q = r then p else pl q) < A ∧ mt_l pl q (if q = r then p else pl q) = c q
        rw [if_neg z]; exact hM q (by omega)
    · by_cases z : q = r
      · subst z; rw [pk_us, if_pos rfl]
      · rw [pk_un z, if_neg z]; exact hq q (by omega)
    · rw [mt_ls, el r (by omega), if_pos rfl]
      exact wk_mfh hl hp
theorem xw_rank {post : SX → Prop} {n A : Nat} {c : Nat → Nat} (hn : n ≤ 48) (hA : A ≤ 16) (hc : ∀ i, i < n → a_column i = nI (c i) ∧ c i < A)
    (K : ∀ (l' rk' : Nat → Int32) (pl : Nat → Nat), mt_M A n c pl → (∀ r, r < n → rk' r = nI (pl r)) → post (f_capacity, nI A, f_slots, f_tables, f_codeCount, f_inputSize, f_outputSize, nI n, f_columnIndex, f_symbolCount, f_groupCount, f_tableCount, f_bitBase, f_bitPlace, a_input, a_output, a_held, a_checks, a_packed, a_block, a_column, rk', a_otherRanks, a_links, a_starts, a_order, a_shifted, a_classes, a_nextClasses, a_buckets, l', a_symbols, a_selectors, a_lengths, a_codes, a_lengthCounts, a_sorted, a_weights, a_parents, a_depths)) : wpX_rankColumn post (f_capacity, nI A, f_slots, f_tables, f_codeCount, f_inputSize, f_outputSize, nI n, f_columnIndex, f_symbolCount, f_groupCount, f_tableCount, f_bitBase, f_bitPlace, a_input, a_output, a_held, a_checks, a_packed, a_block, a_column, a_ranks, a_otherRanks, a_links, a_starts, a_order, a_shifted, a_classes, a_nextClasses, a_buckets, a_list, a_symbols, a_selectors, a_lengths, a_codes, a_lengthCounts, a_sorted, a_weights, a_parents, a_depths) :=
  xw_reset hA ⟨n + 1, xw_rk10 hn hA hc K n 0 (n + 1) _ _ (fun _ => 0) (by omega) (by omega) (fun q hq => by omega) (fun q hq => by omega) (fun j hj => wk_ovl hj)⟩
theorem xw_ur10 {post : SX → Prop} {n A : Nat} {c pl : Nat → Nat} (hn : n ≤ 48) (hA : A ≤ 16) (hM : mt_M A n c pl) (hr : ∀ i, i < n → a_ranks i = nI (pl i))
    (K : ∀ (l' cl' : Nat → Int32), (∀ r, r < n → cl' r = nI (c r)) → post (f_capacity, nI A, f_slots, f_tables, f_codeCount, f_inputSize, f_outputSize, nI n, f_columnIndex, f_symbolCount, f_groupCount, f_tableCount, f_bitBase, f_bitPlace, a_input, a_output, a_held, a_checks, a_packed, a_block, cl', a_ranks, a_otherRanks, a_links, a_starts, a_order, a_shifted, a_classes, a_nextClasses, a_buckets, l', a_symbols, a_selectors, a_lengths, a_codes, a_lengthCounts, a_sorted, a_weights, a_parents, a_depths)) :
    ∀ d r k (l' cl' : Nat → Int32), r + d = n → d < k → (∀ q, q < r → cl' q = nI (c q)) → (∀ j, j < A → l' j = nI (mt_l pl r j)) →
    wX_unrankColumn_10 post k (nI r) f_capacity (nI A) f_slots f_tables f_codeCount f_inputSize f_outputSize (nI n) f_columnIndex f_symbolCount f_groupCount f_tableCount f_bitBase f_bitPlace a_input a_output a_held a_checks a_packed a_block cl' a_ranks a_otherRanks a_links a_starts a_order a_shifted a_classes a_nextClasses a_buckets l' a_symbols a_selectors a_lengths a_codes a_lengthCounts a_sorted a_weights a_parents a_depths := by
  intro d
  induction d with
  | zero =>
    intro r k l' cl' hr' hk hq hl
    obtain ⟨k, rfl⟩ : ∃ q, k = q + 1 := ⟨k - 1, by omega⟩
    have e : r = n := by omega
    subst e
    exact br_t (nI_le (Nat.le_refl r) (by omega)) (K l' cl' hq)
  | succ d ih =>
    intro r k l' cl' hr' hk hq hl
    obtain ⟨k, rfl⟩ : ∃ q, k = q + 1 := ⟨k - 1, by omega⟩
    have hm := hM r (by omega)
    refine br_f (nI_ge (by omega) (by omega)) ⟨vp_in_nI (by omega) (by omega), ?_⟩
    rw [wk_c (i := r) (by omega), hr r (by omega)]
    refine xw_btf (by omega) ⟨vp_in_nI (by omega) (by omega), nm_e (nm_r (nI_1 r) ?_)⟩
    refine ih (r + 1) k _ _ (by omega) (by omega) (fun q hqr => ?_) ?_
    · by_cases z : q = r
      · subst z; rw [pk_us, hl _ hm.1, hm.2]
      · rw [pk_un z]; exact hq q (by omega)
    · rw [mt_ls]; exact wk_mfh hl hm.1
theorem xw_unrank {post : SX → Prop} {n A : Nat} {c pl : Nat → Nat} (hn : n ≤ 48) (hA : A ≤ 16) (hM : mt_M A n c pl) (hr : ∀ i, i < n → a_ranks i = nI (pl i))
    (K : ∀ (l' cl' : Nat → Int32), (∀ r, r < n → cl' r = nI (c r)) → post (f_capacity, nI A, f_slots, f_tables, f_codeCount, f_inputSize, f_outputSize, nI n, f_columnIndex, f_symbolCount, f_groupCount, f_tableCount, f_bitBase, f_bitPlace, a_input, a_output, a_held, a_checks, a_packed, a_block, cl', a_ranks, a_otherRanks, a_links, a_starts, a_order, a_shifted, a_classes, a_nextClasses, a_buckets, l', a_symbols, a_selectors, a_lengths, a_codes, a_lengthCounts, a_sorted, a_weights, a_parents, a_depths)) : wpX_unrankColumn post (f_capacity, nI A, f_slots, f_tables, f_codeCount, f_inputSize, f_outputSize, nI n, f_columnIndex, f_symbolCount, f_groupCount, f_tableCount, f_bitBase, f_bitPlace, a_input, a_output, a_held, a_checks, a_packed, a_block, a_column, a_ranks, a_otherRanks, a_links, a_starts, a_order, a_shifted, a_classes, a_nextClasses, a_buckets, a_list, a_symbols, a_selectors, a_lengths, a_codes, a_lengthCounts, a_sorted, a_weights, a_parents, a_depths) :=
  xw_reset hA ⟨n + 1, xw_ur10 hn hA hM hr K n 0 (n + 1) _ _ (by omega) (by omega) (fun q hq => by omega) (fun j hj => wk_ovl hj)⟩
end
end
section
/-! runs: from ranks to symbols and back -/
theorem wk_half {l : Nat} (h : 1 ≤ l) (hl : l < 2 ^ 31) : (nI l - 1) >>> ((1 : Int32) &&& 31) = nI ((l - 1) / 2) := by
  have e : nI l - 1 = nI (l - 1) := pk_sub (b := 1) h
  rw [e, pk_shrN (by omega) _ 1 (by decide)]
theorem wk_par {l : Nat} (hl : l < 2 ^ 31) : nI l &&& 1 = nI (l % 2) := pk_andN (by omega) 1 (by decide)
theorem wk_shr3 {l : Nat} (hl : l < 2 ^ 31) : nI l >>> ((3 : Int32) &&& 31) = nI (l / 8) := pk_shrN hl _ 3 (by decide)
theorem ru_ar1 (t w : Nat) : t * (2 * w) + w = (2 * t + 1) * w := by
  rw [Nat.add_mul, Nat.one_mul, Nat.mul_assoc, Nat.mul_left_comm]
theorem ru_ar2 (t w : Nat) : t * (2 * w) + 2 * w = (2 * t + 2) * w := by
  rw [Nat.add_mul, Nat.mul_assoc, Nat.mul_left_comm]
theorem ru_ub {z y : Nat → Nat} {y' : Nat → Int32} {sc d Y : Nat} (hy : ∀ q, q < sc → y' q = nI (y q) ∧ y q < Y) (hz : z = fun q => if q = sc then d else y q) (hd : d < Y) : ∀ q, q < sc + 1 → upd y' sc (nI d) q = nI (z q) ∧ z q < Y := by
  intro q hq
  subst hz
  dsimp only
  by_cases e : q = sc
  · subst e; rw [pk_us, if_pos rfl]; exact ⟨rfl, hd⟩
  · rw [pk_un e, if_neg e]; exact hy q (by omega)
section
variable {f_capacity f_alphabet f_slots f_tables f_codeCount f_inputSize f_outputSize f_blockLength f_columnIndex f_symbolCount f_groupCount f_tableCount f_bitBase f_bitPlace : Int32} {a_input a_output a_held a_checks a_packed a_block a_column a_ranks a_otherRanks a_links a_starts a_order a_shifted a_classes a_nextClasses a_buckets a_list a_symbols a_selectors a_lengths a_codes a_lengthCounts a_sorted a_weights a_parents a_depths : Nat → Int32}
theorem xw_em26 {post : SX → Prop} {J : Int32 → Int32 → (Nat → Int32) → (Nat → Int32) → (Nat → Int32) → (Nat → Int32) → (Nat → Int32) → (Nat → Int32) → (Nat → Int32) → (Nat → Int32) → (Nat → Int32) → (Nat → Int32) → (Nat → Int32) → (Nat → Int32) → (Nat → Int32) → (Nat → Int32) → (Nat → Int32) → (Nat → Int32) → (Nat → Int32) → (Nat → Int32) → (Nat → Int32) → (Nat → Int32) → (Nat → Int32) → (Nat → Int32) → (Nat → Int32) → (Nat → Int32) → (Nat → Int32) → (Nat → Int32) → Prop}
    {l sc d : Nat} (hl : 1 ≤ l) (hl2 : l < 2 ^ 31) (hsc : sc < 48) (h : J (nI ((l - 1) / 2)) (nI (sc + 1)) a_input a_output a_held a_checks a_packed a_block a_column a_ranks a_otherRanks a_links a_starts a_order a_shifted a_classes a_nextClasses a_buckets a_list (upd a_symbols sc (nI d)) a_selectors a_lengths a_codes a_lengthCounts a_sorted a_weights a_parents a_depths) : wX_emitRun_26 post J (nI l) (nI d) (nI sc) f_capacity f_alphabet f_slots f_tables f_codeCount f_inputSize f_outputSize f_blockLength f_columnIndex (nI sc) f_groupCount f_tableCount f_bitBase f_bitPlace a_input a_output a_held a_checks a_packed a_block a_column a_ranks a_otherRanks a_links a_starts a_order a_shifted a_classes a_nextClasses a_buckets a_list a_symbols a_selectors a_lengths a_codes a_lengthCounts a_sorted a_weights a_parents a_depths := by
  unfold wX_emitRun_26
  rw [wk_c (i := sc) (by omega)]
  exact ⟨vp_in_nI hsc (by omega), nm_e (nm_r (nI_1 sc) (nm_r (wk_half hl hl2) h))⟩
theorem xw_em2 {post : SX → Prop} {e Y : Nat} {rk : Nat → Nat} (he : e ≤ 48) (hY : 2 ≤ Y)
    (K : ∀ (sc : Nat) (y : Nat → Nat) (y' : Nat → Int32), (∀ q, q < sc → y' q = nI (y q) ∧ y q < Y) → ru_Q rk y sc → ru_a y sc = e → post (f_capacity, f_alphabet, f_slots, f_tables, f_codeCount, f_inputSize, f_outputSize, f_blockLength, f_columnIndex, nI sc, f_groupCount, f_tableCount, f_bitBase, f_bitPlace, a_input, a_output, a_held, a_checks, a_packed, a_block, a_column, a_ranks, a_otherRanks, a_links, a_starts, a_order, a_shifted, a_classes, a_nextClasses, a_buckets, a_list, y', a_selectors, a_lengths, a_codes, a_lengthCounts, a_sorted, a_weights, a_parents, a_depths)) :
    ∀ m k l sc (y : Nat → Nat) (y' : Nat → Int32), l ≤ m → m < k → (∀ q, q < sc → y' q = nI (y q) ∧ y q < Y) → ru_Q rk y sc → ru_a y sc + l * ru_w y sc = e → (∀ i, ru_a y sc ≤ i → i < e → rk i = 0) →
    wX_emitRun_2 post f_capacity f_alphabet f_slots f_tables f_codeCount f_inputSize f_outputSize f_blockLength f_columnIndex f_groupCount f_tableCount f_bitBase f_bitPlace k (nI l) (nI sc) a_input a_output a_held a_checks a_packed a_block a_column a_ranks a_otherRanks a_links a_starts a_order a_shifted a_classes a_nextClasses a_buckets a_list y' a_selectors a_lengths a_codes a_lengthCounts a_sorted a_weights a_parents a_depths := by
  intro m
  induction m with
  | zero =>
    intro k l sc y y' hl hk hy hQ ha hz
    obtain ⟨k, rfl⟩ : ∃ q, k = q + 1 := ⟨k - 1, by omega⟩
    have e0 : l = 0 := by omega
    subst e0
    exact br_t (nI_le (a := 0) (b := 0) (by omega) (by omega)) (K sc y y' hy hQ (by omega))
  | succ m ih =>
    intro k l sc y y' hl hk hy hQ ha hz
    obtain ⟨k, rfl⟩ : ∃ q, k = q + 1 := ⟨k - 1, by omega⟩
    rcases Nat.eq_zero_or_pos l with h0 | h0
    · subst h0
      exact br_t (nI_le (a := 0) (b := 0) (by omega) (by omega)) (K sc y y' hy hQ (by omega))
    · have hw := ru_wp y sc
      have hlw : l ≤ l * ru_w y sc := Nat.le_mul_of_pos_right l hw
      have hsc := ru_le y sc
      refine br_f (nI_nle h0 (by omega)) ?_
      rw [wk_par (by omega)]
      refine pk_eq (l % 2) 1 (fun o => ?_) (fun o => ?_)
      · have hl2 : l = 2 * ((l - 1) / 2) + 1 := by omega
        have ar := ru_ar1 ((l - 1) / 2) (ru_w y sc)
        rw [← hl2] at ar
        refine xw_em26 (d := 0) h0 (by omega) (by omega) ?_
        have h := ru_lo (rk := rk) (y := y) (z := fun q => if q = sc then 0 else y q) (sc := sc) (d := 0) (fun q hq => if_neg (by omega)) hQ (if_pos rfl) (by omega) (fun i h1 h2 => hz i h1 (by omega))
        refine ih k _ (sc + 1) (fun q => if q = sc then 0 else y q) _ (by omega) (by omega) (ru_ub hy rfl (by omega)) h.1 ?_ (fun i h1 h2 => hz i (by rw [h.2.1] at h1; omega) h2)
        rw [h.2.1, h.2.2]; omega
      · have hl2 : l = 2 * ((l - 1) / 2) + 2 := by omega
        have ar := ru_ar2 ((l - 1) / 2) (ru_w y sc)
        rw [← hl2] at ar
        refine xw_em26 (d := 1) h0 (by omega) (by omega) ?_
        have h := ru_lo (rk := rk) (y := y) (z := fun q => if q = sc then 1 else y q) (sc := sc) (d := 1) (fun q hq => if_neg (by omega)) hQ (if_pos rfl) (by omega) (fun i h1 h2 => hz i h1 (by omega))
        refine ih k _ (sc + 1) (fun q => if q = sc then 1 else y q) _ (by omega) (by omega) (ru_ub hy rfl (by omega)) h.1 ?_ (fun i h1 h2 => hz i (by rw [h.2.1] at h1; omega) h2)
        rw [h.2.1, h.2.2]; omega
theorem xw_em {post : SX → Prop} {e Y sc l : Nat} {rk y : Nat → Nat} (he : e ≤ 48) (hY : 2 ≤ Y) (hy : ∀ q, q < sc → a_symbols q = nI (y q) ∧ y q < Y) (hQ : ru_Q rk y sc) (hw : ru_w y sc = 1) (ha : ru_a y sc + l = e) (hz : ∀ i, ru_a y sc ≤ i → i < e → rk i = 0)
    (K : ∀ (sc : Nat) (y : Nat → Nat) (y' : Nat → Int32), (∀ q, q < sc → y' q = nI (y q) ∧ y q < Y) → ru_Q rk y sc → ru_a y sc = e → post (f_capacity, f_alphabet, f_slots, f_tables, f_codeCount, f_inputSize, f_outputSize, f_blockLength, f_columnIndex, nI sc, f_groupCount, f_tableCount, f_bitBase, f_bitPlace, a_input, a_output, a_held, a_checks, a_packed, a_block, a_column, a_ranks, a_otherRanks, a_links, a_starts, a_order, a_shifted, a_classes, a_nextClasses, a_buckets, a_list, y', a_selectors, a_lengths, a_codes, a_lengthCounts, a_sorted, a_weights, a_parents, a_depths)) : wpX_emitRun post (f_capacity, f_alphabet, f_slots, f_tables, f_codeCount, f_inputSize, f_outputSize, f_blockLength, f_columnIndex, nI sc, f_groupCount, f_tableCount, f_bitBase, f_bitPlace, a_input, a_output, a_held, a_checks, a_packed, a_block, a_column, a_ranks, a_otherRanks, a_links, a_starts, a_order, a_shifted, a_classes, a_nextClasses, a_buckets, a_list, a_symbols, a_selectors, a_lengths, a_codes, a_lengthCounts, a_sorted, a_weights, a_parents, a_depths) (nI l) :=
  ⟨l + 1, xw_em2 he hY K l (l + 1) l sc y _ (by omega) (by omega) hy hQ (by rw [hw]; omega) hz⟩
theorem xw_co9 {post : SX → Prop} {n A : Nat} {rk : Nat → Nat} (hn : n ≤ 48) (hA : 2 ≤ A) (hA2 : A ≤ 16) (hr : ∀ i, i < n → a_ranks i = nI (rk i) ∧ rk i < A)
    (K : ∀ (sc : Nat) (y : Nat → Nat) (y' : Nat → Int32), (∀ q, q < sc → y' q = nI (y q) ∧ y q < A + 1) → ru_Q rk y sc → ru_a y sc = n → post (f_capacity, f_alphabet, f_slots, f_tables, f_codeCount, f_inputSize, f_outputSize, nI n, f_columnIndex, nI sc, nI ((sc + 7) / 8), f_tableCount, f_bitBase, f_bitPlace, a_input, a_output, a_held, a_checks, a_packed, a_block, a_column, a_ranks, a_otherRanks, a_links, a_starts, a_order, a_shifted, a_classes, a_nextClasses, a_buckets, a_list, y', a_selectors, a_lengths, a_codes, a_lengthCounts, a_sorted, a_weights, a_parents, a_depths)) :
    ∀ d r k l sc (y : Nat → Nat) (y' : Nat → Int32), r + d = n → d < k → (∀ q, q < sc → y' q = nI (y q) ∧ y q < A + 1) → ru_Q rk y sc → ru_w y sc = 1 → ru_a y sc + l = r → (∀ i, ru_a y sc ≤ i → i < r → rk i = 0) →
    wX_collectSymbols_9 post k (nI l) (nI r) f_capacity f_alphabet f_slots f_tables f_codeCount f_inputSize f_outputSize (nI n) f_columnIndex (nI sc) f_groupCount f_tableCount f_bitBase f_bitPlace a_input a_output a_held a_checks a_packed a_block a_column a_ranks a_otherRanks a_links a_starts a_order a_shifted a_classes a_nextClasses a_buckets a_list y' a_selectors a_lengths a_codes a_lengthCounts a_sorted a_weights a_parents a_depths := by
  intro d
  induction d with
  | zero =>
    intro r k l sc y y' hd hk hy hQ hw ha hz
    obtain ⟨k, rfl⟩ : ∃ q, k = q + 1 := ⟨k - 1, by omega⟩
    have e : r = n := by omega
    subst e
    refine br_t (nI_le (Nat.le_refl r) (by omega)) (xw_em (Y := A + 1) hn (by omega) hy hQ hw ha hz (fun sc2 y2 y3 h1 h2 h3 => nm_r (e' := nI ((sc2 + 7) / 8)) ?_ (K sc2 y2 y3 h1 h2 h3)))
    have := ru_le y2 sc2
    have e7 : nI sc2 + 7 = nI (sc2 + 7) := nI_add sc2 7
    rw [e7, wk_shr3 (by omega)]
  | succ d ih =>
    intro r k l sc y y' hd hk hy hQ hw ha hz
    obtain ⟨k, rfl⟩ : ∃ q, k = q + 1 := ⟨k - 1, by omega⟩
    have hrr := hr r (by omega)
    refine br_f (nI_ge (by omega) (by omega)) ⟨vp_in_nI (by omega) (by omega), ?_⟩
    rw [wk_c (i := r) (by omega), hrr.1]
    refine pk_eq (rk r) 0 (fun z => ?_) (fun z => ?_)
    · refine nm_r (nI_1 l) (nm_r (nI_1 r) (ih (r + 1) k (l + 1) sc y y' (by omega) (by omega) hy hQ hw (by omega) (fun i h1 h2 => ?_)))
      by_cases e : i = r
      · subst e; exact z
      · exact hz i h1 (by omega)
    · refine xw_em (Y := A + 1) (e := r) (by omega) (by omega) hy hQ hw ha hz (fun sc2 y2 y3 h1 h2 h3 => ?_)
      have hle := ru_le y2 sc2
      refine ⟨vp_in_nI (by omega) (by omega), vp_in_nI (by omega) (by omega), ?_⟩
      rw [wk_c (i := sc2) (by omega), hrr.1, nI_1 (rk r)]
      refine nm_e (nm_r (nI_1 sc2) (nm_r (nI_1 r) ?_))
      have h := ru_hi (rk := rk) (y := y2) (z := fun q => if q = sc2 then rk r + 1 else y2 q) (sc := sc2) (fun q hq => if_neg (by omega)) h2 (by rw [h3]; exact if_pos rfl) (by rw [h3]; exact z)
      exact ih (r + 1) k 0 (sc2 + 1) (fun q => if q = sc2 then rk r + 1 else y2 q) _ (by omega) (by omega) (ru_ub h1 rfl (by omega)) h.1 h.2.2 (by rw [h.2.1]; omega) (fun i g1 g2 => by rw [h.2.1] at g1; omega)
theorem xw_collect {post : SX → Prop} {n A : Nat} {rk : Nat → Nat} (hn : n ≤ 48) (hA : 2 ≤ A) (hA2 : A ≤ 16) (hr : ∀ i, i < n → a_ranks i = nI (rk i) ∧ rk i < A)
    (K : ∀ (sc : Nat) (y : Nat → Nat) (y' : Nat → Int32), (∀ q, q < sc → y' q = nI (y q) ∧ y q < A + 1) → ru_Q rk y sc → ru_a y sc = n → post (f_capacity, f_alphabet, f_slots, f_tables, f_codeCount, f_inputSize, f_outputSize, nI n, f_columnIndex, nI sc, nI ((sc + 7) / 8), f_tableCount, f_bitBase, f_bitPlace, a_input, a_output, a_held, a_checks, a_packed, a_block, a_column, a_ranks, a_otherRanks, a_links, a_starts, a_order, a_shifted, a_classes, a_nextClasses, a_buckets, a_list, y', a_selectors, a_lengths, a_codes, a_lengthCounts, a_sorted, a_weights, a_parents, a_depths)) : wpX_collectSymbols post (f_capacity, f_alphabet, f_slots, f_tables, f_codeCount, f_inputSize, f_outputSize, nI n, f_columnIndex, f_symbolCount, f_groupCount, f_tableCount, f_bitBase, f_bitPlace, a_input, a_output, a_held, a_checks, a_packed, a_block, a_column, a_ranks, a_otherRanks, a_links, a_starts, a_order, a_shifted, a_classes, a_nextClasses, a_buckets, a_list, a_symbols, a_selectors, a_lengths, a_codes, a_lengthCounts, a_sorted, a_weights, a_parents, a_depths) :=
  ⟨n + 1, xw_co9 hn hA hA2 hr K n 0 (n + 1) 0 0 (fun _ => 0) _ (by omega) (by omega) (fun q hq => by omega) (fun q hq => by omega) rfl rfl (fun i h1 h2 => by omega)⟩
theorem xw_ex47 {post : SX → Prop} {J : Int32 → Int32 → Int32 → (Nat → Int32) → (Nat → Int32) → (Nat → Int32) → (Nat → Int32) → (Nat → Int32) → (Nat → Int32) → (Nat → Int32) → (Nat → Int32) → (Nat → Int32) → (Nat → Int32) → (Nat → Int32) → (Nat → Int32) → (Nat → Int32) → (Nat → Int32) → (Nat → Int32) → (Nat → Int32) → (Nat → Int32) → (Nat → Int32) → (Nat → Int32) → (Nat → Int32) → (Nat → Int32) → (Nat → Int32) → (Nat → Int32) → (Nat → Int32) → (Nat → Int32) → (Nat → Int32) → Prop}
    {n sc w s a z0 : Nat} {rk : Nat → Nat} (hn : n ≤ 48) (haz : a + z0 ≤ n) (hz : ∀ i, a ≤ i → i < a + z0 → rk i = 0)
    (K : ∀ rk' : Nat → Int32, (∀ i, i < a + z0 → rk' i = nI (rk i)) → J (nI (a + z0)) (nI (2 * w)) (nI (s + 1)) a_input a_output a_held a_checks a_packed a_block a_column rk' a_otherRanks a_links a_starts a_order a_shifted a_classes a_nextClasses a_buckets a_list a_symbols a_selectors a_lengths a_codes a_lengthCounts a_sorted a_weights a_parents a_depths) :
    ∀ d z k rk', z + d = z0 → d < k → (∀ i, i < a + z → rk' i = nI (rk i)) → wX_expandSymbols_47 post J (nI w) (nI s) (nI z0) f_capacity f_alphabet f_slots f_tables f_codeCount f_inputSize f_outputSize (nI n) f_columnIndex (nI sc) f_groupCount f_tableCount f_bitBase f_bitPlace k (nI (a + z)) (nI z) a_input a_output a_held a_checks a_packed a_block a_column rk' a_otherRanks a_links a_starts a_order a_shifted a_classes a_nextClasses a_buckets a_list a_symbols a_selectors a_lengths a_codes a_lengthCounts a_sorted a_weights a_parents a_depths := by
  intro d
  induction d with
  | zero =>
    intro z k rk' hd hk hr
    obtain ⟨k, rfl⟩ : ∃ q, k = q + 1 := ⟨k - 1, by omega⟩
    have e : z = z0 := by omega
    subst e
    exact br_t (nI_le (Nat.le_refl z) (by omega)) (nm_r (e' := nI (2 * w)) (by rw [nI_add]; congr 1; omega) (nm_r (nI_1 s) (K rk' hr)))
  | succ d ih =>
    intro z k rk' hd hk hr
    obtain ⟨k, rfl⟩ : ∃ q, k = q + 1 := ⟨k - 1, by omega⟩
    refine br_f (nI_ge (by omega) (by omega)) (br_f (nI_ge (by omega) (by omega)) ⟨vp_in_nI (by omega) (by omega), ?_⟩)
    rw [wk_c (i := a + z) (by omega)]
    refine nm_e (nm_r (nI_1 (a + z)) (nm_r (nI_1 z) (ih (z + 1) k _ (by omega) (by omega) (fun i hi => ?_))))
    by_cases e : i = a + z
    · subst e; rw [pk_us, hz _ (by omega) (by omega)]; rfl
    · rw [pk_un e]; exact hr i (by omega)
theorem xw_ex6 {post : SX → Prop} {n sc : Nat} {rk y : Nat → Nat} (hn : n ≤ 48) (hy : ∀ q, q < sc → a_symbols q = nI (y q) ∧ y q < 17) (hQ : ru_Q rk y sc) (ha : ru_a y sc = n)
    (K : ∀ rk' : Nat → Int32, (∀ i, i < n → rk' i = nI (rk i)) → post (f_capacity, f_alphabet, f_slots, f_tables, f_codeCount, f_inputSize, f_outputSize, nI n, f_columnIndex, nI sc, f_groupCount, f_tableCount, f_bitBase, f_bitPlace, a_input, a_output, a_held, a_checks, a_packed, a_block, a_column, rk', a_otherRanks, a_links, a_starts, a_order, a_shifted, a_classes, a_nextClasses, a_buckets, a_list, a_symbols, a_selectors, a_lengths, a_codes, a_lengthCounts, a_sorted, a_weights, a_parents, a_depths)) :
    ∀ d s k rk', s + d = sc → d < k → (∀ i, i < ru_a y s → rk' i = nI (rk i)) → wX_expandSymbols_6 post f_capacity f_alphabet f_slots f_tables f_codeCount f_inputSize f_outputSize (nI n) f_columnIndex (nI sc) f_groupCount f_tableCount f_bitBase f_bitPlace k (nI (ru_a y s)) (nI (ru_w y s)) (nI s) a_input a_output a_held a_checks a_packed a_block a_column rk' a_otherRanks a_links a_starts a_order a_shifted a_classes a_nextClasses a_buckets a_list a_symbols a_selectors a_lengths a_codes a_lengthCounts a_sorted a_weights a_parents a_depths := by
  have hsc := ru_le y sc
  intro d
  induction d with
  | zero =>
    intro s k rk' hd hk hr
    obtain ⟨k, rfl⟩ : ∃ q, k = q + 1 := ⟨k - 1, by omega⟩
    have e : s = sc := by omega
    subst e
    rw [ha] at hr
    exact br_t (nI_le (Nat.le_refl s) (by omega)) (K rk' hr)
  | succ d ih =>
    intro s k rk' hd hk hr
    obtain ⟨k, rfl⟩ : ∃ q, k = q + 1 := ⟨k - 1, by omega⟩
    have hys := hy s (by omega)
    have hq := hQ s (by omega)
    have hm := ru_mono y (s + 1) (sc - (s + 1))
    have em : s + 1 + (sc - (s + 1)) = sc := by omega
    rw [em, ha] at hm
    have hinc := ru_inc y s
    refine br_f (nI_ge (by omega) (by omega)) (br_f (nI_ge (by omega) (by omega)) ⟨vp_in_nI (by omega) (by omega), nm_r (e' := nI (y s)) (by rw [wk_c (by omega)]; exact hys.1) (pk_le 2 (y s) (fun h2 => ?_) (fun h2 => ?_))⟩)
    · have h2' : ¬ y s < 2 := by omega
      have e1 : nI (y s) - 1 = nI (y s - 1) := pk_sub (b := 1) (by omega)
      rw [wk_c (i := ru_a y s) (by omega), e1]
      have ea := ru_ah h2'
      have ew := ru_wh h2'
      refine ⟨vp_in_nI (by omega) (by omega), nm_e (nm_r (e' := nI (ru_a y (s + 1))) (by rw [ea]; exact nI_1 _) (nm_r (nI_1 s) ?_))⟩
      have h := ih (s + 1) k (upd rk' (ru_a y s) (nI (y s - 1))) (by omega) (by omega) (fun i hi => ?_)
      · rw [ew] at h; exact h
      · by_cases e : i = ru_a y s
        · subst e; rw [pk_us, hq.2 h2']
        · rw [pk_un e]; exact hr i (by omega)
    · have ea := ru_al h2
      have ew := ru_wl h2
      refine nm_r (e' := nI ((y s + 1) * ru_w y s)) (by rw [nI_1, pk_mul]) ⟨(y s + 1) * ru_w y s + 1, ?_⟩
      refine xw_ex47 (rk := rk) hn (a := ru_a y s) (z0 := (y s + 1) * ru_w y s) (by omega) (fun i h1 h3 => hq.1 h2 i h1 (by omega)) (fun r2 h => ?_) _ 0 _ _ (Nat.zero_add _) (by omega) (fun i hi => hr i (by omega))
      rw [← ea] at h
      rw [← ea, ← ew]
      exact ih (s + 1) k r2 (by omega) (by omega) h
theorem xw_expand {post : SX → Prop} {n sc : Nat} {rk y : Nat → Nat} (hn : n ≤ 48) (hy : ∀ q, q < sc → a_symbols q = nI (y q) ∧ y q < 17) (hQ : ru_Q rk y sc) (ha : ru_a y sc = n)
    (K : ∀ rk' : Nat → Int32, (∀ i, i < n → rk' i = nI (rk i)) → post (f_capacity, f_alphabet, f_slots, f_tables, f_codeCount, f_inputSize, f_outputSize, nI n, f_columnIndex, nI sc, f_groupCount, f_tableCount, f_bitBase, f_bitPlace, a_input, a_output, a_held, a_checks, a_packed, a_block, a_column, rk', a_otherRanks, a_links, a_starts, a_order, a_shifted, a_classes, a_nextClasses, a_buckets, a_list, a_symbols, a_selectors, a_lengths, a_codes, a_lengthCounts, a_sorted, a_weights, a_parents, a_depths)) : wpX_expandSymbols post (f_capacity, f_alphabet, f_slots, f_tables, f_codeCount, f_inputSize, f_outputSize, nI n, f_columnIndex, nI sc, f_groupCount, f_tableCount, f_bitBase, f_bitPlace, a_input, a_output, a_held, a_checks, a_packed, a_block, a_column, a_ranks, a_otherRanks, a_links, a_starts, a_order, a_shifted, a_classes, a_nextClasses, a_buckets, a_list, a_symbols, a_selectors, a_lengths, a_codes, a_lengthCounts, a_sorted, a_weights, a_parents, a_depths) :=
  ⟨sc + 1, xw_ex6 hn hy hQ ha K sc 0 (sc + 1) _ (by omega) (by omega) (fun i hi => by rw [ru_a0] at hi; omega)⟩
end
end
section
/-! weights, the tree of merges, lengths -/
theorem hu_root {cc : Nat} {par : Nat → Nat} (h2 : 2 ≤ cc) (T : hu_T cc (2 * cc - 1) par) : ∀ v, v < 2 * cc - 2 → v < par v ∧ par v ≤ 2 * cc - 2 := by
  obtain ⟨h1, hk, h3, h4⟩ := T
  have h4 := h4 (by omega)
  have e4 : 2 * cc - 1 - 1 = 2 * cc - 2 := by omega
  rw [e4] at h4
  intro v hv
  rcases h1 v (by omega) with g | g
  · exfalso
    have u := hu_two (N := 2 * cc - 1) (a := v) (p := fun v => par v = 0) (by omega) g
    have w := ca_cpos (p := fun w => par w = 0 ∧ w ≠ v) (n := 2 * cc - 1) (k := 2 * cc - 2) (by omega) ⟨h4, by omega⟩
    omega
  · omega
theorem wk_nm1 {b : Nat} (h : b < 2 ^ 31) : nI b ≠ -1 := by
  intro e
  have h1 : (nI b).toInt = (-1 : Int32).toInt := by rw [e]
  rw [nI_toInt h] at h1
  have h2 : (-1 : Int32).toInt = -1 := by decide
  rw [h2] at h1
  omega
section
variable {f_capacity f_alphabet f_slots f_tables f_codeCount f_inputSize f_outputSize f_blockLength f_columnIndex f_symbolCount f_groupCount f_tableCount f_bitBase f_bitPlace : Int32} {a_input a_output a_held a_checks a_packed a_block a_column a_ranks a_otherRanks a_links a_starts a_order a_shifted a_classes a_nextClasses a_buckets a_list a_symbols a_selectors a_lengths a_codes a_lengthCounts a_sorted a_weights a_parents a_depths : Nat → Int32}
theorem xw_we25 {post : SX → Prop} {cc sc : Nat} {x1 : Int32} {y : Nat → Nat} (hsc : sc ≤ 48) (hy : ∀ q, q < sc → a_symbols q = nI (y q) ∧ y q < 17) (K : ∀ w', post (f_capacity, f_alphabet, f_slots, f_tables, nI cc, f_inputSize, f_outputSize, f_blockLength, f_columnIndex, nI sc, f_groupCount, f_tableCount, f_bitBase, f_bitPlace, a_input, a_output, a_held, a_checks, a_packed, a_block, a_column, a_ranks, a_otherRanks, a_links, a_starts, a_order, a_shifted, a_classes, a_nextClasses, a_buckets, a_list, a_symbols, a_selectors, a_lengths, a_codes, a_lengthCounts, a_sorted, w', a_parents, a_depths)) :
    ∀ d s k w', s + d = sc → d < k → wX_weighSymbols_25 post x1 f_capacity f_alphabet f_slots f_tables (nI cc) f_inputSize f_outputSize f_blockLength f_columnIndex (nI sc) f_groupCount f_tableCount f_bitBase f_bitPlace k (nI s) a_input a_output a_held a_checks a_packed a_block a_column a_ranks a_otherRanks a_links a_starts a_order a_shifted a_classes a_nextClasses a_buckets a_list a_symbols a_selectors a_lengths a_codes a_lengthCounts a_sorted w' a_parents a_depths := by
  intro d
  induction d with
  | zero =>
    intro s k w' hd hk
    obtain ⟨k, rfl⟩ : ∃ q, k = q + 1 := ⟨k - 1, by omega⟩
    exact br_t (nI_le (by omega) (by omega)) (K w')
  | succ d ih =>
    intro s k w' hd hk
    obtain ⟨k, rfl⟩ : ∃ q, k = q + 1 := ⟨k - 1, by omega⟩
    have hys := hy s (by omega)
    refine br_f (nI_ge (by omega) (by omega)) ?_
    rw [wk_shr3 (l := s) (by omega), wk_c (i := s) (by omega), hys.1]
    exact ⟨vp_in_nI (by omega) (by omega), br_c (fun _ => ⟨vp_in_nI (by omega) (by omega), vp_in_nI (by omega) (by omega), vp_in_nI (by omega) (by omega), nm_e (nm_r (nI_1 s) (ih (s + 1) k _ (by omega) (by omega)))⟩) (fun _ => nm_r (nI_1 s) (ih (s + 1) k _ (by omega) (by omega)))⟩
theorem xw_weigh {post : SX → Prop} {cc sc : Nat} {x1 : Int32} {y : Nat → Nat} (hcc : cc ≤ 17) (hsc : sc ≤ 48) (hy : ∀ q, q < sc → a_symbols q = nI (y q) ∧ y q < 17) (K : ∀ w', post (f_capacity, f_alphabet, f_slots, f_tables, nI cc, f_inputSize, f_outputSize, f_blockLength, f_columnIndex, nI sc, f_groupCount, f_tableCount, f_bitBase, f_bitPlace, a_input, a_output, a_held, a_checks, a_packed, a_block, a_column, a_ranks, a_otherRanks, a_links, a_starts, a_order, a_shifted, a_classes, a_nextClasses, a_buckets, a_list, a_symbols, a_selectors, a_lengths, a_codes, a_lengthCounts, a_sorted, w', a_parents, a_depths)) : wpX_weighSymbols post (f_capacity, f_alphabet, f_slots, f_tables, nI cc, f_inputSize, f_outputSize, f_blockLength, f_columnIndex, nI sc, f_groupCount, f_tableCount, f_bitBase, f_bitPlace, a_input, a_output, a_held, a_checks, a_packed, a_block, a_column, a_ranks, a_otherRanks, a_links, a_starts, a_order, a_shifted, a_classes, a_nextClasses, a_buckets, a_list, a_symbols, a_selectors, a_lengths, a_codes, a_lengthCounts, a_sorted, a_weights, a_parents, a_depths) x1 := by
  refine wk_cp (fun k i b => wX_weighSymbols_2 post x1 f_capacity f_alphabet f_slots f_tables (nI cc) f_inputSize f_outputSize f_blockLength f_columnIndex (nI sc) f_groupCount f_tableCount f_bitBase f_bitPlace k (nI i) a_input a_output a_held a_checks a_packed a_block a_column a_ranks a_otherRanks a_links a_starts a_order a_shifted a_classes a_nextClasses a_buckets a_list a_symbols a_selectors a_lengths a_codes a_lengthCounts a_sorted b a_parents a_depths) (fun _ => 1) a_weights cc ?_ ?_
  · intro k; exact br_t (nI_le (Nat.le_refl cc) (by omega)) ⟨sc + 1, xw_we25 hsc hy K sc 0 (sc + 1) _ (by omega) (by omega)⟩
  · intro k i hi ih
    exact br_f (nI_ge hi (by omega)) ⟨vp_in_nI (by omega) (by omega), nm_r (by rw [wk_c (by omega)]; exact wk_ovs i (fun _ => 1) a_weights) (nm_r (nI_1 i) ih)⟩
theorem xw_lo5 {post : Int32 → Prop} {N : Nat} {ex : Int32} {par : Nat → Nat} (hN : N ≤ 33) (hp : ∀ v, v < N → a_parents v = nI (par v) ∧ par v < 2 ^ 31) (hex : ∃ v, v < N ∧ par v = 0 ∧ nI v ≠ ex)
    (K : ∀ b, b < N → par b = 0 → nI b ≠ ex → post (nI b)) :
    ∀ d v k best, v + d = N → d < k → ((best = -1 ∧ ∀ u, u < v → par u = 0 → nI u = ex) ∨ (∃ b, b < N ∧ par b = 0 ∧ nI b ≠ ex ∧ best = nI b)) → wX_leastOrphan_5 post (nI N) ex f_capacity f_alphabet f_slots f_tables f_codeCount f_inputSize f_outputSize f_blockLength f_columnIndex f_symbolCount f_groupCount f_tableCount f_bitBase f_bitPlace a_input a_output a_held a_checks a_packed a_block a_column a_ranks a_otherRanks a_links a_starts a_order a_shifted a_classes a_nextClasses a_buckets a_list a_symbols a_selectors a_lengths a_codes a_lengthCounts a_sorted a_weights a_parents a_depths k best (nI v) := by
  intro d
  induction d with
  | zero =>
    intro v k best hd hk hI
    obtain ⟨k, rfl⟩ : ∃ q, k = q + 1 := ⟨k - 1, by omega⟩
    have e : v = N := by omega
    subst e
    refine br_t (nI_le (Nat.le_refl v) (by omega)) ?_
    rcases hI with ⟨h1, h2⟩ | ⟨b, h1, h2, h3, h4⟩
    · obtain ⟨u, hu, h3, h4⟩ := hex
      exact absurd (h2 u hu h3) h4
    · subst h4; exact K b h1 h2 h3
  | succ d ih =>
    intro v k best hd hk hI
    obtain ⟨k, rfl⟩ : ∃ q, k = q + 1 := ⟨k - 1, by omega⟩
    have hpv := hp v (by omega)
    have skip : ¬ (par v = 0 ∧ nI v ≠ ex) → wX_leastOrphan_5 post (nI N) ex f_capacity f_alphabet f_slots f_tables f_codeCount f_inputSize f_outputSize f_blockLength f_columnIndex f_symbolCount f_groupCount f_tableCount f_bitBase f_bitPlace a_input a_output a_held a_checks a_packed a_block a_column a_ranks a_otherRanks a_links a_starts a_order a_shifted a_classes a_nextClasses a_buckets a_list a_symbols a_selectors a_lengths a_codes a_lengthCounts a_sorted a_weights a_parents a_depths k best (nI (v + 1)) := by
      intro z
      refine ih (v + 1) k best (by omega) (by omega) ?_
      rcases hI with ⟨h1, h2⟩ | h
      · refine Or.inl ⟨h1, fun u hu h3 => ?_⟩
        by_cases e : u = v
        · subst e; exact Classical.byContradiction (fun y => z ⟨h3, y⟩)
        · exact h2 u (by omega) h3
      · exact Or.inr h
    have take : par v = 0 → nI v ≠ ex → wX_leastOrphan_5 post (nI N) ex f_capacity f_alphabet f_slots f_tables f_codeCount f_inputSize f_outputSize f_blockLength f_columnIndex f_symbolCount f_groupCount f_tableCount f_bitBase f_bitPlace a_input a_output a_held a_checks a_packed a_block a_column a_ranks a_otherRanks a_links a_starts a_order a_shifted a_classes a_nextClasses a_buckets a_list a_symbols a_selectors a_lengths a_codes a_lengthCounts a_sorted a_weights a_parents a_depths k (nI v) (nI (v + 1)) := by
      intro z1 z2
      exact ih (v + 1) k _ (by omega) (by omega) (Or.inr ⟨v, by omega, z1, z2, rfl⟩)
    refine br_f (nI_ge (by omega) (by omega)) ⟨vp_in_nI (by omega) (by omega), ?_⟩
    rw [wk_c (i := v) (by omega), hpv.1]
    refine pk_eq (par v) 0 (fun z => ?_) (fun z => nm_r (nI_1 v) (skip (fun y => z y.1))) rfl rfl hpv.2
    by_cases y : nI v = ex
    · exact br_t y (nm_r (nI_1 v) (skip (fun w => w.2 y)))
    · refine br_f y ?_
      rcases hI with ⟨h1, h2⟩ | ⟨b, h1, h2, h3, h4⟩
      · subst h1
        exact br_t (by decide) (nm_r (nI_1 v) (take z y))
      · subst h4
        refine br_f (nI_pos (by omega)) ⟨vp_in_nI (by omega) (by omega), vp_in_nI (by omega) (by omega), br_c (fun _ => nm_r (nI_1 v) ?_) (fun _ => nm_r (nI_1 v) (take z y))⟩
        exact ih (v + 1) k _ (by omega) (by omega) (Or.inr ⟨b, h1, h2, h3, rfl⟩)
theorem xw_lo {post : Int32 → Prop} {N : Nat} {ex : Int32} {par : Nat → Nat} (hN : N ≤ 33) (hp : ∀ v, v < N → a_parents v = nI (par v) ∧ par v < 2 ^ 31) (hex : ∃ v, v < N ∧ par v = 0 ∧ nI v ≠ ex)
    (K : ∀ b, b < N → par b = 0 → nI b ≠ ex → post (nI b)) : wpX_leastOrphan post (f_capacity, f_alphabet, f_slots, f_tables, f_codeCount, f_inputSize, f_outputSize, f_blockLength, f_columnIndex, f_symbolCount, f_groupCount, f_tableCount, f_bitBase, f_bitPlace, a_input, a_output, a_held, a_checks, a_packed, a_block, a_column, a_ranks, a_otherRanks, a_links, a_starts, a_order, a_shifted, a_classes, a_nextClasses, a_buckets, a_list, a_symbols, a_selectors, a_lengths, a_codes, a_lengthCounts, a_sorted, a_weights, a_parents, a_depths) (nI N) ex :=
  ⟨N + 1, xw_lo5 hN hp hex K N 0 (N + 1) _ (by omega) (by omega) (Or.inl ⟨rfl, fun u hu => by omega⟩)⟩
theorem xw_bl159 {post : SX → Prop} {cc t : Nat} {dep : Nat → Nat} (hcc : cc ≤ 17) (ht : t < 4) (hd : ∀ v, v < cc → a_depths v = nI (dep v))
    (K : ∀ le' : Nat → Int32, (∀ v, v < cc → le' (t * 17 + v) = nI (dep v)) → (∀ j, j < t * 17 ∨ t * 17 + 17 ≤ j → le' j = a_lengths j) → post (f_capacity, f_alphabet, f_slots, f_tables, nI cc, f_inputSize, f_outputSize, f_blockLength, f_columnIndex, f_symbolCount, f_groupCount, f_tableCount, f_bitBase, f_bitPlace, a_input, a_output, a_held, a_checks, a_packed, a_block, a_column, a_ranks, a_otherRanks, a_links, a_starts, a_order, a_shifted, a_classes, a_nextClasses, a_buckets, a_list, a_symbols, a_selectors, le', a_codes, a_lengthCounts, a_sorted, a_weights, a_parents, a_depths)) :
    ∀ d v k le', v + d = cc → d < k → (∀ u, u < v → le' (t * 17 + u) = nI (dep u)) → (∀ j, j < t * 17 ∨ t * 17 + 17 ≤ j → le' j = a_lengths j) → wX_buildLengths_159 post (nI t) f_capacity f_alphabet f_slots f_tables (nI cc) f_inputSize f_outputSize f_blockLength f_columnIndex f_symbolCount f_groupCount f_tableCount f_bitBase f_bitPlace k (nI v) a_input a_output a_held a_checks a_packed a_block a_column a_ranks a_otherRanks a_links a_starts a_order a_shifted a_classes a_nextClasses a_buckets a_list a_symbols a_selectors le' a_codes a_lengthCounts a_sorted a_weights a_parents a_depths := by
  intro d
  induction d with
  | zero =>
    intro v k le' hdv hk h1 h2
    obtain ⟨k, rfl⟩ : ∃ q, k = q + 1 := ⟨k - 1, by omega⟩
    have e : v = cc := by omega
    subst e
    exact br_t (nI_le (Nat.le_refl v) (by omega)) (K le' h1 h2)
  | succ d ih =>
    intro v k le' hdv hk h1 h2
    obtain ⟨k, rfl⟩ : ∃ q, k = q + 1 := ⟨k - 1, by omega⟩
    have e : nI t * 17 + nI v = nI (t * 17 + v) := by
      show nI t * nI 17 + nI v = _
      rw [pk_mul, nI_add]
    refine br_f (nI_ge (by omega) (by omega)) ?_
    rw [e, wk_c (i := t * 17 + v) (by omega), wk_c (i := v) (by omega), hd v (by omega)]
    refine ⟨vp_in_nI (by omega) (by omega), vp_in_nI (by omega) (by omega), nm_e (nm_r (nI_1 v) (ih (v + 1) k _ (by omega) (by omega) (fun u hu => ?_) (fun j hj => ?_)))⟩
    · by_cases z : u = v
      · subst z; rw [pk_us]
      · rw [pk_un (by omega)]; exact h1 u (by omega)
    · rw [pk_un (by omega)]; exact h2 j hj
theorem xw_bl128 {post : SX → Prop} {cc t : Nat} {par : Nat → Nat} (hcc : cc ≤ 17) (h2 : 2 ≤ cc) (ht : t < 4) (hp : ∀ v, v < 2 * cc - 1 → a_parents v = nI (par v)) (hr : ∀ v, v < 2 * cc - 2 → v < par v ∧ par v ≤ 2 * cc - 2)
    (K : ∀ (dp' le' : Nat → Int32) (dep : Nat → Nat), dep (2 * cc - 2) = 0 → (∀ v, v < 2 * cc - 2 → dep v = dep (par v) + 1) → (∀ v, v < cc → le' (t * 17 + v) = nI (dep v)) → (∀ j, j < t * 17 ∨ t * 17 + 17 ≤ j → le' j = a_lengths j) → post (f_capacity, f_alphabet, f_slots, f_tables, nI cc, f_inputSize, f_outputSize, f_blockLength, f_columnIndex, f_symbolCount, f_groupCount, f_tableCount, f_bitBase, f_bitPlace, a_input, a_output, a_held, a_checks, a_packed, a_block, a_column, a_ranks, a_otherRanks, a_links, a_starts, a_order, a_shifted, a_classes, a_nextClasses, a_buckets, a_list, a_symbols, a_selectors, le', a_codes, a_lengthCounts, a_sorted, a_weights, a_parents, dp')) :
    ∀ d k x3 (dp' : Nat → Int32) (dep : Nat → Nat), d ≤ 2 * cc - 2 → d < k → x3 = nI d - 1 → dep (2 * cc - 2) = 0 → (∀ u, d ≤ u → u < 2 * cc - 2 → dep u = dep (par u) + 1) → (∀ u, d ≤ u → u ≤ 2 * cc - 2 → dp' u = nI (dep u)) →
    wX_buildLengths_128 post (nI t) f_capacity f_alphabet f_slots f_tables (nI cc) f_inputSize f_outputSize f_blockLength f_columnIndex f_symbolCount f_groupCount f_tableCount f_bitBase f_bitPlace k x3 a_input a_output a_held a_checks a_packed a_block a_column a_ranks a_otherRanks a_links a_starts a_order a_shifted a_classes a_nextClasses a_buckets a_list a_symbols a_selectors a_lengths a_codes a_lengthCounts a_sorted a_weights a_parents dp' := by
  intro d
  induction d with
  | zero =>
    intro k x3 dp' dep hd hk hx h0 hs hh
    obtain ⟨k, rfl⟩ : ∃ q, k = q + 1 := ⟨k - 1, by omega⟩
    subst hx
    exact br_t wk_neg ⟨cc + 1, xw_bl159 hcc ht (dep := dep) (fun v hv => hh v (by omega) (by omega)) (fun le' g1 g2 => K dp' le' dep h0 (fun v hv => hs v (by omega) hv) g1 g2) cc 0 (cc + 1) _ (by omega) (by omega) (fun u hu => by omega) (fun j _ => rfl)⟩
  | succ d ih =>
    intro k x3 dp' dep hd hk hx h0 hs hh
    obtain ⟨k, rfl⟩ : ∃ q, k = q + 1 := ⟨k - 1, by omega⟩
    rw [nI_pred] at hx
    subst hx
    have hrd := hr d (by omega)
    refine br_f (nI_pos (by omega)) ?_
    rw [wk_c (i := d) (by omega), hp d (by omega), wk_c (i := par d) (by omega), hh (par d) (by omega) hrd.2, nI_1]
    refine ⟨vp_in_nI (by omega) (by omega), vp_in_nI (by omega) (by omega), vp_in_nI (by omega) (by omega), nm_e (nm_r (wk_m1 d) ?_)⟩
    refine ih k _ _ (fun u => if u = d then dep (par d) + 1 else dep u) (by omega) (by omega) rfl ?_ (fun u g1 g2 => ?_) (fun u g1 g2 => ?_)
    · show (if 2 * cc - 2 = d then dep (par d) + 1 else dep (2 * cc - 2)) = 0
      rw [if_neg (by omega)]; exact h0
    · show (if u = d then dep (par d) + 1 else dep u) = (if par u = d then dep (par d) + 1 else dep (par u)) + 1
      have hru := hr u g2
      rw [if_neg (show ¬ par u = d by omega)]
      by_cases z : u = d
      · subst z; rw [if_pos rfl]
      · rw [if_neg z]; exact hs u (by omega) g2
    · by_cases z : u = d
      · subst z; rw [pk_us, if_pos rfl]
      · rw [pk_un z, if_neg z]; exact hh u (by omega) g2
theorem xw_bl27 {post : SX → Prop} {cc t : Nat} (hcc : cc ≤ 17) (h2 : 2 ≤ cc) (ht : t < 4)
    (K : ∀ (w' p' dp' le' : Nat → Int32) (l : Nat → Nat), hu_G l cc → (∀ v, v < cc → le' (t * 17 + v) = nI (l v)) → (∀ j, j < t * 17 ∨ t * 17 + 17 ≤ j → le' j = a_lengths j) → post (f_capacity, f_alphabet, f_slots, f_tables, nI cc, f_inputSize, f_outputSize, f_blockLength, f_columnIndex, f_symbolCount, f_groupCount, f_tableCount, f_bitBase, f_bitPlace, a_input, a_output, a_held, a_checks, a_packed, a_block, a_column, a_ranks, a_otherRanks, a_links, a_starts, a_order, a_shifted, a_classes, a_nextClasses, a_buckets, a_list, a_symbols, a_selectors, le', a_codes, a_lengthCounts, a_sorted, w', p', dp')) :
    ∀ d m k N (w' p' : Nat → Int32) (par : Nat → Nat), m + d = cc → d < k → 1 ≤ m → N + 1 = cc + m → hu_T cc N par → (∀ v, v < N → p' v = nI (par v)) → wX_buildLengths_27 post (nI t) f_capacity f_alphabet f_slots f_tables (nI cc) f_inputSize f_outputSize f_blockLength f_columnIndex f_symbolCount f_groupCount f_tableCount f_bitBase f_bitPlace k (nI N) (nI m) a_input a_output a_held a_checks a_packed a_block a_column a_ranks a_otherRanks a_links a_starts a_order a_shifted a_classes a_nextClasses a_buckets a_list a_symbols a_selectors a_lengths a_codes a_lengthCounts a_sorted w' p' a_depths := by
  intro d
  induction d with
  | zero =>
    intro m k N w' p' par hd hk hm hN T hp
    obtain ⟨k, rfl⟩ : ∃ q, k = q + 1 := ⟨k - 1, by omega⟩
    have e : N = 2 * cc - 1 := by omega
    subst e
    have e1 : nI (2 * cc - 1) - 1 = nI (2 * cc - 2) := by
      have : nI (2 * cc - 1) - nI 1 = nI (2 * cc - 1 - 1) := pk_sub (by omega)
      exact this
    have e2 : nI (2 * cc - 1) - 2 = nI (2 * cc - 2) - 1 := by
      rw [← e1]; grind
    refine br_t (nI_le (by omega) (by omega)) ?_
    rw [e1, e2, wk_c (i := 2 * cc - 2) (by omega)]
    refine ⟨vp_in_nI (by omega) (by omega), nm_e (nm_e ⟨2 * cc - 2 + 1, ?_⟩)⟩
    have hr := hu_root h2 T
    refine xw_bl128 hcc h2 ht hp hr (fun dp' le' dep g0 gs g1 g2 => K w' p' dp' le' dep (hu_kraft h2 hcc T g0 gs) g1 g2) (2 * cc - 2) _ _ _ (fun _ => 0) (by omega) (by omega) rfl rfl (fun u h1 h3 => by omega) (fun u h1 h3 => ?_)
    have e : u = 2 * cc - 2 := by omega
    subst e
    rw [pk_us]; rfl
  | succ d ih =>
    intro m k N w' p' par hd hk hm hN T hp
    obtain ⟨k, rfl⟩ : ∃ q, k = q + 1 := ⟨k - 1, by omega⟩
    have hpl : ∀ v, v < N → p' v = nI (par v) ∧ par v < 2 ^ 31 := by
      intro v hv
      refine ⟨hp v hv, ?_⟩
      rcases T.1 v hv with g | g <;> omega
    have hcnt := T.2.2.1
    refine br_f (nI_ge (by omega) (by omega)) ?_
    have ex1 : ∃ v, v < N ∧ par v = 0 ∧ nI v ≠ -1 := by
      obtain ⟨v, hv, h⟩ := ca_cex (p := fun v => par v = 0) (n := N) (by omega)
      exact ⟨v, hv, h, wk_nm1 (by omega)⟩
    refine xw_lo (par := par) (by omega) hpl ex1 (fun a ha pa _ => ?_)
    have ex2 : ∃ v, v < N ∧ par v = 0 ∧ nI v ≠ nI a := by
      have u := hu_two (N := N) (a := a) (p := fun v => par v = 0) ha pa
      obtain ⟨v, hv, h⟩ := ca_cex (p := fun v => par v = 0 ∧ v ≠ a) (n := N) (by omega)
      exact ⟨v, hv, h.1, fun z => h.2 ((nI_eq (by omega) (by omega)).mp z)⟩
    refine xw_lo (par := par) (by omega) hpl ex2 (fun b hb pb nb => ?_)
    have hab : a ≠ b := fun z => nb (by rw [z])
    refine br_f (nI_pos (by omega)) (br_f (nI_pos (by omega)) ?_)
    rw [wk_c (i := N) (by omega), wk_c (i := a) (by omega), wk_c (i := b) (by omega)]
    refine ⟨vp_in_nI (by omega) (by omega), vp_in_nI (by omega) (by omega), vp_in_nI (by omega) (by omega), nm_e ⟨vp_in_nI (by omega) (by omega), nm_e ⟨vp_in_nI (by omega) (by omega), nm_e ⟨vp_in_nI (by omega) (by omega), nm_e (nm_r (nI_1 N) (nm_r (nI_1 m) ?_))⟩⟩⟩⟩
    have T2 : hu_T cc (N + 1) (fun v => if v = b then N else if v = a then N else if v = N then 0 else par v) := by
      refine hu_Ts (by omega) (by omega) T ha hb hab pa pb ?_ (if_pos rfl) ?_ ?_
      · show (if a = b then N else if a = a then N else if a = N then 0 else par a) = N
        rw [if_neg hab, if_pos rfl]
      · show (if N = b then N else if N = a then N else if N = N then 0 else par N) = 0
        rw [if_neg (by omega), if_neg (by omega), if_pos rfl]
      · intro v hv h1 h3
        show (if v = b then N else if v = a then N else if v = N then 0 else par v) = par v
        rw [if_neg h3, if_neg h1, if_neg (by omega)]
    refine ih (m + 1) k (N + 1) _ _ _ (by omega) (by omega) (by omega) (by omega) T2 (fun v hv => ?_)
    by_cases z1 : v = b
    · subst z1; rw [pk_us, if_pos rfl]
    · rw [pk_un z1, if_neg z1]
      by_cases z2 : v = a
      · subst z2; rw [pk_us, if_pos rfl]
      · rw [pk_un z2, if_neg z2]
        by_cases z3 : v = N
        · subst z3; rw [pk_us, if_pos rfl]; rfl
        · rw [pk_un z3, if_neg z3]; exact hp v (by omega)
theorem xw_bl {post : SX → Prop} {cc t : Nat} (hcc : cc ≤ 17) (h2 : 2 ≤ cc) (ht : t < 4)
    (K : ∀ (w' p' dp' le' : Nat → Int32) (l : Nat → Nat), hu_G l cc → (∀ v, v < cc → le' (t * 17 + v) = nI (l v)) → (∀ j, j < t * 17 ∨ t * 17 + 17 ≤ j → le' j = a_lengths j) → post (f_capacity, f_alphabet, f_slots, f_tables, nI cc, f_inputSize, f_outputSize, f_blockLength, f_columnIndex, f_symbolCount, f_groupCount, f_tableCount, f_bitBase, f_bitPlace, a_input, a_output, a_held, a_checks, a_packed, a_block, a_column, a_ranks, a_otherRanks, a_links, a_starts, a_order, a_shifted, a_classes, a_nextClasses, a_buckets, a_list, a_symbols, a_selectors, le', a_codes, a_lengthCounts, a_sorted, w', p', dp')) : wpX_buildLengths post (f_capacity, f_alphabet, f_slots, f_tables, nI cc, f_inputSize, f_outputSize, f_blockLength, f_columnIndex, f_symbolCount, f_groupCount, f_tableCount, f_bitBase, f_bitPlace, a_input, a_output, a_held, a_checks, a_packed, a_block, a_column, a_ranks, a_otherRanks, a_links, a_starts, a_order, a_shifted, a_classes, a_nextClasses, a_buckets, a_list, a_symbols, a_selectors, a_lengths, a_codes, a_lengthCounts, a_sorted, a_weights, a_parents, a_depths) (nI t) := by
  refine wk_cp (fun k i b => wX_buildLengths_7 post (nI t) (nI cc) f_capacity f_alphabet f_slots f_tables (nI cc) f_inputSize f_outputSize f_blockLength f_columnIndex f_symbolCount f_groupCount f_tableCount f_bitBase f_bitPlace k (nI i) a_input a_output a_held a_checks a_packed a_block a_column a_ranks a_otherRanks a_links a_starts a_order a_shifted a_classes a_nextClasses a_buckets a_list a_symbols a_selectors a_lengths a_codes a_lengthCounts a_sorted a_weights b a_depths) (fun _ => 0) a_parents cc ?_ ?_
  · intro k
    exact br_t (nI_le (Nat.le_refl cc) (by omega)) ⟨cc, xw_bl27 hcc h2 ht K (cc - 1) 1 cc cc _ _ (fun _ => 0) (by omega) (by omega) (by omega) (by omega) (hu_T0 (fun _ _ => rfl)) (fun v hv => wk_ovl hv)⟩
  · intro k i hi ih
    exact br_f (nI_ge hi (by omega)) ⟨vp_in_nI (by omega) (by omega), nm_r (by rw [wk_c (by omega)]; exact wk_ovs i (fun _ => 0) a_parents) (nm_r (nI_1 i) ih)⟩
end
end
section
/-! tables, selectors, codes -/
def wk_tab (cc tc : Nat) (le' : Nat → Int32) (len : Nat → Nat → Nat) : Prop := ∀ t, t < tc → hu_G (len t) cc ∧ ∀ v, v < cc → le' (t * 17 + v) = nI (len t v)
def wk_sy (sc cc : Nat) (y' : Nat → Int32) (y : Nat → Nat) : Prop := ∀ q, q < sc → y' q = nI (y q) ∧ y q < cc
theorem wk_t17 (t v : Nat) : nI t * 17 + nI v = nI (t * 17 + v) := by
  show nI t * nI 17 + nI v = _
  rw [pk_mul, nI_add]
section
variable {f_capacity f_alphabet f_slots f_tables f_codeCount f_inputSize f_outputSize f_blockLength f_columnIndex f_symbolCount f_groupCount f_tableCount f_bitBase f_bitPlace : Int32} {a_input a_output a_held a_checks a_packed a_block a_column a_ranks a_otherRanks a_links a_starts a_order a_shifted a_classes a_nextClasses a_buckets a_list a_symbols a_selectors a_lengths a_codes a_lengthCounts a_sorted a_weights a_parents a_depths : Nat → Int32}
theorem xw_bt2 {post : SX → Prop} {cc sc tc : Nat} {y : Nat → Nat} (hcc : cc ≤ 17) (h2 : 2 ≤ cc) (hsc : sc ≤ 48) (htc : tc ≤ 4) (hy : wk_sy sc cc a_symbols y)
    (K : ∀ (w' p' dp' le' : Nat → Int32) (len : Nat → Nat → Nat), wk_tab cc tc le' len → post (f_capacity, f_alphabet, f_slots, f_tables, nI cc, f_inputSize, f_outputSize, f_blockLength, f_columnIndex, nI sc, f_groupCount, nI tc, f_bitBase, f_bitPlace, a_input, a_output, a_held, a_checks, a_packed, a_block, a_column, a_ranks, a_otherRanks, a_links, a_starts, a_order, a_shifted, a_classes, a_nextClasses, a_buckets, a_list, a_symbols, a_selectors, le', a_codes, a_lengthCounts, a_sorted, w', p', dp')) :
    ∀ d t k (w' p' dp' le' : Nat → Int32) (len : Nat → Nat → Nat), t + d = tc → d < k → wk_tab cc t le' len → wX_buildTables_2 post k (nI t) f_capacity f_alphabet f_slots f_tables (nI cc) f_inputSize f_outputSize f_blockLength f_columnIndex (nI sc) f_groupCount (nI tc) f_bitBase f_bitPlace a_input a_output a_held a_checks a_packed a_block a_column a_ranks a_otherRanks a_links a_starts a_order a_shifted a_classes a_nextClasses a_buckets a_list a_symbols a_selectors le' a_codes a_lengthCounts a_sorted w' p' dp' := by
  intro d
  induction d with
  | zero =>
    intro t k w' p' dp' le' len hd hk hT
    obtain ⟨k, rfl⟩ : ∃ q, k = q + 1 := ⟨k - 1, by omega⟩
    have e : t = tc := by omega
    subst e
    exact br_t (nI_le (Nat.le_refl t) (by omega)) (K w' p' dp' le' len hT)
  | succ d ih =>
    intro t k w' p' dp' le' len hd hk hT
    obtain ⟨k, rfl⟩ : ∃ q, k = q + 1 := ⟨k - 1, by omega⟩
    refine br_f (nI_ge (by omega) (by omega)) (xw_weigh hcc hsc (fun q hq => ⟨(hy q hq).1, by have := (hy q hq).2; omega⟩) (fun w2 => ?_))
    refine xw_bl hcc h2 (by omega) (fun w3 p3 dp3 le3 l hG h1 h3 => nm_r (nI_1 t) ?_)
    refine ih (t + 1) k _ _ _ _ (fun u => if u = t then l else len u) (by omega) (by omega) (fun u hu => ?_)
    by_cases e : u = t
    · subst e
      show hu_G (if u = u then l else len u) cc ∧ ∀ v, v < cc → le3 (u * 17 + v) = nI ((if u = u then l else len u) v)
      rw [if_pos rfl]; exact ⟨hG, h1⟩
    · show hu_G (if u = t then l else len u) cc ∧ ∀ v, v < cc → le3 (u * 17 + v) = nI ((if u = t then l else len u) v)
      rw [if_neg e]
      have := hT u (by omega)
      refine ⟨this.1, fun v hv => ?_⟩
      rw [h3 _ (by omega)]; exact this.2 v hv
theorem xw_bt {post : SX → Prop} {cc sc tc : Nat} {y : Nat → Nat} (hcc : cc ≤ 17) (h2 : 2 ≤ cc) (hsc : sc ≤ 48) (htc : tc ≤ 4) (hy : wk_sy sc cc a_symbols y)
    (K : ∀ (w' p' dp' le' : Nat → Int32) (len : Nat → Nat → Nat), wk_tab cc tc le' len → post (f_capacity, f_alphabet, f_slots, f_tables, nI cc, f_inputSize, f_outputSize, f_blockLength, f_columnIndex, nI sc, f_groupCount, nI tc, f_bitBase, f_bitPlace, a_input, a_output, a_held, a_checks, a_packed, a_block, a_column, a_ranks, a_otherRanks, a_links, a_starts, a_order, a_shifted, a_classes, a_nextClasses, a_buckets, a_list, a_symbols, a_selectors, le', a_codes, a_lengthCounts, a_sorted, w', p', dp')) : wpX_buildTables post (f_capacity, f_alphabet, f_slots, f_tables, nI cc, f_inputSize, f_outputSize, f_blockLength, f_columnIndex, nI sc, f_groupCount, nI tc, f_bitBase, f_bitPlace, a_input, a_output, a_held, a_checks, a_packed, a_block, a_column, a_ranks, a_otherRanks, a_links, a_starts, a_order, a_shifted, a_classes, a_nextClasses, a_buckets, a_list, a_symbols, a_selectors, a_lengths, a_codes, a_lengthCounts, a_sorted, a_weights, a_parents, a_depths) :=
  ⟨tc + 1, xw_bt2 hcc h2 hsc htc hy K tc 0 (tc + 1) _ _ _ _ (fun _ _ => 0) (by omega) (by omega) (fun t ht => by omega)⟩
theorem xw_gc12 {post : Int32 → Prop} {cc sc tc t f : Nat} {y : Nat → Nat} (hcc : cc ≤ 17) (hsc : sc ≤ 48) (ht : t < 4) (hf : f ≤ 48) (hy : wk_sy sc cc a_symbols y) (K : ∀ r, post r) :
    ∀ d s k r, s + d = f + 8 → d < k → wX_groupCost_12 post (nI t) (nI f) f_capacity f_alphabet f_slots f_tables (nI cc) f_inputSize f_outputSize f_blockLength f_columnIndex (nI sc) f_groupCount (nI tc) f_bitBase f_bitPlace a_input a_output a_held a_checks a_packed a_block a_column a_ranks a_otherRanks a_links a_starts a_order a_shifted a_classes a_nextClasses a_buckets a_list a_symbols a_selectors a_lengths a_codes a_lengthCounts a_sorted a_weights a_parents a_depths k r (nI s) := by
  have e8 : nI f + 8 = nI (f + 8) := nI_add f 8
  intro d
  induction d with
  | zero =>
    intro s k r hd hk
    obtain ⟨k, rfl⟩ : ∃ q, k = q + 1 := ⟨k - 1, by omega⟩
    refine br_t ?_ (K r)
    rw [e8]; exact nI_le (by omega) (by omega)
  | succ d ih =>
    intro s k r hd hk
    obtain ⟨k, rfl⟩ : ∃ q, k = q + 1 := ⟨k - 1, by omega⟩
    refine br_f (by rw [e8]; exact nI_ge (by omega) (by omega)) (pk_le sc s (fun _ => K r) (fun z => ?_))
    have hys := hy s (by omega)
    rw [wk_c (i := s) (by omega), hys.1, wk_t17]
    exact ⟨vp_in_nI (by omega) (by omega), vp_in_nI (by omega) (by omega), nm_e (nm_r (nI_1 s) (ih (s + 1) k _ (by omega) (by omega)))⟩
theorem xw_gc {post : Int32 → Prop} {cc sc tc g t : Nat} {y : Nat → Nat} (hcc : cc ≤ 17) (hsc : sc ≤ 48) (ht : t < 4) (hg : g < 6) (hy : wk_sy sc cc a_symbols y) (K : ∀ r, post r) : wpX_groupCost post (f_capacity, f_alphabet, f_slots, f_tables, nI cc, f_inputSize, f_outputSize, f_blockLength, f_columnIndex, nI sc, f_groupCount, nI tc, f_bitBase, f_bitPlace, a_input, a_output, a_held, a_checks, a_packed, a_block, a_column, a_ranks, a_otherRanks, a_links, a_starts, a_order, a_shifted, a_classes, a_nextClasses, a_buckets, a_list, a_symbols, a_selectors, a_lengths, a_codes, a_lengthCounts, a_sorted, a_weights, a_parents, a_depths) (nI g) (nI t) := by
  refine nm_r (e' := nI (g * 8)) ?_ ⟨9, xw_gc12 hcc hsc ht (by omega) hy K 8 (g * 8) 9 _ (by omega) (by omega)⟩
  show nI g * nI 8 = _
  rw [pk_mul]
theorem xw_se22 {post : SX → Prop} {J : Int32 → (Nat → Int32) → (Nat → Int32) → (Nat → Int32) → (Nat → Int32) → (Nat → Int32) → (Nat → Int32) → (Nat → Int32) → (Nat → Int32) → (Nat → Int32) → (Nat → Int32) → (Nat → Int32) → (Nat → Int32) → (Nat → Int32) → (Nat → Int32) → (Nat → Int32) → (Nat → Int32) → (Nat → Int32) → (Nat → Int32) → (Nat → Int32) → (Nat → Int32) → (Nat → Int32) → (Nat → Int32) → (Nat → Int32) → (Nat → Int32) → (Nat → Int32) → (Nat → Int32) → Prop}
    {cc sc tc G g : Nat} {y : Nat → Nat} (hcc : cc ≤ 17) (hsc : sc ≤ 48) (htc : tc ≤ 4) (hg : g < 6) (hy : wk_sy sc cc a_symbols y)
    (K : ∀ b, b < tc → J (nI (g + 1)) a_input a_output a_held a_checks a_packed a_block a_column a_ranks a_otherRanks a_links a_starts a_order a_shifted a_classes a_nextClasses a_buckets a_list a_symbols (upd a_selectors g (nI b)) a_lengths a_codes a_lengthCounts a_sorted a_weights a_parents a_depths) :
    ∀ d t k b r, t + d = tc → d < k → b < tc → wX_selectTables_22 post J (nI g) f_capacity f_alphabet f_slots f_tables (nI cc) f_inputSize f_outputSize f_blockLength f_columnIndex (nI sc) (nI G) (nI tc) f_bitBase f_bitPlace a_input a_output a_held a_checks a_packed a_block a_column a_ranks a_otherRanks a_links a_starts a_order a_shifted a_classes a_nextClasses a_buckets a_list a_symbols a_selectors a_lengths a_codes a_lengthCounts a_sorted a_weights a_parents a_depths k (nI b) r (nI t) := by
  intro d
  induction d with
  | zero =>
    intro t k b r hd hk hb
    obtain ⟨k, rfl⟩ : ∃ q, k = q + 1 := ⟨k - 1, by omega⟩
    refine br_t (nI_le (by omega) (by omega)) ⟨vp_in_nI (by omega) (by omega), ?_⟩
    rw [wk_c (i := g) (by omega)]
    exact nm_e (nm_r (nI_1 g) (K b hb))
  | succ d ih =>
    intro t k b r hd hk hb
    obtain ⟨k, rfl⟩ : ∃ q, k = q + 1 := ⟨k - 1, by omega⟩
    exact br_f (nI_ge (by omega) (by omega)) (xw_gc hcc hsc (by omega) hg hy (fun r2 => br_c (fun _ => nm_r (nI_1 t) (ih (t + 1) k b r (by omega) (by omega) hb)) (fun _ => nm_r (nI_1 t) (ih (t + 1) k t r2 (by omega) (by omega) (by omega)))))
theorem xw_se2 {post : SX → Prop} {cc sc tc G : Nat} {y : Nat → Nat} (hcc : cc ≤ 17) (hsc : sc ≤ 48) (htc : tc ≤ 4) (h1 : 0 < G → 0 < tc) (hG : G ≤ 6) (hy : wk_sy sc cc a_symbols y)
    (K : ∀ (se' : Nat → Int32) (sel : Nat → Nat), wk_sy G tc se' sel → post (f_capacity, f_alphabet, f_slots, f_tables, nI cc, f_inputSize, f_outputSize, f_blockLength, f_columnIndex, nI sc, nI G, nI tc, f_bitBase, f_bitPlace, a_input, a_output, a_held, a_checks, a_packed, a_block, a_column, a_ranks, a_otherRanks, a_links, a_starts, a_order, a_shifted, a_classes, a_nextClasses, a_buckets, a_list, a_symbols, se', a_lengths, a_codes, a_lengthCounts, a_sorted, a_weights, a_parents, a_depths)) :
    ∀ d g k (se' : Nat → Int32) (sel : Nat → Nat), g + d = G → d < k → wk_sy g tc se' sel → wX_selectTables_2 post f_capacity f_alphabet f_slots f_tables (nI cc) f_inputSize f_outputSize f_blockLength f_columnIndex (nI sc) (nI G) (nI tc) f_bitBase f_bitPlace k (nI g) a_input a_output a_held a_checks a_packed a_block a_column a_ranks a_otherRanks a_links a_starts a_order a_shifted a_classes a_nextClasses a_buckets a_list a_symbols se' a_lengths a_codes a_lengthCounts a_sorted a_weights a_parents a_depths := by
  intro d
  induction d with
  | zero =>
    intro g k se' sel hd hk hs
    obtain ⟨k, rfl⟩ : ∃ q, k = q + 1 := ⟨k - 1, by omega⟩
    have e : g = G := by omega
    subst e
    exact br_t (nI_le (Nat.le_refl g) (by omega)) (K se' sel hs)
  | succ d ih =>
    intro g k se' sel hd hk hs
    obtain ⟨k, rfl⟩ : ∃ q, k = q + 1 := ⟨k - 1, by omega⟩
    have htp := h1 (by omega)
    refine br_f (nI_ge (by omega) (by omega)) (xw_gc (t := 0) hcc hsc (by omega) (by omega) hy (fun r => ⟨tc, xw_se22 hcc hsc htc (by omega) hy (fun b hb => ?_) (tc - 1) 1 tc 0 r (by omega) (by omega) htp⟩))
    refine ih (g + 1) k _ (fun q => if q = g then b else sel q) (by omega) (by omega) (fun q hq => ?_)
    show _ = nI (if q = g then b else sel q) ∧ (if q = g then b else sel q) < tc
    by_cases e : q = g
    · subst e; rw [pk_us, if_pos rfl]; exact ⟨rfl, hb⟩
    · rw [pk_un e, if_neg e]; exact hs q (by omega)
theorem xw_se {post : SX → Prop} {cc sc tc G : Nat} {y : Nat → Nat} (hcc : cc ≤ 17) (hsc : sc ≤ 48) (htc : tc ≤ 4) (h1 : 0 < G → 0 < tc) (hG : G ≤ 6) (hy : wk_sy sc cc a_symbols y)
    (K : ∀ (se' : Nat → Int32) (sel : Nat → Nat), wk_sy G tc se' sel → post (f_capacity, f_alphabet, f_slots, f_tables, nI cc, f_inputSize, f_outputSize, f_blockLength, f_columnIndex, nI sc, nI G, nI tc, f_bitBase, f_bitPlace, a_input, a_output, a_held, a_checks, a_packed, a_block, a_column, a_ranks, a_otherRanks, a_links, a_starts, a_order, a_shifted, a_classes, a_nextClasses, a_buckets, a_list, a_symbols, se', a_lengths, a_codes, a_lengthCounts, a_sorted, a_weights, a_parents, a_depths)) : wpX_selectTables post (f_capacity, f_alphabet, f_slots, f_tables, nI cc, f_inputSize, f_outputSize, f_blockLength, f_columnIndex, nI sc, nI G, nI tc, f_bitBase, f_bitPlace, a_input, a_output, a_held, a_checks, a_packed, a_block, a_column, a_ranks, a_otherRanks, a_links, a_starts, a_order, a_shifted, a_classes, a_nextClasses, a_buckets, a_list, a_symbols, a_selectors, a_lengths, a_codes, a_lengthCounts, a_sorted, a_weights, a_parents, a_depths) :=
  ⟨G + 1, xw_se2 hcc hsc htc h1 hG hy K G 0 (G + 1) _ (fun _ => 0) (by omega) (by omega) (fun q hq => by omega)⟩
theorem xw_as26 {post : SX → Prop} {J : Int32 → Int32 → Int32 → (Nat → Int32) → (Nat → Int32) → (Nat → Int32) → (Nat → Int32) → (Nat → Int32) → (Nat → Int32) → (Nat → Int32) → (Nat → Int32) → (Nat → Int32) → (Nat → Int32) → (Nat → Int32) → (Nat → Int32) → (Nat → Int32) → (Nat → Int32) → (Nat → Int32) → (Nat → Int32) → (Nat → Int32) → (Nat → Int32) → (Nat → Int32) → (Nat → Int32) → (Nat → Int32) → (Nat → Int32) → (Nat → Int32) → (Nat → Int32) → (Nat → Int32) → (Nat → Int32) → Prop}
    {cc t L : Nat} {l : Nat → Nat} (hcc : cc ≤ 17) (ht : t < 4) (hG : hu_G l cc) (hL : L ≤ 16) (hl : ∀ v, v < cc → a_lengths (t * 17 + v) = nI (l v))
    (K : ∀ co' so' lc' : Nat → Int32, (∀ v, v < cc → l v < L + 1 → co' (t * 17 + v) = nI (hu_c l cc v)) → (∀ v, v < cc → l v < L + 1 → so' (t * 17 + ca_r cc (ca_X l) v) = nI v) → (∀ j, j < t * 17 ∨ t * 17 + 17 ≤ j → co' j = a_codes j) → (∀ j, j < t * 17 ∨ t * 17 + 17 ≤ j → so' j = a_sorted j) →
      lc' = upd a_lengthCounts (t * 17 + L) (nI (hu_n l cc L)) → J (nI (hu_f l cc (L + 1))) (nI (hu_q l cc (L + 1))) (nI (L + 1)) a_input a_output a_held a_checks a_packed a_block a_column a_ranks a_otherRanks a_links a_starts a_order a_shifted a_classes a_nextClasses a_buckets a_list a_symbols a_selectors a_lengths co' lc' so' a_weights a_parents a_depths) :
    ∀ d v k (co' so' : Nat → Int32), v + d = cc → d < k → (∀ u, u < cc → (l u < L ∨ (l u = L ∧ u < v)) → co' (t * 17 + u) = nI (hu_c l cc u)) → (∀ u, u < cc → (l u < L ∨ (l u = L ∧ u < v)) → so' (t * 17 + ca_r cc (ca_X l) u) = nI u) →
    (∀ j, j < t * 17 ∨ t * 17 + 17 ≤ j → co' j = a_codes j) → (∀ j, j < t * 17 ∨ t * 17 + 17 ≤ j → so' j = a_sorted j) →
    wX_assignCodes_26 post J (nI (t * 17)) (nI L) f_capacity f_alphabet f_slots f_tables (nI cc) f_inputSize f_outputSize f_blockLength f_columnIndex f_symbolCount f_groupCount f_tableCount f_bitBase f_bitPlace k (nI (hu_f l cc L + ca_c (fun u => l u = L) v)) (nI (hu_q l cc L + ca_c (fun u => l u = L) v)) (nI (ca_c (fun u => l u = L) v)) (nI v) a_input a_output a_held a_checks a_packed a_block a_column a_ranks a_otherRanks a_links a_starts a_order a_shifted a_classes a_nextClasses a_buckets a_list a_symbols a_selectors a_lengths co' a_lengthCounts so' a_weights a_parents a_depths := by
  intro d
  induction d with
  | zero =>
    intro v k co' so' hd hk h1 h2 h3 h4
    obtain ⟨k, rfl⟩ : ∃ q, k = q + 1 := ⟨k - 1, by omega⟩
    have e : v = cc := by omega
    subst e
    have hr := hu_room hG hL
    have hp : 2 ^ L ≤ 2 ^ 16 := Nat.pow_le_pow_right (by omega) hL
    have en : ca_c (fun u => l u = L) v = hu_n l v L := rfl
    have ef : hu_f l v (L + 1) = (hu_f l v L + hu_n l v L) * 2 ^ 1 := by rw [hu_fs]; omega
    refine br_t (nI_le (Nat.le_refl v) (by omega)) ?_
    rw [en, nI_add, wk_c (i := t * 17 + L) (by omega)]
    refine ⟨vp_in_nI (by omega) (by omega), nm_e (nm_r (e' := nI (hu_f l v (L + 1))) ?_ (nm_r (nI_1 L) ?_))⟩
    · rw [ef]; exact pk_shlN _ 1 (by decide) (by omega)
    · rw [← hu_qs]
      exact K co' so' _ (fun u hu hlu => h1 u hu (by omega)) (fun u hu hlu => h2 u hu (by omega)) h3 h4 rfl
  | succ d ih =>
    intro v k co' so' hd hk h1 h2 h3 h4
    obtain ⟨k, rfl⟩ : ∃ q, k = q + 1 := ⟨k - 1, by omega⟩
    have hlv := hG.1 v (by omega)
    refine br_f (nI_ge (by omega) (by omega)) ?_
    rw [nI_add (t * 17) v, wk_c (i := t * 17 + v) (by omega), hl v (by omega)]
    refine ⟨vp_in_nI (by omega) (by omega), pk_eq (l v) L (fun e => ?_) (fun e => ?_)⟩
    · have ec := ca_cst (p := fun u => l u = L) e
      have hc : hu_f l cc L + ca_c (fun u => l u = L) v = hu_c l cc v := by unfold hu_c; rw [e]
      have hq : hu_q l cc L + ca_c (fun u => l u = L) v = ca_r cc (ca_X l) v := by rw [← hu_qr (by omega), e]
      have hqr : ca_r cc (ca_X l) v < cc := ca_rlt (ca_XT cc l) (by omega)
      rw [hq, nI_add (t * 17) (ca_r cc (ca_X l) v), wk_c (i := t * 17 + ca_r cc (ca_X l) v) (by omega)]
      refine ⟨vp_in_nI (by omega) (by omega), nm_e (nm_r (e' := nI (hu_f l cc L + ca_c (fun u => l u = L) (v + 1))) (by rw [nI_1, ec, Nat.add_assoc]) ⟨vp_in_nI (by omega) (by omega), nm_e (nm_r (e' := nI (hu_q l cc L + ca_c (fun u => l u = L) (v + 1))) (by rw [nI_1, ec, ← hq, Nat.add_assoc]) (nm_r (e' := nI (ca_c (fun u => l u = L) (v + 1))) (by rw [nI_1, ec]) (nm_r (nI_1 v) ?_)))⟩)⟩
      refine ih (v + 1) k _ _ (by omega) (by omega) (fun u hu hlu => ?_) (fun u hu hlu => ?_) (fun j hj => ?_) (fun j hj => ?_)
      · by_cases z : u = v
        · subst z; rw [pk_us, hc]
        · rw [pk_un (by omega)]; exact h1 u hu (by omega)
      · by_cases z : u = v
        · subst z; rw [pk_us]
        · have hz : ca_r cc (ca_X l) u ≠ ca_r cc (ca_X l) v := fun y => z ((ca_rP (ca_XT cc l)).2 u v hu (by omega) y)
          rw [pk_un (by omega)]; exact h2 u hu (by omega)
      · rw [pk_un (by omega)]; exact h3 j hj
      · rw [pk_un (by omega)]; exact h4 j hj
    · have ec := ca_csf (p := fun u => l u = L) e
      refine nm_r (nI_1 v) ?_
      rw [← ec]
      refine ih (v + 1) k _ _ (by omega) (by omega) (fun u hu hlu => h1 u hu ?_) (fun u hu hlu => h2 u hu ?_) h3 h4
      · by_cases z : u = v
        · subst z; omega
        · omega
      · by_cases z : u = v
        · subst z; omega
        · omega
theorem xw_as13 {post : SX → Prop} {cc t : Nat} {l : Nat → Nat} (hcc : cc ≤ 17) (ht : t < 4) (hG : hu_G l cc) (hl : ∀ v, v < cc → a_lengths (t * 17 + v) = nI (l v))
    (K : ∀ co' so' lc' : Nat → Int32, (∀ v, v < cc → co' (t * 17 + v) = nI (hu_c l cc v)) → (∀ v, v < cc → so' (t * 17 + ca_r cc (ca_X l) v) = nI v) → (∀ L, 1 ≤ L → L < 17 → lc' (t * 17 + L) = nI (hu_n l cc L)) →
      (∀ j, j < t * 17 ∨ t * 17 + 17 ≤ j → co' j = a_codes j) → (∀ j, j < t * 17 ∨ t * 17 + 17 ≤ j → so' j = a_sorted j) → (∀ j, j < t * 17 ∨ t * 17 + 17 ≤ j → lc' j = a_lengthCounts j) → post (f_capacity, f_alphabet, f_slots, f_tables, nI cc, f_inputSize, f_outputSize, f_blockLength, f_columnIndex, f_symbolCount, f_groupCount, f_tableCount, f_bitBase, f_bitPlace, a_input, a_output, a_held, a_checks, a_packed, a_block, a_column, a_ranks, a_otherRanks, a_links, a_starts, a_order, a_shifted, a_classes, a_nextClasses, a_buckets, a_list, a_symbols, a_selectors, a_lengths, co', lc', so', a_weights, a_parents, a_depths)) :
    ∀ d L k (co' so' lc' : Nat → Int32), L + d = 17 → d < k → 1 ≤ L → (∀ v, v < cc → l v < L → co' (t * 17 + v) = nI (hu_c l cc v)) → (∀ v, v < cc → l v < L → so' (t * 17 + ca_r cc (ca_X l) v) = nI v) → (∀ M, 1 ≤ M → M < L → lc' (t * 17 + M) = nI (hu_n l cc M)) →
      (∀ j, j < t * 17 ∨ t * 17 + 17 ≤ j → co' j = a_codes j) → (∀ j, j < t * 17 ∨ t * 17 + 17 ≤ j → so' j = a_sorted j) → (∀ j, j < t * 17 ∨ t * 17 + 17 ≤ j → lc' j = a_lengthCounts j) →
    wX_assignCodes_13 post (nI (t * 17)) f_capacity f_alphabet f_slots f_tables (nI cc) f_inputSize f_outputSize f_blockLength f_columnIndex f_symbolCount f_groupCount f_tableCount f_bitBase f_bitPlace k (nI (hu_f l cc L)) (nI (hu_q l cc L)) (nI L) a_input a_output a_held a_checks a_packed a_block a_column a_ranks a_otherRanks a_links a_starts a_order a_shifted a_classes a_nextClasses a_buckets a_list a_symbols a_selectors a_lengths co' lc' so' a_weights a_parents a_depths := by
  intro d
  induction d with
  | zero =>
    intro L k co' so' lc' hd hk hL h1 h2 h3 h4 h5 h6
    obtain ⟨k, rfl⟩ : ∃ q, k = q + 1 := ⟨k - 1, by omega⟩
    have e : L = 17 := by omega
    subst e
    exact br_t (nI_lt (a := 16) (by omega) (by omega)) (K co' so' lc' (fun v hv => h1 v hv (by have := (hG.1 v hv).2; omega)) (fun v hv => h2 v hv (by have := (hG.1 v hv).2; omega)) h3 h4 h5 h6)
  | succ d ih =>
    intro L k co' so' lc' hd hk hL h1 h2 h3 h4 h5 h6
    obtain ⟨k, rfl⟩ : ∃ q, k = q + 1 := ⟨k - 1, by omega⟩
    refine br_f (nI_nlt (a := 16) (b := L) (by omega) (by omega)) ⟨cc + 1, ?_⟩
    refine xw_as26 hcc ht hG (by omega) hl (fun c2 s2 n2 g1 g2 g3 g4 g5 => ?_) cc 0 (cc + 1) co' so' (by omega) (by omega) (fun u hu hlu => h1 u hu (by omega)) (fun u hu hlu => h2 u hu (by omega)) (fun j hj => rfl) (fun j hj => rfl)
    refine ih (L + 1) k c2 s2 n2 (by omega) (by omega) (by omega) g1 g2 (fun M hM1 hM2 => ?_) (fun j hj => (g3 j hj).trans (h4 j hj)) (fun j hj => (g4 j hj).trans (h5 j hj)) (fun j hj => ?_)
    · rw [g5]
      by_cases z : M = L
      · subst z; rw [pk_us]
      · rw [pk_un (by omega)]; exact h3 M hM1 (by omega)
    · rw [g5, pk_un (by omega)]; exact h6 j hj
theorem xw_as {post : SX → Prop} {cc t : Nat} {l : Nat → Nat} (hcc : cc ≤ 17) (ht : t < 4) (hG : hu_G l cc) (hl : ∀ v, v < cc → a_lengths (t * 17 + v) = nI (l v))
    (K : ∀ co' so' lc' : Nat → Int32, (∀ v, v < cc → co' (t * 17 + v) = nI (hu_c l cc v)) → (∀ v, v < cc → so' (t * 17 + ca_r cc (ca_X l) v) = nI v) → (∀ L, 1 ≤ L → L < 17 → lc' (t * 17 + L) = nI (hu_n l cc L)) →
      (∀ j, j < t * 17 ∨ t * 17 + 17 ≤ j → co' j = a_codes j) → (∀ j, j < t * 17 ∨ t * 17 + 17 ≤ j → so' j = a_sorted j) → (∀ j, j < t * 17 ∨ t * 17 + 17 ≤ j → lc' j = a_lengthCounts j) → post (f_capacity, f_alphabet, f_slots, f_tables, nI cc, f_inputSize, f_outputSize, f_blockLength, f_columnIndex, f_symbolCount, f_groupCount, f_tableCount, f_bitBase, f_bitPlace, a_input, a_output, a_held, a_checks, a_packed, a_block, a_column, a_ranks, a_otherRanks, a_links, a_starts, a_order, a_shifted, a_classes, a_nextClasses, a_buckets, a_list, a_symbols, a_selectors, a_lengths, co', lc', so', a_weights, a_parents, a_depths)) : wpX_assignCodes post (f_capacity, f_alphabet, f_slots, f_tables, nI cc, f_inputSize, f_outputSize, f_blockLength, f_columnIndex, f_symbolCount, f_groupCount, f_tableCount, f_bitBase, f_bitPlace, a_input, a_output, a_held, a_checks, a_packed, a_block, a_column, a_ranks, a_otherRanks, a_links, a_starts, a_order, a_shifted, a_classes, a_nextClasses, a_buckets, a_list, a_symbols, a_selectors, a_lengths, a_codes, a_lengthCounts, a_sorted, a_weights, a_parents, a_depths) (nI t) := by
  have hf : hu_f l cc 1 = 0 := by
    rw [hu_fs]
    have e : hu_n l cc 0 = 0 := ca_cnone (fun v hv z => by have := (hG.1 v hv).1; omega)
    rw [e]; rfl
  have hq : hu_q l cc 1 = 0 := ca_cnone (fun v hv z => by have := (hG.1 v hv).1; omega)
  refine nm_r (e' := nI (t * 17)) (pk_mul t 17) ⟨17, ?_⟩
  have h := xw_as13 (post := post) hcc ht hG hl K 16 1 17 a_codes a_sorted a_lengthCounts (by omega) (by omega) (by omega) (fun v hv z => by have := (hG.1 v hv).1; omega) (fun v hv z => by have := (hG.1 v hv).1; omega) (fun M h1 h2 => by omega) (fun _ _ => rfl) (fun _ _ => rfl) (fun _ _ => rfl)
  rw [hf, hq] at h
  exact h
end
end
section
/-! the choice of tables -/
def wk_cod (cc tc : Nat) (co' : Nat → Int32) (len : Nat → Nat → Nat) : Prop := ∀ t, t < tc → ∀ v, v < cc → co' (t * 17 + v) = nI (hu_c (len t) cc v)
section
variable {f_capacity f_alphabet f_slots f_tables f_codeCount f_inputSize f_outputSize f_blockLength f_columnIndex f_symbolCount f_groupCount f_tableCount f_bitBase f_bitPlace : Int32} {a_input a_output a_held a_checks a_packed a_block a_column a_ranks a_otherRanks a_links a_starts a_order a_shifted a_classes a_nextClasses a_buckets a_list a_symbols a_selectors a_lengths a_codes a_lengthCounts a_sorted a_weights a_parents a_depths : Nat → Int32}
theorem xw_ch105 {post : SX → Prop} {cc sc tc G : Nat} {len : Nat → Nat → Nat} (hcc : cc ≤ 17) (htc : tc ≤ 4) (hT : wk_tab cc tc a_lengths len)
    (K : ∀ co' so' lc' : Nat → Int32, wk_cod cc tc co' len → post (f_capacity, f_alphabet, f_slots, f_tables, nI cc, f_inputSize, f_outputSize, f_blockLength, f_columnIndex, nI sc, nI G, nI tc, f_bitBase, f_bitPlace, a_input, a_output, a_held, a_checks, a_packed, a_block, a_column, a_ranks, a_otherRanks, a_links, a_starts, a_order, a_shifted, a_classes, a_nextClasses, a_buckets, a_list, a_symbols, a_selectors, a_lengths, co', lc', so', a_weights, a_parents, a_depths)) :
    ∀ d t k (co' so' lc' : Nat → Int32), t + d = tc → d < k → wk_cod cc t co' len → wX_chooseTables_105 post k (nI t) f_capacity f_alphabet f_slots f_tables (nI cc) f_inputSize f_outputSize f_blockLength f_columnIndex (nI sc) (nI G) (nI tc) f_bitBase f_bitPlace a_input a_output a_held a_checks a_packed a_block a_column a_ranks a_otherRanks a_links a_starts a_order a_shifted a_classes a_nextClasses a_buckets a_list a_symbols a_selectors a_lengths co' lc' so' a_weights a_parents a_depths := by
  intro d
  induction d with
  | zero =>
    intro t k co' so' lc' hd hk hC
    obtain ⟨k, rfl⟩ : ∃ q, k = q + 1 := ⟨k - 1, by omega⟩
    have e : t = tc := by omega
    subst e
    exact br_t (nI_le (Nat.le_refl t) (by omega)) (K co' so' lc' hC)
  | succ d ih =>
    intro t k co' so' lc' hd hk hC
    obtain ⟨k, rfl⟩ : ∃ q, k = q + 1 := ⟨k - 1, by omega⟩
    have hTt := hT t (by omega)
    refine br_f (nI_ge (by omega) (by omega)) (xw_as hcc (by omega) hTt.1 hTt.2 (fun c2 s2 n2 g1 g2 g3 g4 g5 g6 => nm_r (nI_1 t) (ih (t + 1) k c2 s2 n2 (by omega) (by omega) (fun u hu v hv => ?_))))
    by_cases e : u = t
    · subst e; exact g1 v hv
    · rw [g4 _ (by omega)]; exact hC u (by omega) v hv
theorem xw_ch84 {post : SX → Prop} {cc sc tc G : Nat} {y : Nat → Nat} (hcc : cc ≤ 17) (h2 : 2 ≤ cc) (hsc : sc ≤ 48) (htc : tc ≤ 4) (hG : G ≤ 6) (h1 : 0 < G → 0 < tc) (hy : wk_sy sc cc a_symbols y)
    (K : ∀ (se' le' w' p' d' co' so' lc' : Nat → Int32) (sel : Nat → Nat) (len : Nat → Nat → Nat), wk_sy G tc se' sel → wk_tab cc tc le' len → wk_cod cc tc co' len → post (f_capacity, f_alphabet, f_slots, f_tables, nI cc, f_inputSize, f_outputSize, f_blockLength, f_columnIndex, nI sc, nI G, nI tc, f_bitBase, f_bitPlace, a_input, a_output, a_held, a_checks, a_packed, a_block, a_column, a_ranks, a_otherRanks, a_links, a_starts, a_order, a_shifted, a_classes, a_nextClasses, a_buckets, a_list, a_symbols, se', le', co', lc', so', w', p', d')) :
    ∀ d t k (se' le' w' p' d' : Nat → Int32) (sel : Nat → Nat) (len : Nat → Nat → Nat), t + d = 4 → d < k → wk_sy G tc se' sel → wk_tab cc tc le' len → wX_chooseTables_84 post k (nI t) f_capacity f_alphabet f_slots f_tables (nI cc) f_inputSize f_outputSize f_blockLength f_columnIndex (nI sc) (nI G) (nI tc) f_bitBase f_bitPlace a_input a_output a_held a_checks a_packed a_block a_column a_ranks a_otherRanks a_links a_starts a_order a_shifted a_classes a_nextClasses a_buckets a_list a_symbols se' le' a_codes a_lengthCounts a_sorted w' p' d' := by
  intro d
  induction d with
  | zero =>
    intro t k se' le' w' p' d' sel len hd hk hS hT
    obtain ⟨k, rfl⟩ : ∃ q, k = q + 1 := ⟨k - 1, by omega⟩
    exact br_t (nI_le (a := 4) (by omega) (by omega)) ⟨tc + 1, xw_ch105 hcc htc hT (fun c2 s2 n2 h => K se' le' w' p' d' c2 s2 n2 sel len hS hT h) tc 0 (tc + 1) _ _ _ (by omega) (by omega) (fun u hu => by omega)⟩
  | succ d ih =>
    intro t k se' le' w' p' d' sel len hd hk hS hT
    obtain ⟨k, rfl⟩ : ∃ q, k = q + 1 := ⟨k - 1, by omega⟩
    refine br_f (nI_ge (b := 4) (by omega) (by omega)) (xw_se hcc hsc htc h1 hG hy (fun se2 sel2 hS2 => ?_))
    refine xw_bt hcc h2 hsc htc hy (fun w2 p2 d2 le2 len2 hT2 => nm_r (nI_1 t) (ih (t + 1) k _ _ _ _ _ sel2 len2 (by omega) (by omega) hS2 hT2))
theorem xw_ch32 {post : SX → Prop} {cc sc tc G : Nat} {y : Nat → Nat} (hcc : cc ≤ 17) (h2 : 2 ≤ cc) (hsc : sc ≤ 48) (htc : tc ≤ 4) (htG : tc ≤ G) (hG : G ≤ 6) (h1 : 0 < G → 0 < tc) (hy : wk_sy sc cc a_symbols y)
    (K : ∀ (se' le' w' p' d' co' so' lc' : Nat → Int32) (sel : Nat → Nat) (len : Nat → Nat → Nat), wk_sy G tc se' sel → wk_tab cc tc le' len → wk_cod cc tc co' len → post (f_capacity, f_alphabet, f_slots, f_tables, nI cc, f_inputSize, f_outputSize, f_blockLength, f_columnIndex, nI sc, nI G, nI tc, f_bitBase, f_bitPlace, a_input, a_output, a_held, a_checks, a_packed, a_block, a_column, a_ranks, a_otherRanks, a_links, a_starts, a_order, a_shifted, a_classes, a_nextClasses, a_buckets, a_list, a_symbols, se', le', co', lc', so', w', p', d')) :
    ∀ d g k b s (se' : Nat → Int32) (sel : Nat → Nat), g + d = G → d < k → b * G + s = g * tc → (s < G ∨ G = 0) → wk_sy g tc se' sel → wX_chooseTables_32 post f_capacity f_alphabet f_slots f_tables (nI cc) f_inputSize f_outputSize f_blockLength f_columnIndex (nI sc) (nI G) (nI tc) f_bitBase f_bitPlace k (nI b) (nI s) (nI g) a_input a_output a_held a_checks a_packed a_block a_column a_ranks a_otherRanks a_links a_starts a_order a_shifted a_classes a_nextClasses a_buckets a_list a_symbols se' a_lengths a_codes a_lengthCounts a_sorted a_weights a_parents a_depths := by
  intro d
  induction d with
  | zero =>
    intro g k b s se' sel hd hk hb hs hS
    obtain ⟨k, rfl⟩ : ∃ q, k = q + 1 := ⟨k - 1, by omega⟩
    have e : g = G := by omega
    subst e
    exact br_t (nI_le (Nat.le_refl g) (by omega)) (xw_bt hcc h2 hsc htc hy (fun w2 p2 d2 le2 len2 hT2 => ⟨5, xw_ch84 hcc h2 hsc htc hG h1 hy K 4 0 5 _ _ _ _ _ sel len2 (by omega) (by omega) hS hT2⟩))
  | succ d ih =>
    intro g k b s se' sel hd hk hb hs hS
    obtain ⟨k, rfl⟩ : ∃ q, k = q + 1 := ⟨k - 1, by omega⟩
    have hbt : b < tc := by
      have h3 : g * tc < G * tc := Nat.mul_lt_mul_of_pos_right (by omega) (h1 (by omega))
      have h4 : b * G < tc * G := by rw [Nat.mul_comm tc G]; omega
      exact Nat.lt_of_mul_lt_mul_right h4
    have next : wk_sy (g + 1) tc (upd se' g (nI b)) (fun q => if q = g then b else sel q) := by
      intro q hq
      show _ = nI (if q = g then b else sel q) ∧ (if q = g then b else sel q) < tc
      by_cases e : q = g
      · subst e; rw [pk_us, if_pos rfl]; exact ⟨rfl, hbt⟩
      · rw [pk_un e, if_neg e]; exact hS q (by omega)
    have e1 : (g + 1) * tc = g * tc + tc := Nat.succ_mul g tc
    refine br_f (nI_ge (by omega) (by omega)) ⟨vp_in_nI (by omega) (by omega), ?_⟩
    rw [wk_c (i := g) (by omega)]
    refine nm_e (nm_r (nI_add s tc) (pk_lt (s + tc) G (fun z => nm_r (nI_1 g) ?_) (fun z => nm_r (pk_sub z) (nm_r (nI_1 b) (nm_r (nI_1 g) ?_)))))
    · exact ih (g + 1) k b (s + tc) _ _ (by omega) (by omega) (by omega) (Or.inl z) next
    · refine ih (g + 1) k (b + 1) (s + tc - G) _ _ (by omega) (by omega) ?_ (by omega) next
      have e2 : (b + 1) * G = b * G + G := Nat.succ_mul b G
      omega
theorem xw_choose {post : SX → Prop} {cc sc T G : Nat} {y : Nat → Nat} (hcc : cc ≤ 17) (h2 : 2 ≤ cc) (hsc : sc ≤ 48) (hT : T ≤ 4) (hT2 : 0 < T) (hG : G ≤ 6) (hy : wk_sy sc cc a_symbols y)
    (K : ∀ (tc : Nat) (se' le' w' p' d' co' so' lc' : Nat → Int32) (sel : Nat → Nat) (len : Nat → Nat → Nat), tc ≤ 4 → (0 < G → 0 < tc) → wk_sy G tc se' sel → wk_tab cc tc le' len → wk_cod cc tc co' len → post (f_capacity, f_alphabet, f_slots, nI T, nI cc, f_inputSize, f_outputSize, f_blockLength, f_columnIndex, nI sc, nI G, nI tc, f_bitBase, f_bitPlace, a_input, a_output, a_held, a_checks, a_packed, a_block, a_column, a_ranks, a_otherRanks, a_links, a_starts, a_order, a_shifted, a_classes, a_nextClasses, a_buckets, a_list, a_symbols, se', le', co', lc', so', w', p', d')) : wpX_chooseTables post (f_capacity, f_alphabet, f_slots, nI T, nI cc, f_inputSize, f_outputSize, f_blockLength, f_columnIndex, nI sc, nI G, f_tableCount, f_bitBase, f_bitPlace, a_input, a_output, a_held, a_checks, a_packed, a_block, a_column, a_ranks, a_otherRanks, a_links, a_starts, a_order, a_shifted, a_classes, a_nextClasses, a_buckets, a_list, a_symbols, a_selectors, a_lengths, a_codes, a_lengthCounts, a_sorted, a_weights, a_parents, a_depths) := by
  refine pk_le G T (fun z => ⟨G + 1, ?_⟩) (fun z => ⟨G + 1, ?_⟩)
  · exact xw_ch32 hcc h2 hsc (by omega) (Nat.le_refl G) hG (fun h => h) hy (fun se' le' w' p' d' co' so' lc' sel len => K G se' le' w' p' d' co' so' lc' sel len (by omega) (fun h => h)) G 0 (G + 1) 0 0 _ (fun _ => 0) (by omega) (by omega) (by omega) (by omega) (fun q hq => by omega)
  · exact xw_ch32 hcc h2 hsc hT (by omega) hG (fun _ => hT2) hy (fun se' le' w' p' d' co' so' lc' sel len => K T se' le' w' p' d' co' so' lc' sel len hT (fun _ => hT2)) G 0 (G + 1) 0 0 _ (fun _ => 0) (by omega) (by omega) (by omega) (by omega) (fun q hq => by omega)
end
end
section
/-! bits of the packed words -/
theorem bi_1 : ∀ k, k < 32 → bt 1 k = decide (k = 0) := by decide +kernel
theorem bi_00 : ∀ k, k < 32 → bt 0 k = false := by decide +kernel
theorem bi_mask {j i : Nat} (hj : j < 32) (hi : i < 32) : bt ((1 : Int32) <<< (nI j &&& 31)) i = decide (i = j) := by
  rw [b_shl j hj 1 hi]
  by_cases h : j ≤ i
  · rw [bi_1 _ (by omega), decide_eq_true h, Bool.true_and]
    by_cases e : i = j
    · rw [decide_eq_true e, decide_eq_true (by omega)]
    · rw [decide_eq_false e, decide_eq_false (by omega)]
  · rw [decide_eq_false h, decide_eq_false (by omega), Bool.false_and]
def bi_p (a : Nat → Int32) (q : Nat) : Bool := bt (a (q / 32)) (q % 32)
theorem bi_set {a : Nat → Int32} {q : Nat} (r : Nat) : bi_p (upd a (q / 32) (a (q / 32) ||| ((1 : Int32) <<< (nI (q % 32) &&& 31)))) r = if r = q then true else bi_p a r := by
  unfold bi_p upd
  have h32 : q % 32 < 32 := Nat.mod_lt _ (by omega)
  have r32 : r % 32 < 32 := Nat.mod_lt _ (by omega)
  by_cases e : r / 32 = q / 32
  · rw [if_pos e, b_or, bi_mask h32 r32, e]
    by_cases f : r = q
    · subst f; rw [if_pos rfl, decide_eq_true rfl, Bool.or_true]
    · rw [if_neg f, decide_eq_false (by omega), Bool.or_false]
  · rw [if_neg e, if_neg (fun f => e (by rw [f]))]
theorem bi_clr {a : Nat → Int32} {q : Nat} (r : Nat) : bi_p (upd a (q / 32) (a (q / 32) &&& (((1 : Int32) <<< (nI (q % 32) &&& 31)) ^^^ (-1)))) r = if r = q then false else bi_p a r := by
  unfold bi_p upd
  have h32 : q % 32 < 32 := Nat.mod_lt _ (by omega)
  have r32 : r % 32 < 32 := Nat.mod_lt _ (by omega)
  by_cases e : r / 32 = q / 32
  · rw [if_pos e, b_and, b_xor, bi_mask h32 r32, b_m1 _ r32, e]
    by_cases f : r = q
    · subst f; rw [if_pos rfl, decide_eq_true rfl]; simp
    · rw [if_neg f, decide_eq_false (by omega)]; simp
  · rw [if_neg e, if_neg (fun f => e (by rw [f]))]
theorem bi_get (w : Int32) {j : Nat} (hj : j < 32) : ((w.toUInt32 >>> ((nI j).toUInt32 &&& Int32.toUInt32 31)).toInt32) &&& 1 = nI (if bt w j = true then 1 else 0) := by
  refine b_ext (fun i hi => ?_)
  rw [b_and, b_ushr j hj, bi_1 i hi]
  by_cases e : i = 0
  · subst e
    by_cases f : bt w j = true
    · rw [if_pos f, Nat.add_zero, f]; decide
    · rw [if_neg f, Nat.add_zero, Bool.eq_false_iff.mpr f]; decide
  · rw [decide_eq_false e, Bool.and_false]
    by_cases f : bt w j = true
    · rw [if_pos f]
      show false = bt 1 i
      rw [bi_1 i hi, decide_eq_false e]
    · rw [if_neg f]
      show false = bt 0 i
      rw [bi_00 i hi]
theorem bi_or (a b : Nat) : nI a ||| nI b = nI (a ||| b) := by
  apply Int32.toBitVec_inj.mp
  rw [Int32.toBitVec_or]
  show BitVec.ofNat 32 a ||| BitVec.ofNat 32 b = BitVec.ofNat 32 (a ||| b)
  rw [BitVec.ofNat_or]
theorem bi_app {a b : Nat} (hb : b < 2) (ha : a < 2 ^ 30) : (nI a <<< ((1 : Int32) &&& 31)) ||| nI b = nI (2 * a + b) := by
  rw [pk_shlN _ 1 (by decide) (by omega), bi_or]
  have e := Nat.two_pow_add_eq_or_of_lt (i := 1) (b := b) (by omega) a
  rw [Nat.mul_comm a (2 ^ 1), ← e]
theorem bi_at {s p : Nat} (hs : s < 4) (hp : p < 4096) : nI (s * 128) + (((nI p).toUInt32 >>> ((5 : Int32).toUInt32 &&& Int32.toUInt32 31)).toInt32) = nI ((s * 4096 + p) / 32) := by
  rw [pk_ushrN (by omega) 5 5 (by decide), nI_add]
  congr 1
  omega
theorem bi_31 {p : Nat} (hp : p < 2 ^ 32) : nI p &&& 31 = nI (p % 32) := pk_andN hp 5 (by decide)
theorem bi_pm (s p : Nat) : (s * 4096 + p) % 32 = p % 32 := by omega
/-- w bits of v, highest first, at q -/
def bi_S (a : Nat → Int32) (q w v : Nat) : Prop := ∀ i, i < w → bi_p a (q + i) = decide (v / 2 ^ (w - 1 - i) % 2 = 1)
/-- nothing but the bits from q to q + w changed -/
def bi_F (a b : Nat → Int32) (q w : Nat) : Prop := ∀ i, i < q ∨ q + w ≤ i → bi_p b i = bi_p a i
theorem bi_Sk {a b : Nat → Int32} {q w v Q W : Nat} (h : bi_S a q w v) (F : bi_F a b Q W) (hq : q + w ≤ Q ∨ Q + W ≤ q) : bi_S b q w v :=
  fun i hi => (F (q + i) (by omega)).trans (h i hi)
theorem bi_F0 (a : Nat → Int32) (q : Nat) : bi_F a a q 0 := fun _ _ => rfl
theorem bi_Ft {a b c : Nat → Int32} {q w v : Nat} (h : bi_F a b q w) (g : bi_F b c (q + w) v) : bi_F a c q (w + v) :=
  fun i hi => (g i (by omega)).trans (h i (by omega))
section
variable {f_capacity f_alphabet f_slots f_tables f_codeCount f_inputSize f_outputSize f_blockLength f_columnIndex f_symbolCount f_groupCount f_tableCount f_bitBase f_bitPlace : Int32} {a_input a_output a_held a_checks a_packed a_block a_column a_ranks a_otherRanks a_links a_starts a_order a_shifted a_classes a_nextClasses a_buckets a_list a_symbols a_selectors a_lengths a_codes a_lengthCounts a_sorted a_weights a_parents a_depths : Nat → Int32}
theorem xw_put4 {post : SX → Prop} {s p w v : Nat} (hs : s < 4) (hw : w ≤ 31) (hv : v < 2 ^ 31) (hp : p + w ≤ 4096)
    (K : ∀ pk' : Nat → Int32, bi_S pk' (s * 4096 + p) w v → bi_F a_packed pk' (s * 4096 + p) w → post (f_capacity, f_alphabet, f_slots, f_tables, f_codeCount, f_inputSize, f_outputSize, f_blockLength, f_columnIndex, f_symbolCount, f_groupCount, f_tableCount, nI (s * 128), nI (p + w), a_input, a_output, a_held, a_checks, pk', a_block, a_column, a_ranks, a_otherRanks, a_links, a_starts, a_order, a_shifted, a_classes, a_nextClasses, a_buckets, a_list, a_symbols, a_selectors, a_lengths, a_codes, a_lengthCounts, a_sorted, a_weights, a_parents, a_depths)) :
    ∀ d j k x3 (pk' : Nat → Int32), j + d = w → d < k → x3 = nI d - 1 → (∀ i, i < j → bi_p pk' (s * 4096 + p + i) = decide (v / 2 ^ (w - 1 - i) % 2 = 1)) → (∀ i, i < s * 4096 + p ∨ s * 4096 + p + j ≤ i → bi_p pk' i = bi_p a_packed i) →
    wX_putBits_4 post (nI v) f_capacity f_alphabet f_slots f_tables f_codeCount f_inputSize f_outputSize f_blockLength f_columnIndex f_symbolCount f_groupCount f_tableCount (nI (s * 128)) k x3 (nI (p + j)) a_input a_output a_held a_checks pk' a_block a_column a_ranks a_otherRanks a_links a_starts a_order a_shifted a_classes a_nextClasses a_buckets a_list a_symbols a_selectors a_lengths a_codes a_lengthCounts a_sorted a_weights a_parents a_depths := by
  intro d
  induction d with
  | zero =>
    intro j k x3 pk' hd hk hx h1 h2
    obtain ⟨k, rfl⟩ : ∃ q, k = q + 1 := ⟨k - 1, by omega⟩
    have e : j = w := by omega
    subst e
    subst hx
    exact br_t wk_neg (K pk' h1 h2)
  | succ d ih =>
    intro j k x3 pk' hd hk hx h1 h2
    obtain ⟨k, rfl⟩ : ∃ q, k = q + 1 := ⟨k - 1, by omega⟩
    rw [nI_pred] at hx
    subst hx
    have ed : w - 1 - j = d := by omega
    have e32 : (s * 4096 + (p + j)) % 32 = (p + j) % 32 := bi_pm s (p + j)
    refine br_f (nI_pos (by omega)) (br_f (nI_ge (b := 4096) (by omega) (by omega)) (nm_r (bi_at hs (by omega)) (nm_r (e' := (1 : Int32) <<< (nI ((s * 4096 + (p + j)) % 32) &&& 31)) (by rw [bi_31 (by omega), e32]) ?_)))
    rw [pk_ushrN (n := v) (by omega) (nI d) d (s_u d (by omega)), pk_andN (n := v / 2 ^ d) (Nat.lt_of_le_of_lt (Nat.div_le_self _ _) (by omega)) 1 (by decide), wk_c (i := (s * 4096 + (p + j)) / 32) (by omega)]
    have upd1 : ∀ (b : Bool) (pk2 : Nat → Int32), (∀ r, bi_p pk2 r = if r = s * 4096 + (p + j) then b else bi_p pk' r) → b = decide (v / 2 ^ d % 2 = 1) → wX_putBits_4 post (nI v) f_capacity f_alphabet f_slots f_tables f_codeCount f_inputSize f_outputSize f_blockLength f_columnIndex f_symbolCount f_groupCount f_tableCount (nI (s * 128)) k (nI d - 1) (nI (p + j + 1)) a_input a_output a_held a_checks pk2 a_block a_column a_ranks a_otherRanks a_links a_starts a_order a_shifted a_classes a_nextClasses a_buckets a_list a_symbols a_selectors a_lengths a_codes a_lengthCounts a_sorted a_weights a_parents a_depths := by
      intro b pk2 hb he
      refine ih (j + 1) k _ pk2 (by omega) (by omega) rfl (fun i hi => ?_) (fun i hi => ?_)
      · rw [hb]
        by_cases z : i = j
        · subst z
          rw [if_pos (by omega), he, ed]
        · rw [if_neg (by omega)]; exact h1 i (by omega)
      · rw [hb, if_neg (by omega)]; exact h2 i (by omega)
    have hb2 : v / 2 ^ d % 2 ^ 1 < 2 ^ 31 := by
      have := Nat.mod_lt (v / 2 ^ d) (show 0 < 2 ^ 1 by omega); omega
    refine pk_eq (v / 2 ^ d % 2 ^ 1) 1 (fun z => ?_) (fun z => ?_) rfl rfl hb2
    · exact ⟨vp_in_nI (by omega) (by omega), vp_in_nI (by omega) (by omega), nm_e (nm_r (nI_1 (p + j)) (nm_r (wk_m1 d) (upd1 true _ (fun r => bi_set r) (decide_eq_true z).symm)))⟩
    · exact ⟨vp_in_nI (by omega) (by omega), vp_in_nI (by omega) (by omega), nm_e (nm_r (nI_1 (p + j)) (nm_r (wk_m1 d) (upd1 false _ (fun r => bi_clr r) (decide_eq_false z).symm)))⟩
theorem xw_put {post : SX → Prop} {s p w v : Nat} (hs : s < 4) (hw : w ≤ 31) (hv : v < 2 ^ 31) (hp : p + w ≤ 4096)
    (K : ∀ pk' : Nat → Int32, bi_S pk' (s * 4096 + p) w v → bi_F a_packed pk' (s * 4096 + p) w → post (f_capacity, f_alphabet, f_slots, f_tables, f_codeCount, f_inputSize, f_outputSize, f_blockLength, f_columnIndex, f_symbolCount, f_groupCount, f_tableCount, nI (s * 128), nI (p + w), a_input, a_output, a_held, a_checks, pk', a_block, a_column, a_ranks, a_otherRanks, a_links, a_starts, a_order, a_shifted, a_classes, a_nextClasses, a_buckets, a_list, a_symbols, a_selectors, a_lengths, a_codes, a_lengthCounts, a_sorted, a_weights, a_parents, a_depths)) : wpX_putBits post (f_capacity, f_alphabet, f_slots, f_tables, f_codeCount, f_inputSize, f_outputSize, f_blockLength, f_columnIndex, f_symbolCount, f_groupCount, f_tableCount, nI (s * 128), nI p, a_input, a_output, a_held, a_checks, a_packed, a_block, a_column, a_ranks, a_otherRanks, a_links, a_starts, a_order, a_shifted, a_classes, a_nextClasses, a_buckets, a_list, a_symbols, a_selectors, a_lengths, a_codes, a_lengthCounts, a_sorted, a_weights, a_parents, a_depths) (nI v) (nI w) :=
  nm_e ⟨w + 1, xw_put4 hs hw hv hp K w 0 (w + 1) _ _ (by omega) (by omega) rfl (fun i hi => by omega) (fun i _ => rfl)⟩
theorem xw_bit {post : Int32 → SX → Prop} {s p : Nat} (hs : s < 4) (hp : p < 4096) (K : post (nI (if bi_p a_packed (s * 4096 + p) = true then 1 else 0)) (f_capacity, f_alphabet, f_slots, f_tables, f_codeCount, f_inputSize, f_outputSize, f_blockLength, f_columnIndex, f_symbolCount, f_groupCount, f_tableCount, nI (s * 128), nI (p + 1), a_input, a_output, a_held, a_checks, a_packed, a_block, a_column, a_ranks, a_otherRanks, a_links, a_starts, a_order, a_shifted, a_classes, a_nextClasses, a_buckets, a_list, a_symbols, a_selectors, a_lengths, a_codes, a_lengthCounts, a_sorted, a_weights, a_parents, a_depths)) : wpX_takeBit post (f_capacity, f_alphabet, f_slots, f_tables, f_codeCount, f_inputSize, f_outputSize, f_blockLength, f_columnIndex, f_symbolCount, f_groupCount, f_tableCount, nI (s * 128), nI p, a_input, a_output, a_held, a_checks, a_packed, a_block, a_column, a_ranks, a_otherRanks, a_links, a_starts, a_order, a_shifted, a_classes, a_nextClasses, a_buckets, a_list, a_symbols, a_selectors, a_lengths, a_codes, a_lengthCounts, a_sorted, a_weights, a_parents, a_depths) := by
  refine br_t (nI_lt (b := 4096) hp (by omega)) (nm_r (bi_at hs hp) ⟨vp_in_nI (by omega) (by omega), ?_⟩)
  rw [bi_31 (by omega), wk_c (by omega), bi_get _ (Nat.mod_lt _ (by omega)), ← bi_pm s p]
  exact nm_e (nm_r (nI_1 p) K)
theorem xw_tb5 {post : Int32 → SX → Prop} {s p w v M : Nat} (hs : s < 4) (hw : w ≤ 16) (hv : v < 2 ^ w) (hM : v ≤ M) (hM2 : M < 2 ^ 31) (hp : p + w ≤ 4096) (hS : bi_S a_packed (s * 4096 + p) w v)
    (K : post (nI v) (f_capacity, f_alphabet, f_slots, f_tables, f_codeCount, f_inputSize, f_outputSize, f_blockLength, f_columnIndex, f_symbolCount, f_groupCount, f_tableCount, nI (s * 128), nI (p + w), a_input, a_output, a_held, a_checks, a_packed, a_block, a_column, a_ranks, a_otherRanks, a_links, a_starts, a_order, a_shifted, a_classes, a_nextClasses, a_buckets, a_list, a_symbols, a_selectors, a_lengths, a_codes, a_lengthCounts, a_sorted, a_weights, a_parents, a_depths)) : ∀ d j k, j + d = w → d < k → wX_takeBits_5 post (nI w) (nI M) k (nI (v / 2 ^ d)) (nI j) f_capacity f_alphabet f_slots f_tables f_codeCount f_inputSize f_outputSize f_blockLength f_columnIndex f_symbolCount f_groupCount f_tableCount (nI (s * 128)) (nI (p + j)) a_input a_output a_held a_checks a_packed a_block a_column a_ranks a_otherRanks a_links a_starts a_order a_shifted a_classes a_nextClasses a_buckets a_list a_symbols a_selectors a_lengths a_codes a_lengthCounts a_sorted a_weights a_parents a_depths := by
  have h16 : 2 ^ w ≤ 2 ^ 16 := Nat.pow_le_pow_right (by omega) hw
  intro d
  induction d with
  | zero =>
    intro j k hd hk
    obtain ⟨k, rfl⟩ : ∃ q, k = q + 1 := ⟨k - 1, by omega⟩
    have e : j = w := by omega
    subst e
    rw [Nat.pow_zero, Nat.div_one]
    exact br_t (nI_le (Nat.le_refl j) (by omega)) (br_t (nI_le hM hM2) K)
  | succ d ih =>
    intro j k hd hk
    obtain ⟨k, rfl⟩ : ∃ q, k = q + 1 := ⟨k - 1, by omega⟩
    refine br_f (nI_ge (by omega) (by omega)) (xw_bit hs (by omega) (nm_r (e' := nI (v / 2 ^ d)) ?_ (nm_r (nI_1 j) (ih (j + 1) k (by omega) (by omega)))))
    have h1 := hS j (by omega)
    have ed : w - 1 - j = d := by omega
    rw [ed, Nat.add_assoc] at h1
    rw [h1]
    have h2 : v / 2 ^ (d + 1) = v / 2 ^ d / 2 := by rw [Nat.pow_succ, Nat.div_div_eq_div_mul]
    have h3 : v / 2 ^ d ≤ v := Nat.div_le_self _ _
    rw [h2]
    by_cases z : v / 2 ^ d % 2 = 1
    · rw [decide_eq_true z, if_pos rfl, bi_app (by omega) (by omega)]
      congr 1; omega
    · rw [decide_eq_false z, if_neg (by decide), bi_app (by omega) (by omega)]
      congr 1; omega
theorem xw_tb {post : Int32 → SX → Prop} {s p w v M : Nat} (hs : s < 4) (hw : w ≤ 16) (hv : v < 2 ^ w) (hM : v ≤ M) (hM2 : M < 2 ^ 31) (hp : p + w ≤ 4096) (hS : bi_S a_packed (s * 4096 + p) w v)
    (K : post (nI v) (f_capacity, f_alphabet, f_slots, f_tables, f_codeCount, f_inputSize, f_outputSize, f_blockLength, f_columnIndex, f_symbolCount, f_groupCount, f_tableCount, nI (s * 128), nI (p + w), a_input, a_output, a_held, a_checks, a_packed, a_block, a_column, a_ranks, a_otherRanks, a_links, a_starts, a_order, a_shifted, a_classes, a_nextClasses, a_buckets, a_list, a_symbols, a_selectors, a_lengths, a_codes, a_lengthCounts, a_sorted, a_weights, a_parents, a_depths)) : wpX_takeBits post (f_capacity, f_alphabet, f_slots, f_tables, f_codeCount, f_inputSize, f_outputSize, f_blockLength, f_columnIndex, f_symbolCount, f_groupCount, f_tableCount, nI (s * 128), nI p, a_input, a_output, a_held, a_checks, a_packed, a_block, a_column, a_ranks, a_otherRanks, a_links, a_starts, a_order, a_shifted, a_classes, a_nextClasses, a_buckets, a_list, a_symbols, a_selectors, a_lengths, a_codes, a_lengthCounts, a_sorted, a_weights, a_parents, a_depths) (nI w) (nI M) := by
  refine ⟨w + 1, ?_⟩
  have h := xw_tb5 hs hw hv hM hM2 hp hS K w 0 (w + 1) (by omega) (by omega)
  rw [Nat.div_eq_of_lt hv] at h
  exact h
end
end
section
/-! what a slot holds, bit by bit, and how it is written -/
def sl_B (a : Nat → Int32) (s i : Nat) : Bool := bi_p a (s * 4096 + i)
def sl_S (B : Nat → Bool) (q w v : Nat) : Prop := ∀ i, i < w → B (q + i) = decide (v / 2 ^ (w - 1 - i) % 2 = 1)
def sl_U (B : Nat → Bool) (q k : Nat) : Prop := (∀ i, i < k → B (q + i) = true) ∧ B (q + k) = false
def sl_D (B : Nat → Bool) (q d : Nat) (b : Bool) : Prop := (∀ i, i < d → B (q + 2 * i) = true ∧ B (q + 2 * i + 1) = b) ∧ B (q + 2 * d) = false
/-- on a part of the slot two contents agree -/
def sl_K (B C : Nat → Bool) (q w : Nat) : Prop := ∀ i, q ≤ i → i < q + w → C i = B i
theorem sl_Sk {B C : Nat → Bool} {q w v Q W : Nat} (h : sl_S B q w v) (k : sl_K B C Q W) (h1 : Q ≤ q) (h2 : q + w ≤ Q + W) : sl_S C q w v :=
  fun i hi => (k (q + i) (by omega) (by omega)).trans (h i hi)
theorem sl_Uk {B C : Nat → Bool} {q u Q W : Nat} (h : sl_U B q u) (k : sl_K B C Q W) (h1 : Q ≤ q) (h2 : q + u + 1 ≤ Q + W) : sl_U C q u :=
  ⟨fun i hi => (k (q + i) (by omega) (by omega)).trans (h.1 i hi), (k (q + u) (by omega) (by omega)).trans h.2⟩
theorem sl_Dk {B C : Nat → Bool} {q d Q W : Nat} {b : Bool} (h : sl_D B q d b) (k : sl_K B C Q W) (h1 : Q ≤ q) (h2 : q + 2 * d + 1 ≤ Q + W) : sl_D C q d b :=
  ⟨fun i hi => ⟨(k (q + 2 * i) (by omega) (by omega)).trans (h.1 i hi).1, (k (q + 2 * i + 1) (by omega) (by omega)).trans (h.1 i hi).2⟩, (k (q + 2 * d) (by omega) (by omega)).trans h.2⟩
theorem sl_KF {a b : Nat → Int32} {s p w : Nat} (h : bi_F a b (s * 4096 + p) w) (q : Nat) {W : Nat} (hq : q + W ≤ p) : sl_K (sl_B a s) (sl_B b s) q W :=
  fun i h1 h2 => h (s * 4096 + i) (by omega)
theorem sl_FT {a b c : Nat → Int32} {s p w v : Nat} (h : bi_F a b (s * 4096 + p) w) (g : bi_F b c (s * 4096 + (p + w)) v) : bi_F a c (s * 4096 + p) (w + v) :=
  fun i hi => (g i (by omega)).trans (h i (by omega))
/-- the length before, the number of steps -/
def sl_r (l : Nat → Nat) (v : Nat) : Nat := if v = 0 then l 0 else l (v - 1)
def sl_d (l : Nat → Nat) (v : Nat) : Nat := (l v - sl_r l v) + (sl_r l v - l v)
def sl_L (l : Nat → Nat) (cc : Nat) : Nat := 5 + ca_s (fun v => 2 * sl_d l v + 1) cc
theorem sl_d15 {l : Nat → Nat} {cc : Nat} (h : hu_G l cc) {v : Nat} (hv : v < cc) : sl_d l v ≤ 15 := by
  have h1 := h.1 v hv
  have h2 := h.1 (v - 1) (by omega)
  have h3 := h.1 0 (by omega)
  unfold sl_d sl_r
  split <;> omega
theorem sl_L5 {l : Nat → Nat} {cc : Nat} (h : hu_G l cc) {v : Nat} (hv : v ≤ cc) (hcc : cc ≤ 17) : ca_s (fun v => 2 * sl_d l v + 1) v ≤ v * 31 :=
  ca_sbd (fun u hu => by have := sl_d15 h (v := u) (by omega); omega)
/-- a table at p -/
def sl_T (B : Nat → Bool) (p cc : Nat) (l : Nat → Nat) : Prop := sl_S B p 5 (l 0) ∧ ∀ v, v < cc → sl_D B (p + 5 + ca_s (fun v => 2 * sl_d l v + 1) v) (sl_d l v) (decide (l v < sl_r l v))
theorem sl_Tk {B C : Nat → Bool} {p cc Q W : Nat} {l : Nat → Nat} (h : sl_T B p cc l) (k : sl_K B C Q W) (h1 : Q ≤ p) (h2 : p + sl_L l cc ≤ Q + W) : sl_T C p cc l := by
  unfold sl_L at h2
  refine ⟨sl_Sk h.1 k h1 (by omega), fun v hv => sl_Dk (h.2 v hv) k (by omega) ?_⟩
  have := ca_smono (fun v => 2 * sl_d l v + 1) (a := v + 1) (b := cc) hv
  rw [ca_ss] at this
  omega
section
variable {f_capacity f_alphabet f_slots f_tables f_codeCount f_inputSize f_outputSize f_blockLength f_columnIndex f_symbolCount f_groupCount f_tableCount f_bitBase f_bitPlace : Int32} {a_input a_output a_held a_checks a_packed a_block a_column a_ranks a_otherRanks a_links a_starts a_order a_shifted a_classes a_nextClasses a_buckets a_list a_symbols a_selectors a_lengths a_codes a_lengthCounts a_sorted a_weights a_parents a_depths : Nat → Int32}
theorem xw_putB {post : SX → Prop} {s p w v : Nat} (hs : s < 4) (hw : w ≤ 31) (hv : v < 2 ^ 31) (hp : p + w ≤ 4096)
    (K : ∀ pk' : Nat → Int32, sl_S (sl_B pk' s) p w v → bi_F a_packed pk' (s * 4096 + p) w → post (f_capacity, f_alphabet, f_slots, f_tables, f_codeCount, f_inputSize, f_outputSize, f_blockLength, f_columnIndex, f_symbolCount, f_groupCount, f_tableCount, nI (s * 128), nI (p + w), a_input, a_output, a_held, a_checks, pk', a_block, a_column, a_ranks, a_otherRanks, a_links, a_starts, a_order, a_shifted, a_classes, a_nextClasses, a_buckets, a_list, a_symbols, a_selectors, a_lengths, a_codes, a_lengthCounts, a_sorted, a_weights, a_parents, a_depths)) : wpX_putBits post (f_capacity, f_alphabet, f_slots, f_tables, f_codeCount, f_inputSize, f_outputSize, f_blockLength, f_columnIndex, f_symbolCount, f_groupCount, f_tableCount, nI (s * 128), nI p, a_input, a_output, a_held, a_checks, a_packed, a_block, a_column, a_ranks, a_otherRanks, a_links, a_starts, a_order, a_shifted, a_classes, a_nextClasses, a_buckets, a_list, a_symbols, a_selectors, a_lengths, a_codes, a_lengthCounts, a_sorted, a_weights, a_parents, a_depths) (nI v) (nI w) :=
  xw_put hs hw hv hp (fun pk' h1 h2 => K pk' (fun i hi => by unfold sl_B; rw [← Nat.add_assoc]; exact h1 i hi) h2)
/-- a place in unary -/
theorem xw_ws35 {post : SX → Prop} {J : Int32 → Int32 → Int32 → Int32 → Int32 → Int32 → Int32 → Int32 → Int32 → Int32 → Int32 → Int32 → Int32 → Int32 → Int32 → (Nat → Int32) → (Nat → Int32) → (Nat → Int32) → (Nat → Int32) → (Nat → Int32) → (Nat → Int32) → (Nat → Int32) → (Nat → Int32) → (Nat → Int32) → (Nat → Int32) → (Nat → Int32) → (Nat → Int32) → (Nat → Int32) → (Nat → Int32) → (Nat → Int32) → (Nat → Int32) → (Nat → Int32) → (Nat → Int32) → (Nat → Int32) → (Nat → Int32) → (Nat → Int32) → (Nat → Int32) → (Nat → Int32) → (Nat → Int32) → (Nat → Int32) → (Nat → Int32) → Prop}
    {s p g u : Nat} (hs : s < 4) (hp : p + u + 1 ≤ 4096)
    (K : ∀ pk' : Nat → Int32, sl_U (sl_B pk' s) p u → bi_F a_packed pk' (s * 4096 + p) (u + 1) → J (nI (g + 1)) f_capacity f_alphabet f_slots f_tables f_codeCount f_inputSize f_outputSize f_blockLength f_columnIndex f_symbolCount f_groupCount f_tableCount (nI (s * 128)) (nI (p + (u + 1))) a_input a_output a_held a_checks pk' a_block a_column a_ranks a_otherRanks a_links a_starts a_order a_shifted a_classes a_nextClasses a_buckets a_list a_symbols a_selectors a_lengths a_codes a_lengthCounts a_sorted a_weights a_parents a_depths) :
    ∀ d j k (pk' : Nat → Int32), j + d = u → d < k → (∀ i, i < j → sl_B pk' s (p + i) = true) → bi_F a_packed pk' (s * 4096 + p) j → wX_writeSelectors_35 post J (nI g) (nI u) k (nI j) f_capacity f_alphabet f_slots f_tables f_codeCount f_inputSize f_outputSize f_blockLength f_columnIndex f_symbolCount f_groupCount f_tableCount (nI (s * 128)) (nI (p + j)) a_input a_output a_held a_checks pk' a_block a_column a_ranks a_otherRanks a_links a_starts a_order a_shifted a_classes a_nextClasses a_buckets a_list a_symbols a_selectors a_lengths a_codes a_lengthCounts a_sorted a_weights a_parents a_depths := by
  intro d
  induction d with
  | zero =>
    intro j k pk' hd hk h1 h2
    obtain ⟨k, rfl⟩ : ∃ q, k = q + 1 := ⟨k - 1, by omega⟩
    have e : j = u := by omega
    subst e
    refine br_t (nI_le (Nat.le_refl j) (by omega)) (xw_putB (w := 1) (v := 0) hs (by omega) (by omega) (by omega) (fun pk2 g1 g2 => nm_r (nI_1 g) ?_))
    refine K pk2 ⟨fun i hi => ?_, ?_⟩ (sl_FT h2 g2)
    · exact (sl_KF g2 0 (W := p + j) (by omega) (p + i) (by omega) (by omega)).trans (h1 i hi)
    · exact g1 0 (by omega)
  | succ d ih =>
    intro j k pk' hd hk h1 h2
    obtain ⟨k, rfl⟩ : ∃ q, k = q + 1 := ⟨k - 1, by omega⟩
    refine br_f (nI_ge (by omega) (by omega)) (xw_putB (w := 1) (v := 1) hs (by omega) (by omega) (by omega) (fun pk2 g1 g2 => nm_r (nI_1 j) ?_))
    refine ih (j + 1) k pk2 (by omega) (by omega) (fun i hi => ?_) (sl_FT h2 g2)
    by_cases z : i = j
    · subst z; exact g1 0 (by omega)
    · exact (sl_KF g2 0 (W := p + j) (by omega) (p + i) (by omega) (by omega)).trans (h1 i (by omega))
theorem xw_ws10 {post : SX → Prop} {s p tc G : Nat} {sel : Nat → Nat} (hs : s < 4) (htc : tc ≤ 4) (hG : G ≤ 6) (hp : p ≤ 1000) (hsel : wk_sy G tc a_selectors sel)
    (K : ∀ (pk' l' : Nat → Int32) (pl : Nat → Nat), mt_M tc G sel pl → (∀ g, g < G → sl_U (sl_B pk' s) (p + ca_s (fun h => pl h + 1) g) (pl g)) → bi_F a_packed pk' (s * 4096 + p) (ca_s (fun h => pl h + 1) G) → post (f_capacity, f_alphabet, f_slots, f_tables, f_codeCount, f_inputSize, f_outputSize, f_blockLength, f_columnIndex, f_symbolCount, nI G, nI tc, nI (s * 128), nI (p + ca_s (fun h => pl h + 1) G), a_input, a_output, a_held, a_checks, pk', a_block, a_column, a_ranks, a_otherRanks, a_links, a_starts, a_order, a_shifted, a_classes, a_nextClasses, a_buckets, l', a_symbols, a_selectors, a_lengths, a_codes, a_lengthCounts, a_sorted, a_weights, a_parents, a_depths)) :
    ∀ d g k (pk' l' : Nat → Int32) (pl : Nat → Nat), g + d = G → d < k → mt_M tc g sel pl → (∀ h, h < g → sl_U (sl_B pk' s) (p + ca_s (fun h => pl h + 1) h) (pl h)) → bi_F a_packed pk' (s * 4096 + p) (ca_s (fun h => pl h + 1) g) → (∀ j, j < tc → l' j = nI (mt_l pl g j)) →
    wX_writeSelectors_10 post k (nI g) f_capacity f_alphabet f_slots f_tables f_codeCount f_inputSize f_outputSize f_blockLength f_columnIndex f_symbolCount (nI G) (nI tc) (nI (s * 128)) (nI (p + ca_s (fun h => pl h + 1) g)) a_input a_output a_held a_checks pk' a_block a_column a_ranks a_otherRanks a_links a_starts a_order a_shifted a_classes a_nextClasses a_buckets l' a_symbols a_selectors a_lengths a_codes a_lengthCounts a_sorted a_weights a_parents a_depths := by
  intro d
  induction d with
  | zero =>
    intro g k pk' l' pl hd hk hM hU hF hl
    obtain ⟨k, rfl⟩ : ∃ q, k = q + 1 := ⟨k - 1, by omega⟩
    have e : g = G := by omega
    subst e
    exact br_t (nI_le (Nat.le_refl g) (by omega)) (K pk' l' pl hM hU hF)
  | succ d ih =>
    intro g k pk' l' pl hd hk hM hU hF hl
    obtain ⟨k, rfl⟩ : ∃ q, k = q + 1 := ⟨k - 1, by omega⟩
    have hsg := hsel g (by omega)
    have P := mt_lP (A := tc) (fun q hq => (hM q hq).1) g (Nat.le_refl g)
    obtain ⟨u, hu, e⟩ := ca_sur P hsg.2
    have hb : ca_s (fun h => pl h + 1) g ≤ g * 4 := ca_sbd (fun h hh => by have := (hM h hh).1; omega)
    refine br_f (nI_ge (by omega) (by omega)) ⟨vp_in_nI (by omega) (by omega), ?_⟩
    rw [wk_c (i := g) (by omega), hsg.1]
    refine xw_po (by omega) hl P hu e ⟨u + 1, xw_ws35 (p := p + ca_s (fun h => pl h + 1) g) hs (by omega) (fun pk2 g1 g2 => ?_) u 0 (u + 1) _ (by omega) (by omega) (fun i hi => by omega) (bi_F0 _ _)⟩
    have el : ∀ q, q ≤ g → mt_l (fun q => if q = g then u else pl q) q = mt_l pl q := fun q hq => mt_lcong (fun t ht => if_neg (by omega))
    have es : ∀ q, q ≤ g → ca_s (fun h => (if h = g then u else pl h) + 1) q = ca_s (fun h => pl h + 1) q := fun q hq => ca_sc (fun h hh => by rw [if_neg (by omega)])
    have es1 : ca_s (fun h => (if h = g then u else pl h) + 1) (g + 1) = ca_s (fun h => pl h + 1) g + (u + 1) := by
      rw [ca_ss, es g (by omega), if_pos rfl]
    have hgo := ih (g + 1) k pk2 (wk_mf l' u) (fun q => if q = g then u else pl q) (by omega) (by omega) (fun q hqr => ?_) (fun h hh => ?_) ?_ ?_
    · rw [es1, ← Nat.add_assoc] at hgo
      exact hgo
    · by_cases z : q = g
      · subst z
        rw [el q (by omega)]
        show (if q = q then u else pl q) < tc ∧ mt_l pl q (if q = q then u else pl q) = sel q
        rw [if_pos rfl]; exact ⟨hu, e⟩
      · rw [el q (by omega)]
        show (if q = g then u else pl q) < tc ∧ mt_l pl q (if q = g then u else pl q) = sel q
        rw [if_neg z]; exact hM q (by omega)
    · show sl_U (sl_B pk2 s) (p + ca_s (fun h => (if h = g then u else pl h) + 1) h) (if h = g then u else pl h)
      rw [es h (by omega)]
      by_cases z : h = g
      · subst z; rw [if_pos rfl]; exact g1
      · rw [if_neg z]
        have hmo := ca_smono (fun h => pl h + 1) (a := h + 1) (b := g) (by omega)
        rw [ca_ss] at hmo
        exact sl_Uk (hU h (by omega)) (sl_KF g2 0 (Nat.le_of_eq (Nat.zero_add _))) (by omega) (by omega)
    · rw [es1]; exact sl_FT hF g2
    · rw [mt_ls, el g (by omega), if_pos rfl]
      exact wk_mfh hl hu
theorem xw_ws {post : SX → Prop} {s p tc G : Nat} {sel : Nat → Nat} (hs : s < 4) (htc : tc ≤ 4) (hG : G ≤ 6) (hp : p ≤ 1000) (hsel : wk_sy G tc a_selectors sel)
    (K : ∀ (pk' l' : Nat → Int32) (pl : Nat → Nat), mt_M tc G sel pl → (∀ g, g < G → sl_U (sl_B pk' s) (p + ca_s (fun h => pl h + 1) g) (pl g)) → bi_F a_packed pk' (s * 4096 + p) (ca_s (fun h => pl h + 1) G) → post (f_capacity, f_alphabet, f_slots, f_tables, f_codeCount, f_inputSize, f_outputSize, f_blockLength, f_columnIndex, f_symbolCount, nI G, nI tc, nI (s * 128), nI (p + ca_s (fun h => pl h + 1) G), a_input, a_output, a_held, a_checks, pk', a_block, a_column, a_ranks, a_otherRanks, a_links, a_starts, a_order, a_shifted, a_classes, a_nextClasses, a_buckets, l', a_symbols, a_selectors, a_lengths, a_codes, a_lengthCounts, a_sorted, a_weights, a_parents, a_depths)) :
    wpX_writeSelectors post (f_capacity, f_alphabet, f_slots, f_tables, f_codeCount, f_inputSize, f_outputSize, f_blockLength, f_columnIndex, f_symbolCount, nI G, nI tc, nI (s * 128), nI p, a_input, a_output, a_held, a_checks, a_packed, a_block, a_column, a_ranks, a_otherRanks, a_links, a_starts, a_order, a_shifted, a_classes, a_nextClasses, a_buckets, a_list, a_symbols, a_selectors, a_lengths, a_codes, a_lengthCounts, a_sorted, a_weights, a_parents, a_depths) :=
  xw_reset (by omega) ⟨G + 1, xw_ws10 hs htc hG hp hsel K G 0 (G + 1) _ _ (fun _ => 0) (by omega) (by omega) (fun q hq => by omega) (fun q hq => by omega) (bi_F0 _ _) (fun j hj => wk_ovl hj)⟩
end
end
section
/-! writing the lengths of a table -/
def sl_P (B : Nat → Bool) (q d : Nat) (b : Bool) : Prop := ∀ i, i < d → B (q + 2 * i) = true ∧ B (q + 2 * i + 1) = b
theorem sl_Ps {B C : Nat → Bool} {q d : Nat} {b : Bool} (h : sl_P B q d b) (k : sl_K B C 0 (q + 2 * d)) (h1 : C (q + 2 * d) = true) (h2 : C (q + 2 * d + 1) = b) : sl_P C q (d + 1) b := by
  intro i hi
  by_cases e : i = d
  · subst e; exact ⟨h1, h2⟩
  · have := h i (by omega)
    exact ⟨(k _ (by omega) (by omega)).trans this.1, (k _ (by omega) (by omega)).trans this.2⟩
theorem sl_Pd {B C : Nat → Bool} {q d : Nat} {b : Bool} (h : sl_P B q d b) (k : sl_K B C 0 (q + 2 * d)) (h1 : C (q + 2 * d) = false) : sl_D C q d b :=
  ⟨fun i hi => ⟨(k _ (by omega) (by omega)).trans (h i hi).1, (k _ (by omega) (by omega)).trans (h i hi).2⟩, h1⟩
section
variable {f_capacity f_alphabet f_slots f_tables f_codeCount f_inputSize f_outputSize f_blockLength f_columnIndex f_symbolCount f_groupCount f_tableCount f_bitBase f_bitPlace : Int32} {a_input a_output a_held a_checks a_packed a_block a_column a_ranks a_otherRanks a_links a_starts a_order a_shifted a_classes a_nextClasses a_buckets a_list a_symbols a_selectors a_lengths a_codes a_lengthCounts a_sorted a_weights a_parents a_depths : Nat → Int32}
theorem xw_wl66 {post : SX → Prop} {J : Int32 → Int32 → Int32 → Int32 → Int32 → Int32 → Int32 → Int32 → Int32 → Int32 → Int32 → Int32 → Int32 → Int32 → Int32 → Int32 → (Nat → Int32) → (Nat → Int32) → (Nat → Int32) → (Nat → Int32) → (Nat → Int32) → (Nat → Int32) → (Nat → Int32) → (Nat → Int32) → (Nat → Int32) → (Nat → Int32) → (Nat → Int32) → (Nat → Int32) → (Nat → Int32) → (Nat → Int32) → (Nat → Int32) → (Nat → Int32) → (Nat → Int32) → (Nat → Int32) → (Nat → Int32) → (Nat → Int32) → (Nat → Int32) → (Nat → Int32) → (Nat → Int32) → (Nat → Int32) → (Nat → Int32) → (Nat → Int32) → Prop}
    {s p D v w : Nat} {x2 : Int32} {b : Bool} (hs : s < 4) (hD : p + 2 * D + 1 ≤ 4096) (hw : w ≤ 16)
    (K : ∀ pk' : Nat → Int32, sl_D (sl_B pk' s) p D b → bi_F a_packed pk' (s * 4096 + p) (2 * D + 1) → J (nI w) (nI (v + 1)) f_capacity f_alphabet f_slots f_tables f_codeCount f_inputSize f_outputSize f_blockLength f_columnIndex f_symbolCount f_groupCount f_tableCount (nI (s * 128)) (nI (p + (2 * D + 1))) a_input a_output a_held a_checks pk' a_block a_column a_ranks a_otherRanks a_links a_starts a_order a_shifted a_classes a_nextClasses a_buckets a_list a_symbols a_selectors a_lengths a_codes a_lengthCounts a_sorted a_weights a_parents a_depths) :
    ∀ d j k c (pk' : Nat → Int32), j + d = D → c - w = d → c ≤ 16 → (0 < d → b = true) → d < k → sl_P (sl_B pk' s) p j b → bi_F a_packed pk' (s * 4096 + p) (2 * j) →
    wX_writeLengths_66 post J x2 (nI v) (nI w) k (nI c) f_capacity f_alphabet f_slots f_tables f_codeCount f_inputSize f_outputSize f_blockLength f_columnIndex f_symbolCount f_groupCount f_tableCount (nI (s * 128)) (nI (p + 2 * j)) a_input a_output a_held a_checks pk' a_block a_column a_ranks a_otherRanks a_links a_starts a_order a_shifted a_classes a_nextClasses a_buckets a_list a_symbols a_selectors a_lengths a_codes a_lengthCounts a_sorted a_weights a_parents a_depths := by
  intro d
  induction d with
  | zero =>
    intro j k c pk' hd hc hc2 hb hk h1 h2
    obtain ⟨k, rfl⟩ : ∃ q, k = q + 1 := ⟨k - 1, by omega⟩
    have e : j = D := by omega
    subst e
    refine br_t (nI_le (by omega) (by omega)) (xw_putB (w := 1) (v := 0) hs (by omega) (by omega) (by omega) (fun pk2 g1 g2 => nm_r (nI_1 v) ?_))
    exact K pk2 (sl_Pd h1 (sl_KF g2 0 (by omega)) (g1 0 (by omega))) (sl_FT h2 g2)
  | succ d ih =>
    intro j k c pk' hd hc hc2 hb hk h1 h2
    obtain ⟨k, rfl⟩ : ∃ q, k = q + 1 := ⟨k - 1, by omega⟩
    refine br_f (nI_ge (by omega) (by omega)) (xw_putB (w := 2) (v := 3) hs (by omega) (by omega) (by omega) (fun pk2 g1 g2 => nm_r (sb_m1 (by omega)) ?_))
    have hb' := hb (by omega)
    exact ih (j + 1) k (c - 1) pk2 (by omega) (by omega) (by omega) (fun _ => hb') (by omega) (sl_Ps h1 (sl_KF g2 0 (by omega)) (g1 0 (by omega)) (by rw [hb']; exact g1 1 (by omega))) (sl_FT h2 g2)
theorem xw_wl44 {post : SX → Prop} {J : Int32 → Int32 → Int32 → Int32 → Int32 → Int32 → Int32 → Int32 → Int32 → Int32 → Int32 → Int32 → Int32 → Int32 → Int32 → Int32 → (Nat → Int32) → (Nat → Int32) → (Nat → Int32) → (Nat → Int32) → (Nat → Int32) → (Nat → Int32) → (Nat → Int32) → (Nat → Int32) → (Nat → Int32) → (Nat → Int32) → (Nat → Int32) → (Nat → Int32) → (Nat → Int32) → (Nat → Int32) → (Nat → Int32) → (Nat → Int32) → (Nat → Int32) → (Nat → Int32) → (Nat → Int32) → (Nat → Int32) → (Nat → Int32) → (Nat → Int32) → (Nat → Int32) → (Nat → Int32) → (Nat → Int32) → (Nat → Int32) → Prop}
    {s p v w a : Nat} {x2 : Int32} (hs : s < 4) (hD : p + 2 * ((w - a) + (a - w)) + 1 ≤ 4096) (hw : w ≤ 16) (ha : a ≤ 16)
    (K : ∀ pk' : Nat → Int32, sl_D (sl_B pk' s) p ((w - a) + (a - w)) (decide (w < a)) → bi_F a_packed pk' (s * 4096 + p) (2 * ((w - a) + (a - w)) + 1) → J (nI w) (nI (v + 1)) f_capacity f_alphabet f_slots f_tables f_codeCount f_inputSize f_outputSize f_blockLength f_columnIndex f_symbolCount f_groupCount f_tableCount (nI (s * 128)) (nI (p + (2 * ((w - a) + (a - w)) + 1))) a_input a_output a_held a_checks pk' a_block a_column a_ranks a_otherRanks a_links a_starts a_order a_shifted a_classes a_nextClasses a_buckets a_list a_symbols a_selectors a_lengths a_codes a_lengthCounts a_sorted a_weights a_parents a_depths) :
    ∀ d j k c (pk' : Nat → Int32), j + d = w - a → c = a + j → d < k → sl_P (sl_B pk' s) p j (decide (w < a)) → bi_F a_packed pk' (s * 4096 + p) (2 * j) →
    wX_writeLengths_44 post J x2 (nI a) (nI v) (nI w) k (nI c) f_capacity f_alphabet f_slots f_tables f_codeCount f_inputSize f_outputSize f_blockLength f_columnIndex f_symbolCount f_groupCount f_tableCount (nI (s * 128)) (nI (p + 2 * j)) a_input a_output a_held a_checks pk' a_block a_column a_ranks a_otherRanks a_links a_starts a_order a_shifted a_classes a_nextClasses a_buckets a_list a_symbols a_selectors a_lengths a_codes a_lengthCounts a_sorted a_weights a_parents a_depths := by
  intro d
  induction d with
  | zero =>
    intro j k c pk' hd hc hk h1 h2
    obtain ⟨k, rfl⟩ : ∃ q, k = q + 1 := ⟨k - 1, by omega⟩
    exact br_t (nI_le (by omega) (by omega)) ⟨a - w + 1, xw_wl66 hs hD hw (fun pk2 g1 g2 => K pk2 g1 (fun i hi => g2 i hi)) (a - w) j _ a pk' (by omega) rfl ha (fun z => decide_eq_true (by omega)) (by omega) h1 h2⟩
  | succ d ih =>
    intro j k c pk' hd hc hk h1 h2
    obtain ⟨k, rfl⟩ : ∃ q, k = q + 1 := ⟨k - 1, by omega⟩
    have hb : decide (w < a) = false := decide_eq_false (by omega)
    refine br_f (nI_ge (by omega) (by omega)) (xw_putB (w := 2) (v := 2) hs (by omega) (by omega) (by omega) (fun pk2 g1 g2 => nm_r (nI_1 c) ?_))
    exact ih (j + 1) k (c + 1) pk2 (by omega) (by omega) (by omega) (sl_Ps h1 (sl_KF g2 0 (by omega)) (g1 0 (by omega)) (by rw [hb]; exact g1 1 (by omega))) (sl_FT h2 g2)
theorem xw_wl21 {post : SX → Prop} {s p t cc : Nat} {l : Nat → Nat} (hs : s < 4) (ht : t < 4) (hcc : cc ≤ 17) (hp : p + 532 ≤ 4096) (hG : hu_G l cc) (hl : ∀ v, v < cc → a_lengths (t * 17 + v) = nI (l v))
    (K : ∀ pk' : Nat → Int32, (∀ v, v < cc → sl_D (sl_B pk' s) (p + 5 + ca_s (fun v => 2 * sl_d l v + 1) v) (sl_d l v) (decide (l v < sl_r l v))) → bi_F a_packed pk' (s * 4096 + (p + 5)) (ca_s (fun v => 2 * sl_d l v + 1) cc) → post (f_capacity, f_alphabet, f_slots, f_tables, nI cc, f_inputSize, f_outputSize, f_blockLength, f_columnIndex, f_symbolCount, f_groupCount, f_tableCount, nI (s * 128), nI (p + 5 + ca_s (fun v => 2 * sl_d l v + 1) cc), a_input, a_output, a_held, a_checks, pk', a_block, a_column, a_ranks, a_otherRanks, a_links, a_starts, a_order, a_shifted, a_classes, a_nextClasses, a_buckets, a_list, a_symbols, a_selectors, a_lengths, a_codes, a_lengthCounts, a_sorted, a_weights, a_parents, a_depths)) :
    ∀ d v k (pk' : Nat → Int32), v + d = cc → d < k → (∀ u, u < v → sl_D (sl_B pk' s) (p + 5 + ca_s (fun v => 2 * sl_d l v + 1) u) (sl_d l u) (decide (l u < sl_r l u))) → bi_F a_packed pk' (s * 4096 + (p + 5)) (ca_s (fun v => 2 * sl_d l v + 1) v) →
    wX_writeLengths_21 post (nI (t * 17)) k (nI (sl_r l v)) (nI v) f_capacity f_alphabet f_slots f_tables (nI cc) f_inputSize f_outputSize f_blockLength f_columnIndex f_symbolCount f_groupCount f_tableCount (nI (s * 128)) (nI (p + 5 + ca_s (fun v => 2 * sl_d l v + 1) v)) a_input a_output a_held a_checks pk' a_block a_column a_ranks a_otherRanks a_links a_starts a_order a_shifted a_classes a_nextClasses a_buckets a_list a_symbols a_selectors a_lengths a_codes a_lengthCounts a_sorted a_weights a_parents a_depths := by
  intro d
  induction d with
  | zero =>
    intro v k pk' hd hk h1 h2
    obtain ⟨k, rfl⟩ : ∃ q, k = q + 1 := ⟨k - 1, by omega⟩
    have e : v = cc := by omega
    subst e
    exact br_t (nI_le (Nat.le_refl v) (by omega)) (K pk' h1 h2)
  | succ d ih =>
    intro v k pk' hd hk h1 h2
    obtain ⟨k, rfl⟩ : ∃ q, k = q + 1 := ⟨k - 1, by omega⟩
    have hb := sl_L5 hG (v := v) (by omega) hcc
    have h15 := sl_d15 hG (v := v) (by omega)
    have hlv := hG.1 v (by omega)
    have hlr : sl_r l v ≤ 16 := by
      have g1 := hG.1 0 (by omega)
      have g2 := hG.1 (v - 1) (by omega)
      unfold sl_r; split <;> omega
    have er : sl_r l (v + 1) = l v := by unfold sl_r; rw [if_neg (by omega), Nat.add_sub_cancel]
    refine br_f (nI_ge (by omega) (by omega)) ?_
    rw [nI_add (t * 17) v, wk_c (i := t * 17 + v) (by omega), hl v (by omega)]
    refine ⟨vp_in_nI (by omega) (by omega), nm_e ⟨l v - sl_r l v + 1, ?_⟩⟩
    refine xw_wl44 (p := p + 5 + ca_s (fun v => 2 * sl_d l v + 1) v) hs ?_ (by omega) hlr (fun pk2 g1 g2 => ?_) (l v - sl_r l v) 0 _ (sl_r l v) pk' (by omega) (by omega) (by omega) (fun i hi => by omega) (bi_F0 _ _)
    · show _ + 2 * sl_d l v + 1 ≤ 4096
      omega
    · have hgo := ih (v + 1) k pk2 (by omega) (by omega) (fun u hu => ?_) ?_
      · rw [er, ca_ss, ← Nat.add_assoc] at hgo
        exact hgo
      · by_cases z : u = v
        · subst z; exact g1
        · have hmo := ca_smono (fun v => 2 * sl_d l v + 1) (a := u + 1) (b := v) (by omega)
          rw [ca_ss] at hmo
          exact sl_Dk (h1 u (by omega)) (sl_KF g2 0 (Nat.le_of_eq (Nat.zero_add _))) (by omega) (by omega)
      · rw [ca_ss]; exact sl_FT h2 g2
theorem xw_wl {post : SX → Prop} {s p t cc : Nat} {l : Nat → Nat} (hs : s < 4) (ht : t < 4) (hcc : cc ≤ 17) (h0 : 0 < cc) (hp : p + 532 ≤ 4096) (hG : hu_G l cc) (hl : ∀ v, v < cc → a_lengths (t * 17 + v) = nI (l v))
    (K : ∀ pk' : Nat → Int32, sl_T (sl_B pk' s) p cc l → bi_F a_packed pk' (s * 4096 + p) (sl_L l cc) → post (f_capacity, f_alphabet, f_slots, f_tables, nI cc, f_inputSize, f_outputSize, f_blockLength, f_columnIndex, f_symbolCount, f_groupCount, f_tableCount, nI (s * 128), nI (p + sl_L l cc), a_input, a_output, a_held, a_checks, pk', a_block, a_column, a_ranks, a_otherRanks, a_links, a_starts, a_order, a_shifted, a_classes, a_nextClasses, a_buckets, a_list, a_symbols, a_selectors, a_lengths, a_codes, a_lengthCounts, a_sorted, a_weights, a_parents, a_depths)) : wpX_writeLengths post (f_capacity, f_alphabet, f_slots, f_tables, nI cc, f_inputSize, f_outputSize, f_blockLength, f_columnIndex, f_symbolCount, f_groupCount, f_tableCount, nI (s * 128), nI p, a_input, a_output, a_held, a_checks, a_packed, a_block, a_column, a_ranks, a_otherRanks, a_links, a_starts, a_order, a_shifted, a_classes, a_nextClasses, a_buckets, a_list, a_symbols, a_selectors, a_lengths, a_codes, a_lengthCounts, a_sorted, a_weights, a_parents, a_depths) (nI t) := by
  have h00 := hl 0 h0
  have hl0 := hG.1 0 h0
  refine nm_r (e' := nI (t * 17)) (pk_mul t 17) ⟨vp_in_nI (by omega) (by omega), nm_r (e' := nI (l 0)) (by rw [wk_c (by omega)]; exact h00) ?_⟩
  refine xw_putB (w := 5) hs (by omega) (by omega) (by omega) (fun pk2 g1 g2 => ⟨cc + 1, ?_⟩)
  refine xw_wl21 (a_packed := pk2) hs ht hcc hp hG hl (fun pk3 h1 h2 => ?_) cc 0 _ pk2 (by omega) (by omega) (fun u hu => by omega) (bi_F0 _ _)
  have hgo := K pk3 ⟨sl_Sk g1 (sl_KF h2 p (Nat.le_refl _)) (by omega) (by omega), h1⟩ (by unfold sl_L; exact sl_FT g2 h2)
  unfold sl_L at hgo
  rw [← Nat.add_assoc] at hgo
  exact hgo
end
end
section
/-! writing a slot -/
/-- the part behind the two first numbers, at its places -/
def sl_ps (pl : Nat → Nat) (G : Nat) : Nat := 21 + ca_s (fun h => pl h + 1) G
def sl_pt (pl : Nat → Nat) (G cc : Nat) (len : Nat → Nat → Nat) (t : Nat) : Nat := sl_ps pl G + ca_s (fun t => sl_L (len t) cc) t
def sl_cw (sel y : Nat → Nat) (len : Nat → Nat → Nat) (q : Nat) : Nat := len (sel (q / 8)) (y q)
def sl_pc (pl : Nat → Nat) (G cc tc : Nat) (sel y : Nat → Nat) (len : Nat → Nat → Nat) (q : Nat) : Nat := sl_pt pl G cc len tc + ca_s (sl_cw sel y len) q
def sl_M (B : Nat → Bool) (cc sc tc : Nat) (sel pl y : Nat → Nat) (len : Nat → Nat → Nat) : Prop :=
  sl_S B 12 6 sc ∧ sl_S B 18 3 tc ∧ (∀ g, g < (sc + 7) / 8 → sl_U B (sl_ps pl g) (pl g)) ∧ (∀ t, t < tc → sl_T B (sl_pt pl ((sc + 7) / 8) cc len t) cc (len t)) ∧
  (∀ q, q < sc → sl_S B (sl_pc pl ((sc + 7) / 8) cc tc sel y len q) (sl_cw sel y len q) (hu_c (len (sel (q / 8))) cc (y q)))
theorem sl_psb {tc G : Nat} {sel pl : Nat → Nat} (hM : mt_M tc G sel pl) (htc : tc ≤ 4) {g : Nat} (hg : g ≤ G) : sl_ps pl g ≤ 21 + g * 4 := by
  have := ca_sbd (f := fun h => pl h + 1) (c := 4) (n := g) (fun h hh => by have := (hM h (by omega)).1; omega)
  unfold sl_ps; omega
theorem sl_Lb {cc : Nat} {l : Nat → Nat} (h : hu_G l cc) (hcc : cc ≤ 17) : sl_L l cc ≤ 532 := by
  have := sl_L5 h (v := cc) (Nat.le_refl _) hcc
  unfold sl_L
  have h2 : cc * 31 ≤ 17 * 31 := Nat.mul_le_mul_right 31 hcc
  omega
theorem sl_ptb {tc G cc : Nat} {sel pl : Nat → Nat} {len : Nat → Nat → Nat} (hM : mt_M tc G sel pl) (htc : tc ≤ 4) (hcc : cc ≤ 17) (hG : ∀ t, t < tc → hu_G (len t) cc) {t : Nat} (ht : t ≤ tc) : sl_pt pl G cc len t ≤ 21 + G * 4 + t * 532 := by
  have h1 := sl_psb hM htc (Nat.le_refl G)
  have h2 := ca_sbd (f := fun t => sl_L (len t) cc) (c := 532) (n := t) (fun u hu => sl_Lb (hG u (by omega)) hcc)
  unfold sl_pt; omega
theorem sl_pcb {sc tc G cc : Nat} {sel pl y : Nat → Nat} {len : Nat → Nat → Nat} (hM : mt_M tc G sel pl) (htc : tc ≤ 4) (hcc : cc ≤ 17) (hG : ∀ t, t < tc → hu_G (len t) cc) (hw : ∀ q, q < sc → sl_cw sel y len q ≤ 16) {q : Nat} (hq : q ≤ sc) : sl_pc pl G cc tc sel y len q ≤ 21 + G * 4 + tc * 532 + q * 16 := by
  have h1 := sl_ptb hM htc hcc hG (Nat.le_refl tc)
  have h2 := ca_sbd (f := sl_cw sel y len) (c := 16) (n := q) (fun u hu => hw u (by omega))
  unfold sl_pc; omega
section
variable {f_capacity f_alphabet f_slots f_tables f_codeCount f_inputSize f_outputSize f_blockLength f_columnIndex f_symbolCount f_groupCount f_tableCount f_bitBase f_bitPlace : Int32} {a_input a_output a_held a_checks a_packed a_block a_column a_ranks a_otherRanks a_links a_starts a_order a_shifted a_classes a_nextClasses a_buckets a_list a_symbols a_selectors a_lengths a_codes a_lengthCounts a_sorted a_weights a_parents a_depths : Nat → Int32}
theorem xw_wr78 {post : SX → Prop} {s cc sc tc G : Nat} {sel pl y : Nat → Nat} {len : Nat → Nat → Nat} (hs : s < 4) (hcc : cc ≤ 17) (hsc : sc ≤ 48) (htc : tc ≤ 4) (hGs : G = (sc + 7) / 8) (hM : mt_M tc G sel pl) (hT : wk_tab cc tc a_lengths len) (hC : wk_cod cc tc a_codes len) (hsel : wk_sy G tc a_selectors sel) (hy : wk_sy sc cc a_symbols y)
    (K : ∀ pk' : Nat → Int32, (∀ q, q < sc → sl_S (sl_B pk' s) (sl_pc pl G cc tc sel y len q) (sl_cw sel y len q) (hu_c (len (sel (q / 8))) cc (y q))) → bi_F a_packed pk' (s * 4096 + sl_pt pl G cc len tc) (ca_s (sl_cw sel y len) sc) → post (f_capacity, f_alphabet, f_slots, f_tables, nI cc, f_inputSize, f_outputSize, f_blockLength, f_columnIndex, nI sc, f_groupCount, nI tc, nI (s * 128), nI (sl_pc pl G cc tc sel y len sc), a_input, a_output, a_held, a_checks, pk', a_block, a_column, a_ranks, a_otherRanks, a_links, a_starts, a_order, a_shifted, a_classes, a_nextClasses, a_buckets, a_list, a_symbols, a_selectors, a_lengths, a_codes, a_lengthCounts, a_sorted, a_weights, a_parents, a_depths)) :
    ∀ d q k (pk' : Nat → Int32), q + d = sc → d < k → (∀ r, r < q → sl_S (sl_B pk' s) (sl_pc pl G cc tc sel y len r) (sl_cw sel y len r) (hu_c (len (sel (r / 8))) cc (y r))) → bi_F a_packed pk' (s * 4096 + sl_pt pl G cc len tc) (ca_s (sl_cw sel y len) q) →
    wX_writeSlot_78 post k (nI q) f_capacity f_alphabet f_slots f_tables (nI cc) f_inputSize f_outputSize f_blockLength f_columnIndex (nI sc) f_groupCount (nI tc) (nI (s * 128)) (nI (sl_pc pl G cc tc sel y len q)) a_input a_output a_held a_checks pk' a_block a_column a_ranks a_otherRanks a_links a_starts a_order a_shifted a_classes a_nextClasses a_buckets a_list a_symbols a_selectors a_lengths a_codes a_lengthCounts a_sorted a_weights a_parents a_depths := by
  have hw : ∀ q, q < sc → sl_cw sel y len q ≤ 16 := by
    intro q hq
    have h1 := (hsel (q / 8) (by omega)).2
    exact ((hT _ h1).1.1 _ (hy q hq).2).2
  intro d
  induction d with
  | zero =>
    intro q k pk' hd hk h1 h2
    obtain ⟨k, rfl⟩ : ∃ q, k = q + 1 := ⟨k - 1, by omega⟩
    have e : q = sc := by omega
    subst e
    exact br_t (nI_le (Nat.le_refl q) (by omega)) (K pk' h1 h2)
  | succ d ih =>
    intro q k pk' hd hk h1 h2
    obtain ⟨k, rfl⟩ : ∃ q, k = q + 1 := ⟨k - 1, by omega⟩
    have hs8 := hsel (q / 8) (by omega)
    have hyq := hy q (by omega)
    have hTq := hT _ hs8.2
    have hw16 := hw q (by omega)
    have hpc := sl_pcb hM htc hcc (fun t ht => (hT t ht).1) hw (q := q) (by omega)
    have hpc1 : sl_pc pl G cc tc sel y len q + sl_cw sel y len q = sl_pc pl G cc tc sel y len (q + 1) := by
      unfold sl_pc; rw [ca_ss, Nat.add_assoc]
    have hcl := hu_clt hTq.1 hyq.2
    have hc31 : hu_c (len (sel (q / 8))) cc (y q) < 2 ^ 31 := Nat.lt_of_lt_of_le hcl (Nat.pow_le_pow_right (by omega) (by have := (hTq.1.1 _ hyq.2).2; omega))
    refine br_f (nI_ge (by omega) (by omega)) ?_
    rw [wk_shr3 (l := q) (by omega), wk_c (i := q / 8) (by omega), wk_c (i := q) (by omega), hs8.1, hyq.1]
    refine ⟨vp_in_nI (by omega) (by omega), vp_in_nI (by omega) (by omega), nm_r (wk_t17 _ _) ?_⟩
    rw [wk_c (i := sel (q / 8) * 17 + y q) (by omega), hTq.2 _ hyq.2, hC _ hs8.2 _ hyq.2]
    refine ⟨vp_in_nI (by omega) (by omega), vp_in_nI (by omega) (by omega), ?_⟩
    refine xw_putB (w := sl_cw sel y len q) hs (by omega) hc31 (by omega) (fun pk2 g1 g2 => nm_r (nI_1 q) ?_)
    rw [hpc1]
    refine ih (q + 1) k pk2 (by omega) (by omega) (fun r hr => ?_) ?_
    · by_cases z : r = q
      · subst z; exact g1
      · have hmo := ca_smono (sl_cw sel y len) (a := r + 1) (b := q) (by omega)
        rw [ca_ss] at hmo
        exact sl_Sk (h1 r (by omega)) (sl_KF g2 0 (Nat.le_of_eq (Nat.zero_add _))) (by omega) (by unfold sl_pc; omega)
    · rw [ca_ss]; exact sl_FT h2 g2
theorem xw_wr57 {post : SX → Prop} {s cc sc tc G : Nat} {sel pl y : Nat → Nat} {len : Nat → Nat → Nat} (hs : s < 4) (hcc : cc ≤ 17) (h0 : 0 < cc) (hsc : sc ≤ 48) (htc : tc ≤ 4) (hGs : G = (sc + 7) / 8) (hM : mt_M tc G sel pl) (hT : wk_tab cc tc a_lengths len) (hC : wk_cod cc tc a_codes len) (hsel : wk_sy G tc a_selectors sel) (hy : wk_sy sc cc a_symbols y)
    (K : ∀ pk' : Nat → Int32, (∀ t, t < tc → sl_T (sl_B pk' s) (sl_pt pl G cc len t) cc (len t)) → (∀ q, q < sc → sl_S (sl_B pk' s) (sl_pc pl G cc tc sel y len q) (sl_cw sel y len q) (hu_c (len (sel (q / 8))) cc (y q))) → bi_F a_packed pk' (s * 4096 + sl_ps pl G) (ca_s (fun t => sl_L (len t) cc) tc + ca_s (sl_cw sel y len) sc) → post (f_capacity, f_alphabet, f_slots, f_tables, nI cc, f_inputSize, f_outputSize, f_blockLength, f_columnIndex, nI sc, f_groupCount, nI tc, nI (s * 128), nI (sl_pc pl G cc tc sel y len sc), a_input, a_output, a_held, a_checks, pk', a_block, a_column, a_ranks, a_otherRanks, a_links, a_starts, a_order, a_shifted, a_classes, a_nextClasses, a_buckets, a_list, a_symbols, a_selectors, a_lengths, a_codes, a_lengthCounts, a_sorted, a_weights, a_parents, a_depths)) :
    ∀ d t k (pk' : Nat → Int32), t + d = tc → d < k → (∀ r, r < t → sl_T (sl_B pk' s) (sl_pt pl G cc len r) cc (len r)) → bi_F a_packed pk' (s * 4096 + sl_ps pl G) (ca_s (fun t => sl_L (len t) cc) t) →
    wX_writeSlot_57 post k (nI t) f_capacity f_alphabet f_slots f_tables (nI cc) f_inputSize f_outputSize f_blockLength f_columnIndex (nI sc) f_groupCount (nI tc) (nI (s * 128)) (nI (sl_pt pl G cc len t)) a_input a_output a_held a_checks pk' a_block a_column a_ranks a_otherRanks a_links a_starts a_order a_shifted a_classes a_nextClasses a_buckets a_list a_symbols a_selectors a_lengths a_codes a_lengthCounts a_sorted a_weights a_parents a_depths := by
  intro d
  induction d with
  | zero =>
    intro t k pk' hd hk h1 h2
    obtain ⟨k, rfl⟩ : ∃ q, k = q + 1 := ⟨k - 1, by omega⟩
    have e : t = tc := by omega
    subst e
    refine br_t (nI_le (Nat.le_refl t) (by omega)) ⟨sc + 1, ?_⟩
    refine xw_wr78 (pl := pl) hs hcc hsc htc hGs hM hT hC hsel hy (fun pk2 g1 g2 => K pk2 (fun r hr => ?_) g1 (sl_FT h2 g2)) sc 0 (sc + 1) pk' (by omega) (by omega) (fun r hr => by omega) (bi_F0 _ _)
    have hmo := ca_smono (fun t => sl_L (len t) cc) (a := r + 1) (b := t) (by omega)
    rw [ca_ss] at hmo
    exact sl_Tk (h1 r hr) (sl_KF g2 0 (Nat.le_of_eq (Nat.zero_add _))) (by omega) (by unfold sl_pt; omega)
  | succ d ih =>
    intro t k pk' hd hk h1 h2
    obtain ⟨k, rfl⟩ : ∃ q, k = q + 1 := ⟨k - 1, by omega⟩
    have hTt := hT t (by omega)
    have hpt := sl_ptb hM htc hcc (fun t ht => (hT t ht).1) (t := t) (by omega)
    have hpt1 : sl_pt pl G cc len t + sl_L (len t) cc = sl_pt pl G cc len (t + 1) := by
      unfold sl_pt; rw [ca_ss, Nat.add_assoc]
    refine br_f (nI_ge (by omega) (by omega)) (xw_wl hs (by omega) hcc h0 (by omega) hTt.1 hTt.2 (fun pk2 g1 g2 => nm_r (nI_1 t) ?_))
    rw [hpt1]
    refine ih (t + 1) k pk2 (by omega) (by omega) (fun r hr => ?_) ?_
    · by_cases z : r = t
      · subst z; exact g1
      · have hmo := ca_smono (fun t => sl_L (len t) cc) (a := r + 1) (b := t) (by omega)
        rw [ca_ss] at hmo
        exact sl_Tk (h1 r (by omega)) (sl_KF g2 0 (Nat.le_of_eq (Nat.zero_add _))) (by omega) (by unfold sl_pt; omega)
    · rw [ca_ss]; exact sl_FT h2 g2
theorem bi_Fw {a b : Nat → Int32} {q w v : Nat} (h : bi_F a b q w) (hv : w ≤ v) : bi_F a b q v := fun i hi => h i (by omega)
theorem xw_write {post : SX → Prop} {s cc sc tc G n ix : Nat} {sel y : Nat → Nat} {len : Nat → Nat → Nat} (hs : s < 4) (hcc : cc ≤ 17) (h0 : 0 < cc) (hsc : sc ≤ 48) (htc : tc ≤ 4) (hGs : G = (sc + 7) / 8) (hn : n ≤ 48) (hix : ix < 64) (hT : wk_tab cc tc a_lengths len) (hC : wk_cod cc tc a_codes len) (hsel : wk_sy G tc a_selectors sel) (hy : wk_sy sc cc a_symbols y)
    (K : ∀ (pk' l' : Nat → Int32) (p : Nat) (pl : Nat → Nat), sl_S (sl_B pk' s) 0 6 n → sl_S (sl_B pk' s) 6 6 ix → (0 < n → mt_M tc G sel pl ∧ sl_M (sl_B pk' s) cc sc tc sel pl y len) → bi_F a_packed pk' (s * 4096) 4096 → post (f_capacity, f_alphabet, f_slots, f_tables, nI cc, f_inputSize, f_outputSize, nI n, nI ix, nI sc, nI G, nI tc, nI (s * 128), nI p, a_input, a_output, a_held, a_checks, pk', a_block, a_column, a_ranks, a_otherRanks, a_links, a_starts, a_order, a_shifted, a_classes, a_nextClasses, a_buckets, l', a_symbols, a_selectors, a_lengths, a_codes, a_lengthCounts, a_sorted, a_weights, a_parents, a_depths)) : wpX_writeSlot post (f_capacity, f_alphabet, f_slots, f_tables, nI cc, f_inputSize, f_outputSize, nI n, nI ix, nI sc, nI G, nI tc, f_bitBase, f_bitPlace, a_input, a_output, a_held, a_checks, a_packed, a_block, a_column, a_ranks, a_otherRanks, a_links, a_starts, a_order, a_shifted, a_classes, a_nextClasses, a_buckets, a_list, a_symbols, a_selectors, a_lengths, a_codes, a_lengthCounts, a_sorted, a_weights, a_parents, a_depths) (nI s) := by
  refine nm_r (e' := nI (s * 128)) (pk_mul s 128) ?_
  refine xw_putB (p := 0) (w := 6) hs (by omega) (by omega) (by omega) (fun pk1 a1 f1 => ?_)
  refine xw_putB (p := 0 + 6) (w := 6) hs (by omega) (by omega) (by omega) (fun pk2 a2 f2 => ?_)
  have b1 : sl_S (sl_B pk2 s) 0 6 n := sl_Sk a1 (sl_KF f2 0 (W := 6) (by omega)) (by omega) (by omega)
  have f12 : bi_F a_packed pk2 (s * 4096 + 0) (6 + 6) := sl_FT f1 f2
  rcases Nat.eq_zero_or_pos n with hz | hz
  · subst hz
    exact br_t (nI_le (a := 0) (b := 0) (by omega) (by omega)) (K pk2 _ _ (fun _ => 0) b1 a2 (fun z => by omega) (bi_Fw f12 (by omega)))
  refine br_f (nI_nle hz (by omega)) ?_
  refine xw_putB (p := 0 + 6 + 6) (w := 6) hs (by omega) (by omega) (by omega) (fun pk3 a3 f3 => ?_)
  refine xw_putB (p := 0 + 6 + 6 + 6) (w := 3) hs (by omega) (by omega) (by omega) (fun pk4 a4 f4 => ?_)
  refine xw_ws (p := 0 + 6 + 6 + 6 + 3) hs htc (by omega) (by omega) hsel (fun pk5 l5 pl hM a5 f5 => ⟨tc + 1, ?_⟩)
  refine xw_wr57 (pl := pl) hs hcc h0 hsc htc hGs hM hT hC hsel hy (fun pk6 a6 a7 f6 => ?_) tc 0 (tc + 1) pk5 (by omega) (by omega) (fun r hr => by omega) (bi_F0 _ _)
  have f1234 : bi_F a_packed pk4 (s * 4096 + 0) (6 + 6 + 6 + 3) := sl_FT (sl_FT f12 f3) f4
  have f15 : bi_F a_packed pk5 (s * 4096 + 0) (6 + 6 + 6 + 3 + ca_s (fun h => pl h + 1) G) := sl_FT f1234 f5
  have eps : 0 + 6 + 6 + 6 + 3 + ca_s (fun h => pl h + 1) G = sl_ps pl G := rfl
  have hps := sl_psb hM htc (Nat.le_refl G)
  have hw : ∀ q, q < sc → sl_cw sel y len q ≤ 16 := by
    intro q hq
    have h1 := (hsel (q / 8) (by omega)).2
    exact ((hT _ h1).1.1 _ (hy q hq).2).2
  have hpc := sl_pcb (pl := pl) hM htc hcc (fun t ht => (hT t ht).1) hw (Nat.le_refl sc)
  have e2 : sl_pc pl G cc tc sel y len sc = sl_ps pl G + (ca_s (fun t => sl_L (len t) cc) tc + ca_s (sl_cw sel y len) sc) := by
    unfold sl_pc sl_pt; omega
  have f16 : bi_F a_packed pk6 (s * 4096 + 0) (6 + 6 + 6 + 3 + ca_s (fun h => pl h + 1) G + (ca_s (fun t => sl_L (len t) cc) tc + ca_s (sl_cw sel y len) sc)) := by
    have e : sl_ps pl G = 0 + (6 + 6 + 6 + 3 + ca_s (fun h => pl h + 1) G) := by unfold sl_ps; omega
    have f7 := f6
    rw [e] at f7
    exact sl_FT f15 f7
  have k6 : sl_K (sl_B pk5 s) (sl_B pk6 s) 0 (sl_ps pl G) := sl_KF f6 0 (Nat.le_of_eq (Nat.zero_add _))
  have k5 : sl_K (sl_B pk4 s) (sl_B pk5 s) 0 21 := sl_KF f5 0 (by omega)
  have k4 : sl_K (sl_B pk3 s) (sl_B pk4 s) 0 18 := sl_KF f4 0 (by omega)
  have k3 : sl_K (sl_B pk2 s) (sl_B pk3 s) 0 12 := sl_KF f3 0 (by omega)
  have h21 : 21 ≤ sl_ps pl G := by unfold sl_ps; omega
  refine K pk6 l5 _ pl ?_ ?_ (fun _ => ⟨hM, ?_, ?_, ?_, ?_, ?_⟩) (bi_Fw f16 (by omega))
  · exact sl_Sk (sl_Sk (sl_Sk (sl_Sk b1 k3 (by omega) (by omega)) k4 (by omega) (by omega)) k5 (by omega) (by omega)) k6 (by omega) (by omega)
  · exact sl_Sk (sl_Sk (sl_Sk (sl_Sk a2 k3 (by omega) (by omega)) k4 (by omega) (by omega)) k5 (by omega) (by omega)) k6 (by omega) (by omega)
  · exact sl_Sk (sl_Sk (sl_Sk a3 k4 (by omega) (by omega)) k5 (by omega) (by omega)) k6 (by omega) (by omega)
  · exact sl_Sk (sl_Sk a4 k5 (by omega) (by omega)) k6 (by omega) (by omega)
  · rw [← hGs]
    intro g hg
    have hmo := ca_smono (fun h => pl h + 1) (a := g + 1) (b := G) (by omega)
    rw [ca_ss] at hmo
    have h := a5 g hg
    exact sl_Uk h k6 (by omega) (by unfold sl_ps; omega)
  · rw [← hGs]; exact a6
  · rw [← hGs]; exact a7
end
end
section
/-! reading a slot -/
theorem wk_or1 {a b : Nat} (hb : b < 2) : nI (2 * a) ||| nI b = nI (2 * a + b) := by
  rw [bi_or]
  have e := Nat.two_pow_add_eq_or_of_lt (i := 1) (b := b) (by omega) a
  rw [Nat.pow_one] at e
  rw [← e]
def wk_b (b : Bool) : Nat := if b = true then 1 else 0
theorem wk_bt {b : Bool} (h : b = true) : wk_b b = 1 := if_pos h
theorem wk_bf {b : Bool} (h : b = false) : wk_b b = 0 := if_neg (by rw [h]; decide)
section
variable {f_capacity f_alphabet f_slots f_tables f_codeCount f_inputSize f_outputSize f_blockLength f_columnIndex f_symbolCount f_groupCount f_tableCount f_bitBase f_bitPlace : Int32} {a_input a_output a_held a_checks a_packed a_block a_column a_ranks a_otherRanks a_links a_starts a_order a_shifted a_classes a_nextClasses a_buckets a_list a_symbols a_selectors a_lengths a_codes a_lengthCounts a_sorted a_weights a_parents a_depths : Nat → Int32}
theorem xw_bitB {post : Int32 → SX → Prop} {B : Nat → Bool} {s p : Nat} (hs : s < 4) (hB : ∀ i, i < 4096 → sl_B a_packed s i = B i) (hp : p < 4096) (K : post (nI (wk_b (B p))) (f_capacity, f_alphabet, f_slots, f_tables, f_codeCount, f_inputSize, f_outputSize, f_blockLength, f_columnIndex, f_symbolCount, f_groupCount, f_tableCount, nI (s * 128), nI (p + 1), a_input, a_output, a_held, a_checks, a_packed, a_block, a_column, a_ranks, a_otherRanks, a_links, a_starts, a_order, a_shifted, a_classes, a_nextClasses, a_buckets, a_list, a_symbols, a_selectors, a_lengths, a_codes, a_lengthCounts, a_sorted, a_weights, a_parents, a_depths)) : wpX_takeBit post (f_capacity, f_alphabet, f_slots, f_tables, f_codeCount, f_inputSize, f_outputSize, f_blockLength, f_columnIndex, f_symbolCount, f_groupCount, f_tableCount, nI (s * 128), nI p, a_input, a_output, a_held, a_checks, a_packed, a_block, a_column, a_ranks, a_otherRanks, a_links, a_starts, a_order, a_shifted, a_classes, a_nextClasses, a_buckets, a_list, a_symbols, a_selectors, a_lengths, a_codes, a_lengthCounts, a_sorted, a_weights, a_parents, a_depths) := by
  refine xw_bit hs hp ?_
  have e : bi_p a_packed (s * 4096 + p) = B p := hB p hp
  rw [e]; exact K
theorem xw_tbB {post : Int32 → SX → Prop} {B : Nat → Bool} {s p w v M : Nat} (hs : s < 4) (hB : ∀ i, i < 4096 → sl_B a_packed s i = B i) (hw : w ≤ 16) (hv : v < 2 ^ w) (hM : v ≤ M) (hM2 : M < 2 ^ 31) (hp : p + w ≤ 4096) (hS : sl_S B p w v)
    (K : post (nI v) (f_capacity, f_alphabet, f_slots, f_tables, f_codeCount, f_inputSize, f_outputSize, f_blockLength, f_columnIndex, f_symbolCount, f_groupCount, f_tableCount, nI (s * 128), nI (p + w), a_input, a_output, a_held, a_checks, a_packed, a_block, a_column, a_ranks, a_otherRanks, a_links, a_starts, a_order, a_shifted, a_classes, a_nextClasses, a_buckets, a_list, a_symbols, a_selectors, a_lengths, a_codes, a_lengthCounts, a_sorted, a_weights, a_parents, a_depths)) : wpX_takeBits post (f_capacity, f_alphabet, f_slots, f_tables, f_codeCount, f_inputSize, f_outputSize, f_blockLength, f_columnIndex, f_symbolCount, f_groupCount, f_tableCount, nI (s * 128), nI p, a_input, a_output, a_held, a_checks, a_packed, a_block, a_column, a_ranks, a_otherRanks, a_links, a_starts, a_order, a_shifted, a_classes, a_nextClasses, a_buckets, a_list, a_symbols, a_selectors, a_lengths, a_codes, a_lengthCounts, a_sorted, a_weights, a_parents, a_depths) (nI w) (nI M) :=
  xw_tb hs hw hv hM hM2 hp (fun i hi => by rw [Nat.add_assoc]; exact (hB (p + i) (by omega)).trans (hS i hi)) K
theorem xw_rs50 {post : SX → Prop} {J : Int32 → Int32 → Int32 → Int32 → Int32 → Int32 → Int32 → Int32 → Int32 → Int32 → Int32 → Int32 → Int32 → Int32 → Int32 → (Nat → Int32) → (Nat → Int32) → (Nat → Int32) → (Nat → Int32) → (Nat → Int32) → (Nat → Int32) → (Nat → Int32) → (Nat → Int32) → (Nat → Int32) → (Nat → Int32) → (Nat → Int32) → (Nat → Int32) → (Nat → Int32) → (Nat → Int32) → (Nat → Int32) → (Nat → Int32) → (Nat → Int32) → (Nat → Int32) → (Nat → Int32) → (Nat → Int32) → (Nat → Int32) → (Nat → Int32) → (Nat → Int32) → (Nat → Int32) → (Nat → Int32) → (Nat → Int32) → Prop}
    {s g u : Nat} (hg : g < 6) (hu : u < 16) (K : J (nI (g + 1)) f_capacity f_alphabet f_slots f_tables f_codeCount f_inputSize f_outputSize f_blockLength f_columnIndex f_symbolCount f_groupCount f_tableCount (nI (s * 128)) f_bitPlace a_input a_output a_held a_checks a_packed a_block a_column a_ranks a_otherRanks a_links a_starts a_order a_shifted a_classes a_nextClasses a_buckets (wk_mf a_list u) a_symbols (upd a_selectors g (a_list u)) a_lengths a_codes a_lengthCounts a_sorted a_weights a_parents a_depths) : wX_readSelectors_50 post J (nI g) (nI u) f_capacity f_alphabet f_slots f_tables f_codeCount f_inputSize f_outputSize f_blockLength f_columnIndex f_symbolCount f_groupCount f_tableCount (nI (s * 128)) f_bitPlace a_input a_output a_held a_checks a_packed a_block a_column a_ranks a_otherRanks a_links a_starts a_order a_shifted a_classes a_nextClasses a_buckets a_list a_symbols a_selectors a_lengths a_codes a_lengthCounts a_sorted a_weights a_parents a_depths := by
  refine xw_btf hu ⟨vp_in_nI hg (by omega), ?_⟩
  rw [wk_c (i := g) (by omega)]
  exact nm_e (nm_r (nI_1 g) K)
theorem xw_rs25 {post : SX → Prop} {J : Int32 → Int32 → Int32 → Int32 → Int32 → Int32 → Int32 → Int32 → Int32 → Int32 → Int32 → Int32 → Int32 → Int32 → Int32 → (Nat → Int32) → (Nat → Int32) → (Nat → Int32) → (Nat → Int32) → (Nat → Int32) → (Nat → Int32) → (Nat → Int32) → (Nat → Int32) → (Nat → Int32) → (Nat → Int32) → (Nat → Int32) → (Nat → Int32) → (Nat → Int32) → (Nat → Int32) → (Nat → Int32) → (Nat → Int32) → (Nat → Int32) → (Nat → Int32) → (Nat → Int32) → (Nat → Int32) → (Nat → Int32) → (Nat → Int32) → (Nat → Int32) → (Nat → Int32) → (Nat → Int32) → (Nat → Int32) → Prop}
    {B : Nat → Bool} {s p g u : Nat} (hs : s < 4) (hB : ∀ i, i < 4096 → sl_B a_packed s i = B i) (hp : p + u + 1 ≤ 4096) (hg : g < 6) (hu : u < 4) (hU : sl_U B p u)
    (K : J (nI (g + 1)) f_capacity f_alphabet f_slots f_tables f_codeCount f_inputSize f_outputSize f_blockLength f_columnIndex f_symbolCount f_groupCount f_tableCount (nI (s * 128)) (nI (p + (u + 1))) a_input a_output a_held a_checks a_packed a_block a_column a_ranks a_otherRanks a_links a_starts a_order a_shifted a_classes a_nextClasses a_buckets (wk_mf a_list u) a_symbols (upd a_selectors g (a_list u)) a_lengths a_codes a_lengthCounts a_sorted a_weights a_parents a_depths) :
    ∀ d j k, j + d = u → d < k → wX_readSelectors_25 post J (nI g) k (nI (wk_b (B (p + j)))) (nI j) (nI j) f_capacity f_alphabet f_slots f_tables f_codeCount f_inputSize f_outputSize f_blockLength f_columnIndex f_symbolCount f_groupCount f_tableCount (nI (s * 128)) (nI (p + j + 1)) a_input a_output a_held a_checks a_packed a_block a_column a_ranks a_otherRanks a_links a_starts a_order a_shifted a_classes a_nextClasses a_buckets a_list a_symbols a_selectors a_lengths a_codes a_lengthCounts a_sorted a_weights a_parents a_depths := by
  intro d
  induction d with
  | zero =>
    intro j k hd hk
    obtain ⟨k, rfl⟩ : ∃ q, k = q + 1 := ⟨k - 1, by omega⟩
    have e : j = u := by omega
    subst e
    rw [wk_bf hU.2]
    refine pk_le 3 j (fun z => xw_rs50 hg (by omega) K) (fun z => br_f (by decide) (xw_rs50 hg (by omega) K))
  | succ d ih =>
    intro j k hd hk
    obtain ⟨k, rfl⟩ : ∃ q, k = q + 1 := ⟨k - 1, by omega⟩
    rw [wk_bt (hU.1 j (by omega))]
    exact br_f (nI_ge (b := 3) (by omega) (by omega)) (br_t rfl (nm_r (nI_1 j) (xw_bitB (p := p + j + 1) hs hB (by omega) (nm_r (nI_1 j) (ih (j + 1) k (by omega) (by omega))))))
theorem xw_rs7 {post : SX → Prop} {B : Nat → Bool} {s tc G : Nat} {sel pl : Nat → Nat} (hs : s < 4) (hB : ∀ i, i < 4096 → sl_B a_packed s i = B i) (htc : tc ≤ 4) (hG : G ≤ 6) (hM : mt_M tc G sel pl) (hU : ∀ g, g < G → sl_U B (sl_ps pl g) (pl g))
    (K : ∀ se' l' : Nat → Int32, (∀ g, g < G → se' g = nI (sel g)) → post (f_capacity, f_alphabet, f_slots, f_tables, f_codeCount, f_inputSize, f_outputSize, f_blockLength, f_columnIndex, f_symbolCount, nI G, f_tableCount, nI (s * 128), nI (sl_ps pl G), a_input, a_output, a_held, a_checks, a_packed, a_block, a_column, a_ranks, a_otherRanks, a_links, a_starts, a_order, a_shifted, a_classes, a_nextClasses, a_buckets, l', a_symbols, se', a_lengths, a_codes, a_lengthCounts, a_sorted, a_weights, a_parents, a_depths)) :
    ∀ d g k (se' l' : Nat → Int32), g + d = G → d < k → (∀ h, h < g → se' h = nI (sel h)) → (∀ j, j < 4 → l' j = nI (mt_l pl g j)) →
    wX_readSelectors_7 post k (nI g) f_capacity f_alphabet f_slots f_tables f_codeCount f_inputSize f_outputSize f_blockLength f_columnIndex f_symbolCount (nI G) f_tableCount (nI (s * 128)) (nI (sl_ps pl g)) a_input a_output a_held a_checks a_packed a_block a_column a_ranks a_otherRanks a_links a_starts a_order a_shifted a_classes a_nextClasses a_buckets l' a_symbols se' a_lengths a_codes a_lengthCounts a_sorted a_weights a_parents a_depths := by
  intro d
  induction d with
  | zero =>
    intro g k se' l' hd hk h1 h2
    obtain ⟨k, rfl⟩ : ∃ q, k = q + 1 := ⟨k - 1, by omega⟩
    have e : g = G := by omega
    subst e
    exact br_t (nI_le (Nat.le_refl g) (by omega)) (K se' l' h1)
  | succ d ih =>
    intro g k se' l' hd hk h1 h2
    obtain ⟨k, rfl⟩ : ∃ q, k = q + 1 := ⟨k - 1, by omega⟩
    have hps := sl_psb hM htc (g := g) (by omega)
    have hm := hM g (by omega)
    have e1 : sl_ps pl g + (pl g + 1) = sl_ps pl (g + 1) := by unfold sl_ps; rw [ca_ss, Nat.add_assoc]
    refine br_f (nI_ge (by omega) (by omega)) (xw_bitB hs hB (by omega) ⟨pl g + 1, ?_⟩)
    refine xw_rs25 (p := sl_ps pl g) hs hB (by omega) (by omega) (by omega) (hU g (by omega)) ?_ (pl g) 0 _ (by omega) (by omega)
    rw [e1]
    refine ih (g + 1) k _ _ (by omega) (by omega) (fun h hh => ?_) ?_
    · by_cases z : h = g
      · subst z; rw [pk_us, h2 _ (by omega), hm.2]
      · rw [pk_un z]; exact h1 h (by omega)
    · rw [mt_ls]; exact wk_mfh h2 (by omega)
theorem xw_rs {post : SX → Prop} {B : Nat → Bool} {s tc G : Nat} {sel pl : Nat → Nat} (hs : s < 4) (hB : ∀ i, i < 4096 → sl_B a_packed s i = B i) (htc : tc ≤ 4) (hG : G ≤ 6) (hM : mt_M tc G sel pl) (hU : ∀ g, g < G → sl_U B (sl_ps pl g) (pl g))
    (K : ∀ se' l' : Nat → Int32, (∀ g, g < G → se' g = nI (sel g)) → post (f_capacity, f_alphabet, f_slots, f_tables, f_codeCount, f_inputSize, f_outputSize, f_blockLength, f_columnIndex, f_symbolCount, nI G, f_tableCount, nI (s * 128), nI (sl_ps pl G), a_input, a_output, a_held, a_checks, a_packed, a_block, a_column, a_ranks, a_otherRanks, a_links, a_starts, a_order, a_shifted, a_classes, a_nextClasses, a_buckets, l', a_symbols, se', a_lengths, a_codes, a_lengthCounts, a_sorted, a_weights, a_parents, a_depths)) : wpX_readSelectors post (f_capacity, f_alphabet, f_slots, f_tables, f_codeCount, f_inputSize, f_outputSize, f_blockLength, f_columnIndex, f_symbolCount, nI G, f_tableCount, nI (s * 128), nI 21, a_input, a_output, a_held, a_checks, a_packed, a_block, a_column, a_ranks, a_otherRanks, a_links, a_starts, a_order, a_shifted, a_classes, a_nextClasses, a_buckets, a_list, a_symbols, a_selectors, a_lengths, a_codes, a_lengthCounts, a_sorted, a_weights, a_parents, a_depths) :=
  xw_reset (m := 4) (by omega) ⟨G + 1, xw_rs7 hs hB htc hG hM hU K G 0 (G + 1) _ _ (by omega) (by omega) (fun q hq => by omega) (fun j hj => wk_ovl hj)⟩
/-- the level after j steps -/
def sl_v (l : Nat → Nat) (v j : Nat) : Nat := if l v < sl_r l v then sl_r l v - j else sl_r l v + j
theorem sl_vd (l : Nat → Nat) (v : Nat) : sl_v l v (sl_d l v) = l v := by
  unfold sl_v sl_d; split <;> omega
theorem xw_rl34 {post : SX → Prop} {J : Int32 → Int32 → Int32 → Int32 → Int32 → Int32 → Int32 → Int32 → Int32 → Int32 → Int32 → Int32 → Int32 → Int32 → Int32 → Int32 → (Nat → Int32) → (Nat → Int32) → (Nat → Int32) → (Nat → Int32) → (Nat → Int32) → (Nat → Int32) → (Nat → Int32) → (Nat → Int32) → (Nat → Int32) → (Nat → Int32) → (Nat → Int32) → (Nat → Int32) → (Nat → Int32) → (Nat → Int32) → (Nat → Int32) → (Nat → Int32) → (Nat → Int32) → (Nat → Int32) → (Nat → Int32) → (Nat → Int32) → (Nat → Int32) → (Nat → Int32) → (Nat → Int32) → (Nat → Int32) → (Nat → Int32) → (Nat → Int32) → Prop}
    {B : Nat → Bool} {s p t v : Nat} {l : Nat → Nat} (hs : s < 4) (hB : ∀ i, i < 4096 → sl_B a_packed s i = B i) (hp : p + 2 * sl_d l v + 1 ≤ 4096) (ht : t < 4) (hv : v < 17) (hd15 : sl_d l v ≤ 15) (hD : sl_D B p (sl_d l v) (decide (l v < sl_r l v)))
    (K : J (nI (l v)) (nI (v + 1)) f_capacity f_alphabet f_slots f_tables f_codeCount f_inputSize f_outputSize f_blockLength f_columnIndex f_symbolCount f_groupCount f_tableCount (nI (s * 128)) (nI (p + (2 * sl_d l v + 1))) a_input a_output a_held a_checks a_packed a_block a_column a_ranks a_otherRanks a_links a_starts a_order a_shifted a_classes a_nextClasses a_buckets a_list a_symbols a_selectors (upd a_lengths (t * 17 + v) (nI (l v))) a_codes a_lengthCounts a_sorted a_weights a_parents a_depths) :
    ∀ d j k, j + d = sl_d l v → d < k → wX_readLengths_34 post J (nI (t * 17)) (nI v) k (nI (sl_v l v j)) (nI (wk_b (B (p + 2 * j)))) (nI j) f_capacity f_alphabet f_slots f_tables f_codeCount f_inputSize f_outputSize f_blockLength f_columnIndex f_symbolCount f_groupCount f_tableCount (nI (s * 128)) (nI (p + 2 * j + 1)) a_input a_output a_held a_checks a_packed a_block a_column a_ranks a_otherRanks a_links a_starts a_order a_shifted a_classes a_nextClasses a_buckets a_list a_symbols a_selectors a_lengths a_codes a_lengthCounts a_sorted a_weights a_parents a_depths := by
  intro d
  induction d with
  | zero =>
    intro j k hd hk
    obtain ⟨k, rfl⟩ : ∃ q, k = q + 1 := ⟨k - 1, by omega⟩
    have e : j = sl_d l v := by omega
    subst e
    rw [wk_bf hD.2, sl_vd]
    refine br_f (nI_ge (b := 16) (by omega) (by omega)) (br_f (by decide) ?_)
    unfold wX_readLengths_80
    rw [nI_add (t * 17) v, wk_c (i := t * 17 + v) (by omega)]
    exact ⟨vp_in_nI (by omega) (by omega), nm_e (nm_r (nI_1 v) K)⟩
  | succ d ih =>
    intro j k hd hk
    obtain ⟨k, rfl⟩ : ∃ q, k = q + 1 := ⟨k - 1, by omega⟩
    have hj := hD.1 j (by omega)
    rw [wk_bt hj.1]
    have go : wX_readLengths_68 post J (wX_readLengths_34 post J (nI (t * 17)) (nI v) k) (nI (t * 17)) (nI (sl_v l v (j + 1))) (nI v) (nI j) f_capacity f_alphabet f_slots f_tables f_codeCount f_inputSize f_outputSize f_blockLength f_columnIndex f_symbolCount f_groupCount f_tableCount (nI (s * 128)) (nI (p + 2 * j + 1 + 1)) a_input a_output a_held a_checks a_packed a_block a_column a_ranks a_otherRanks a_links a_starts a_order a_shifted a_classes a_nextClasses a_buckets a_list a_symbols a_selectors a_lengths a_codes a_lengthCounts a_sorted a_weights a_parents a_depths := by
      refine xw_bitB (p := p + 2 * j + 1 + 1) hs hB (by omega) (nm_r (nI_1 j) ?_)
      exact ih (j + 1) k (by omega) (by omega)
    refine br_f (nI_ge (b := 16) (by omega) (by omega)) (br_t rfl (xw_bitB (p := p + 2 * j + 1) hs hB (by omega) ?_))
    rw [hj.2]
    by_cases z : l v < sl_r l v
    · rw [wk_bt (decide_eq_true z)]
      refine br_t rfl (nm_r (e' := nI (sl_v l v (j + 1))) ?_ go)
      have hd1 : sl_d l v = sl_r l v - l v := by unfold sl_d; omega
      unfold sl_v
      rw [if_pos z, if_pos z, sb_m1 (by omega)]
      congr 1
    · rw [wk_bf (decide_eq_false z)]
      refine br_f (by decide) (nm_r (e' := nI (sl_v l v (j + 1))) ?_ go)
      unfold sl_v
      rw [if_neg z, if_neg z, nI_1]
      congr 1
theorem xw_rl16 {post : SX → Prop} {B : Nat → Bool} {s p t cc : Nat} {l : Nat → Nat} (hs : s < 4) (hB : ∀ i, i < 4096 → sl_B a_packed s i = B i) (hp : p + 532 ≤ 4096) (ht : t < 4) (hcc : cc ≤ 17) (hG : hu_G l cc) (hT : sl_T B p cc l)
    (K : ∀ le' : Nat → Int32, (∀ v, v < cc → le' (t * 17 + v) = nI (l v)) → (∀ j, j < t * 17 ∨ t * 17 + 17 ≤ j → le' j = a_lengths j) → post (f_capacity, f_alphabet, f_slots, f_tables, nI cc, f_inputSize, f_outputSize, f_blockLength, f_columnIndex, f_symbolCount, f_groupCount, f_tableCount, nI (s * 128), nI (p + 5 + ca_s (fun v => 2 * sl_d l v + 1) cc), a_input, a_output, a_held, a_checks, a_packed, a_block, a_column, a_ranks, a_otherRanks, a_links, a_starts, a_order, a_shifted, a_classes, a_nextClasses, a_buckets, a_list, a_symbols, a_selectors, le', a_codes, a_lengthCounts, a_sorted, a_weights, a_parents, a_depths)) :
    ∀ d v k (le' : Nat → Int32), v + d = cc → d < k → (∀ u, u < v → le' (t * 17 + u) = nI (l u)) → (∀ j, j < t * 17 ∨ t * 17 + 17 ≤ j → le' j = a_lengths j) →
    wX_readLengths_16 post (nI (t * 17)) k (nI (sl_r l v)) (nI v) f_capacity f_alphabet f_slots f_tables (nI cc) f_inputSize f_outputSize f_blockLength f_columnIndex f_symbolCount f_groupCount f_tableCount (nI (s * 128)) (nI (p + 5 + ca_s (fun v => 2 * sl_d l v + 1) v)) a_input a_output a_held a_checks a_packed a_block a_column a_ranks a_otherRanks a_links a_starts a_order a_shifted a_classes a_nextClasses a_buckets a_list a_symbols a_selectors le' a_codes a_lengthCounts a_sorted a_weights a_parents a_depths := by
  intro d
  induction d with
  | zero =>
    intro v k le' hd hk h1 h2
    obtain ⟨k, rfl⟩ : ∃ q, k = q + 1 := ⟨k - 1, by omega⟩
    have e : v = cc := by omega
    subst e
    exact br_t (nI_le (Nat.le_refl v) (by omega)) (K le' h1 h2)
  | succ d ih =>
    intro v k le' hd hk h1 h2
    obtain ⟨k, rfl⟩ : ∃ q, k = q + 1 := ⟨k - 1, by omega⟩
    have hb := sl_L5 hG (v := v) (by omega) hcc
    have h15 := sl_d15 hG (v := v) (by omega)
    have er : sl_r l (v + 1) = l v := by unfold sl_r; rw [if_neg (by omega), Nat.add_sub_cancel]
    have e0 : sl_v l v 0 = sl_r l v := by unfold sl_v; split <;> omega
    have es : p + 5 + ca_s (fun v => 2 * sl_d l v + 1) v + (2 * sl_d l v + 1) = p + 5 + ca_s (fun v => 2 * sl_d l v + 1) (v + 1) := by rw [ca_ss, Nat.add_assoc]
    refine br_f (nI_ge (by omega) (by omega)) (xw_bitB hs hB (by omega) ⟨sl_d l v + 1, ?_⟩)
    rw [← e0]
    refine xw_rl34 (p := p + 5 + ca_s (fun v => 2 * sl_d l v + 1) v) hs hB (by omega) ht (by omega) h15 (hT.2 v (by omega)) ?_ (sl_d l v) 0 _ (by omega) (by omega)
    rw [es, ← er]
    refine ih (v + 1) k _ (by omega) (by omega) (fun u hu => ?_) (fun j hj => ?_)
    · by_cases z : u = v
      · subst z; rw [pk_us, er]
      · rw [pk_un (by omega)]; exact h1 u (by omega)
    · rw [pk_un (by omega)]; exact h2 j hj
theorem xw_rl {post : SX → Prop} {B : Nat → Bool} {s p t cc : Nat} {l : Nat → Nat} (hs : s < 4) (hB : ∀ i, i < 4096 → sl_B a_packed s i = B i) (hp : p + 532 ≤ 4096) (ht : t < 4) (hcc : cc ≤ 17) (h0 : 0 < cc) (hG : hu_G l cc) (hT : sl_T B p cc l)
    (K : ∀ le' : Nat → Int32, (∀ v, v < cc → le' (t * 17 + v) = nI (l v)) → (∀ j, j < t * 17 ∨ t * 17 + 17 ≤ j → le' j = a_lengths j) → post (f_capacity, f_alphabet, f_slots, f_tables, nI cc, f_inputSize, f_outputSize, f_blockLength, f_columnIndex, f_symbolCount, f_groupCount, f_tableCount, nI (s * 128), nI (p + sl_L l cc), a_input, a_output, a_held, a_checks, a_packed, a_block, a_column, a_ranks, a_otherRanks, a_links, a_starts, a_order, a_shifted, a_classes, a_nextClasses, a_buckets, a_list, a_symbols, a_selectors, le', a_codes, a_lengthCounts, a_sorted, a_weights, a_parents, a_depths)) : wpX_readLengths post (f_capacity, f_alphabet, f_slots, f_tables, nI cc, f_inputSize, f_outputSize, f_blockLength, f_columnIndex, f_symbolCount, f_groupCount, f_tableCount, nI (s * 128), nI p, a_input, a_output, a_held, a_checks, a_packed, a_block, a_column, a_ranks, a_otherRanks, a_links, a_starts, a_order, a_shifted, a_classes, a_nextClasses, a_buckets, a_list, a_symbols, a_selectors, a_lengths, a_codes, a_lengthCounts, a_sorted, a_weights, a_parents, a_depths) (nI t) := by
  have hl0 := hG.1 0 h0
  refine nm_r (e' := nI (t * 17)) (pk_mul t 17) (xw_tbB (w := 5) (v := l 0) (M := 16) hs hB (by omega) (by omega) (by omega) (by omega) (by omega) hT.1 ⟨cc + 1, ?_⟩)
  refine xw_rl16 hs hB hp ht hcc hG hT (fun le' g1 g2 => ?_) cc 0 _ _ (by omega) (by omega) (fun u hu => by omega) (fun j _ => rfl)
  have h := K le' g1 g2
  unfold sl_L at h
  rw [← Nat.add_assoc] at h
  exact h
end
end
section
/-! one symbol, the ranks, the column, the block of a slot -/
def sl_R (A n : Nat) (x : Nat → Nat) (B : Nat → Bool) : Prop :=
  sl_S B 0 6 n ∧ sl_S B 6 6 (ro_w n x 0) ∧ (0 < n → ∃ (rk : Nat → Nat) (sc tc : Nat) (y sel pl : Nat → Nat) (len : Nat → Nat → Nat), mt_M A n (ro_col n x) rk ∧ ru_Q rk y sc ∧ ru_a y sc = n ∧ (∀ q, q < sc → y q < A + 1) ∧ tc ≤ 4 ∧
    (∀ g, g < (sc + 7) / 8 → sel g < tc) ∧ mt_M tc ((sc + 7) / 8) sel pl ∧ (∀ t, t < tc → hu_G (len t) (A + 1)) ∧ sl_M B (A + 1) sc tc sel pl y len)
section
variable {f_capacity f_alphabet f_slots f_tables f_codeCount f_inputSize f_outputSize f_blockLength f_columnIndex f_symbolCount f_groupCount f_tableCount f_bitBase f_bitPlace : Int32} {a_input a_output a_held a_checks a_packed a_block a_column a_ranks a_otherRanks a_links a_starts a_order a_shifted a_classes a_nextClasses a_buckets a_list a_symbols a_selectors a_lengths a_codes a_lengthCounts a_sorted a_weights a_parents a_depths : Nat → Int32}
theorem xw_ts16 {post : Int32 → SX → Prop} {B : Nat → Bool} {s p t cc v : Nat} {l : Nat → Nat} (hs : s < 4) (hB : ∀ i, i < 4096 → sl_B a_packed s i = B i) (hcc : cc ≤ 17) (hp : p + l v ≤ 4096) (ht : t < 4) (hv : v < cc) (hG : hu_G l cc)
    (hn : ∀ L, 1 ≤ L → L < 17 → a_lengthCounts (t * 17 + L) = nI (hu_n l cc L)) (ho : ∀ v, v < cc → a_sorted (t * 17 + ca_r cc (ca_X l) v) = nI v) (hS : sl_S B p (l v) (hu_c l cc v))
    (K : post (nI v) (f_capacity, f_alphabet, f_slots, f_tables, f_codeCount, f_inputSize, f_outputSize, f_blockLength, f_columnIndex, f_symbolCount, f_groupCount, f_tableCount, nI (s * 128), nI (p + l v), a_input, a_output, a_held, a_checks, a_packed, a_block, a_column, a_ranks, a_otherRanks, a_links, a_starts, a_order, a_shifted, a_classes, a_nextClasses, a_buckets, a_list, a_symbols, a_selectors, a_lengths, a_codes, a_lengthCounts, a_sorted, a_weights, a_parents, a_depths)) :
    ∀ d L k, L + d = l v → 0 < d → d < k → wX_takeSymbol_16 post (nI (t * 17)) k (nI (2 * (hu_c l cc v / 2 ^ (l v - L)))) (nI (hu_f l cc (L + 1))) (nI (hu_q l cc (L + 1))) (nI (L + 1)) f_capacity f_alphabet f_slots f_tables f_codeCount f_inputSize f_outputSize f_blockLength f_columnIndex f_symbolCount f_groupCount f_tableCount (nI (s * 128)) (nI (p + L)) a_input a_output a_held a_checks a_packed a_block a_column a_ranks a_otherRanks a_links a_starts a_order a_shifted a_classes a_nextClasses a_buckets a_list a_symbols a_selectors a_lengths a_codes a_lengthCounts a_sorted a_weights a_parents a_depths := by
  have hlv := hG.1 v hv
  have hcl := hu_clt hG hv
  have h16 : 2 ^ l v ≤ 2 ^ 16 := Nat.pow_le_pow_right (by omega) hlv.2
  -- one turn that reads the bit number L
  have turn : ∀ L k, L < l v → (∀ c', c' = hu_c l cc v / 2 ^ (l v - (L + 1)) → ((nI c' - nI (hu_f l cc (L + 1)) < 0 → wX_takeSymbol_76 post (wX_takeSymbol_16 post (nI (t * 17)) k) (nI (t * 17)) (nI c') (nI (hu_f l cc (L + 1))) (nI (hu_q l cc (L + 1))) (nI (L + 1)) (nI (hu_n l cc (L + 1))) f_capacity f_alphabet f_slots f_tables f_codeCount f_inputSize f_outputSize f_blockLength f_columnIndex f_symbolCount f_groupCount f_tableCount (nI (s * 128)) (nI (p + L + 1)) a_input a_output a_held a_checks a_packed a_block a_column a_ranks a_otherRanks a_links a_starts a_order a_shifted a_classes a_nextClasses a_buckets a_list a_symbols a_selectors a_lengths a_codes a_lengthCounts a_sorted a_weights a_parents a_depths) ∧
      (¬ nI c' - nI (hu_f l cc (L + 1)) < 0 → ((nI (hu_n l cc (L + 1)) ≤ nI c' - nI (hu_f l cc (L + 1)) → wX_takeSymbol_76 post (wX_takeSymbol_16 post (nI (t * 17)) k) (nI (t * 17)) (nI c') (nI (hu_f l cc (L + 1))) (nI (hu_q l cc (L + 1))) (nI (L + 1)) (nI (hu_n l cc (L + 1))) f_capacity f_alphabet f_slots f_tables f_codeCount f_inputSize f_outputSize f_blockLength f_columnIndex f_symbolCount f_groupCount f_tableCount (nI (s * 128)) (nI (p + L + 1)) a_input a_output a_held a_checks a_packed a_block a_column a_ranks a_otherRanks a_links a_starts a_order a_shifted a_classes a_nextClasses a_buckets a_list a_symbols a_selectors a_lengths a_codes a_lengthCounts a_sorted a_weights a_parents a_depths) ∧
      (¬ nI (hu_n l cc (L + 1)) ≤ nI c' - nI (hu_f l cc (L + 1)) → (vp_in (nI (t * 17) + nI (hu_q l cc (L + 1)) + (nI c' - nI (hu_f l cc (L + 1)))) 68 ∧ post (a_sorted (nI (t * 17) + nI (hu_q l cc (L + 1)) + (nI c' - nI (hu_f l cc (L + 1)))).toNatClampNeg) (f_capacity, f_alphabet, f_slots, f_tables, f_codeCount, f_inputSize, f_outputSize, f_blockLength, f_columnIndex, f_symbolCount, f_groupCount, f_tableCount, nI (s * 128), nI (p + L + 1), a_input, a_output, a_held, a_checks, a_packed, a_block, a_column, a_ranks, a_otherRanks, a_links, a_starts, a_order, a_shifted, a_classes, a_nextClasses, a_buckets, a_list, a_symbols, a_selectors, a_lengths, a_codes, a_lengthCounts, a_sorted, a_weights, a_parents, a_depths))))))) →
      wX_takeSymbol_16 post (nI (t * 17)) (k + 1) (nI (2 * (hu_c l cc v / 2 ^ (l v - L)))) (nI (hu_f l cc (L + 1))) (nI (hu_q l cc (L + 1))) (nI (L + 1)) f_capacity f_alphabet f_slots f_tables f_codeCount f_inputSize f_outputSize f_blockLength f_columnIndex f_symbolCount f_groupCount f_tableCount (nI (s * 128)) (nI (p + L)) a_input a_output a_held a_checks a_packed a_block a_column a_ranks a_otherRanks a_links a_starts a_order a_shifted a_classes a_nextClasses a_buckets a_list a_symbols a_selectors a_lengths a_codes a_lengthCounts a_sorted a_weights a_parents a_depths := by
    intro L k hL hk
    have hb := hS L hL
    refine br_f (nI_nlt (a := 16) (b := L + 1) (by omega) (by omega)) (xw_bitB hs hB (by omega) (nm_r (e' := nI (hu_c l cc v / 2 ^ (l v - (L + 1)))) ?_ ⟨?_, nm_r (e' := nI (hu_n l cc (L + 1))) ?_ (nm_e ?_)⟩))
    · have e1 : l v - 1 - L = l v - (L + 1) := by omega
      have e2 : l v - L = l v - (L + 1) + 1 := by omega
      rw [e1] at hb
      rw [hb, e2, Nat.pow_succ, ← Nat.div_div_eq_div_mul]
      generalize hu_c l cc v / 2 ^ (l v - (L + 1)) = c
      by_cases z : c % 2 = 1
      · rw [wk_bt (decide_eq_true z), wk_or1 (by omega)]; congr 1; omega
      · rw [wk_bf (decide_eq_false z), wk_or1 (by omega)]; congr 1; omega
    · rw [nI_add]; exact vp_in_nI (by omega) (by omega)
    · rw [nI_add, wk_c (by omega)]; exact hn (L + 1) (by omega) (by omega)
    · exact hk _ rfl
  intro d
  induction d with
  | zero =>
    intro L k hd h0 hk
    omega
  | succ d ih =>
    intro L k hd _ hk
    obtain ⟨k, rfl⟩ : ∃ q, k = q + 1 := ⟨k - 1, by omega⟩
    have hroom := hu_room hG (L := L + 1) (by omega)
    have hpw : 2 ^ (L + 1) ≤ 2 ^ 16 := Nat.pow_le_pow_right (by omega) (by omega)
    refine turn L k (by omega) (fun c' hc' => ?_)
    have hc16 : c' ≤ hu_c l cc v := by rw [hc']; exact Nat.div_le_self _ _
    rcases Nat.eq_zero_or_pos d with hz | hz
    · -- the last bit
      subst hz
      have eL : l v = L + 1 := by omega
      rw [eL, Nat.sub_self, Nat.pow_zero, Nat.div_one] at hc'
      subst hc'
      have hoff := hu_off (l := l) hv
      have hc2 : hu_c l cc v = hu_f l cc (L + 1) + ca_c (fun u => l u = l v) v := by unfold hu_c; rw [eL]
      have hsub : nI (hu_c l cc v) - nI (hu_f l cc (L + 1)) = nI (ca_c (fun u => l u = l v) v) := by
        rw [pk_sub (by omega), hc2]; congr 1; omega
      have hq : hu_q l cc (L + 1) + ca_c (fun u => l u = l v) v = ca_r cc (ca_X l) v := by rw [← hu_qr hv, eL]
      have hr : ca_r cc (ca_X l) v < cc := ca_rlt (ca_XT cc l) hv
      rw [eL] at hoff
      have hoff2 : ca_c (fun u => l u = l v) v < hu_n l cc (L + 1) := by rw [eL]; exact hoff
      rw [hsub, nI_add, nI_add, Nat.add_assoc (t * 17), hq, wk_c (by omega), ho v hv]
      refine br_f (nI_pos (by omega)) (br_f (nI_ge hoff2 (by omega)) ⟨vp_in_nI (by omega) (by omega), ?_⟩)
      have e : p + L + 1 = p + l v := by omega
      rw [e]; exact K
    · have hlate := hu_late (l := l) (cc := cc) (v := v) (L := L + 1) (by omega)
      rw [← hc'] at hlate
      have hsub : nI c' - nI (hu_f l cc (L + 1)) = nI (c' - hu_f l cc (L + 1)) := pk_sub (by omega)
      rw [hsub]
      refine br_f (nI_pos (by omega)) (br_t (nI_le (by omega) (by omega)) ?_)
      refine nm_r (e' := nI (hu_q l cc (L + 1 + 1))) (by rw [nI_add, hu_qs l cc (L + 1)]) (nm_r (e' := nI (hu_f l cc (L + 1 + 1))) ?_ (nm_r (e' := nI (2 * (hu_c l cc v / 2 ^ (l v - (L + 1))))) ?_ (nm_r (nI_1 (L + 1)) ?_)))
      · rw [nI_add, pk_shlN _ 1 (by decide) (by omega), hu_fs (L := L + 1)]; congr 1; omega
      · rw [pk_shlN _ 1 (by decide) (by omega), hc']; congr 1; omega
      · exact ih (L + 1) k (by omega) hz (by omega)
theorem xw_ts {post : Int32 → SX → Prop} {B : Nat → Bool} {s p t cc v : Nat} {l : Nat → Nat} (hs : s < 4) (hB : ∀ i, i < 4096 → sl_B a_packed s i = B i) (hcc : cc ≤ 17) (hp : p + l v ≤ 4096) (ht : t < 4) (hv : v < cc) (hG : hu_G l cc)
    (hn : ∀ L, 1 ≤ L → L < 17 → a_lengthCounts (t * 17 + L) = nI (hu_n l cc L)) (ho : ∀ v, v < cc → a_sorted (t * 17 + ca_r cc (ca_X l) v) = nI v) (hS : sl_S B p (l v) (hu_c l cc v))
    (K : post (nI v) (f_capacity, f_alphabet, f_slots, f_tables, f_codeCount, f_inputSize, f_outputSize, f_blockLength, f_columnIndex, f_symbolCount, f_groupCount, f_tableCount, nI (s * 128), nI (p + l v), a_input, a_output, a_held, a_checks, a_packed, a_block, a_column, a_ranks, a_otherRanks, a_links, a_starts, a_order, a_shifted, a_classes, a_nextClasses, a_buckets, a_list, a_symbols, a_selectors, a_lengths, a_codes, a_lengthCounts, a_sorted, a_weights, a_parents, a_depths)) : wpX_takeSymbol post (f_capacity, f_alphabet, f_slots, f_tables, f_codeCount, f_inputSize, f_outputSize, f_blockLength, f_columnIndex, f_symbolCount, f_groupCount, f_tableCount, nI (s * 128), nI p, a_input, a_output, a_held, a_checks, a_packed, a_block, a_column, a_ranks, a_otherRanks, a_links, a_starts, a_order, a_shifted, a_classes, a_nextClasses, a_buckets, a_list, a_symbols, a_selectors, a_lengths, a_codes, a_lengthCounts, a_sorted, a_weights, a_parents, a_depths) (nI t) := by
  have hf : hu_f l cc 1 = 0 := by
    rw [hu_fs]
    have e : hu_n l cc 0 = 0 := ca_cnone (fun v hv z => by have := (hG.1 v hv).1; omega)
    rw [e]; rfl
  have hq : hu_q l cc 1 = 0 := ca_cnone (fun v hv z => by have := (hG.1 v hv).1; omega)
  have h := xw_ts16 (post := post) hs hB hcc hp ht hv hG hn ho hS K (l v) 0 (l v + 1) (by omega) (by have := (hG.1 v hv).1; omega) (by omega)
  rw [hf, hq, Nat.sub_zero, Nat.div_eq_of_lt (hu_clt hG hv)] at h
  exact nm_r (e' := nI (t * 17)) (pk_mul t 17) ⟨l v + 1, h⟩
/-- what the tables hold for reading -/
def wk_rd (cc tc : Nat) (lc' so' : Nat → Int32) (len : Nat → Nat → Nat) : Prop := ∀ t, t < tc → (∀ L, 1 ≤ L → L < 17 → lc' (t * 17 + L) = nI (hu_n (len t) cc L)) ∧ (∀ v, v < cc → so' (t * 17 + ca_r cc (ca_X (len t)) v) = nI v)
theorem xw_up103 {post : SX → Prop} {B : Nat → Bool} {s cc sc tc n G : Nat} {rk y sel pl : Nat → Nat} {len : Nat → Nat → Nat} (hs : s < 4) (hB : ∀ i, i < 4096 → sl_B a_packed s i = B i) (hcc : cc ≤ 17) (hsc : sc ≤ 48) (htc : tc ≤ 4) (hn : n ≤ 48) (hGs : G = (sc + 7) / 8)
    (hM : mt_M tc G sel pl) (hsel : ∀ g, g < G → sel g < tc) (hse : ∀ g, g < G → a_selectors g = nI (sel g)) (hG : ∀ t, t < tc → hu_G (len t) cc) (hR : wk_rd cc tc a_lengthCounts a_sorted len) (hy : ∀ q, q < sc → y q < cc)
    (hC : ∀ q, q < sc → sl_S B (sl_pc pl G cc tc sel y len q) (sl_cw sel y len q) (hu_c (len (sel (q / 8))) cc (y q))) (hQ : ru_Q rk y sc) (ha : ru_a y sc = n)
    (K : ∀ (bp : Int32) (sy' rk' : Nat → Int32), (∀ r, r < n → rk' r = nI (rk r)) → post (f_capacity, f_alphabet, f_slots, f_tables, nI cc, f_inputSize, f_outputSize, nI n, f_columnIndex, nI sc, f_groupCount, nI tc, nI (s * 128), bp, a_input, a_output, a_held, a_checks, a_packed, a_block, a_column, rk', a_otherRanks, a_links, a_starts, a_order, a_shifted, a_classes, a_nextClasses, a_buckets, a_list, sy', a_selectors, a_lengths, a_codes, a_lengthCounts, a_sorted, a_weights, a_parents, a_depths)) :
    ∀ d q k (sy' : Nat → Int32), q + d = sc → d < k → (∀ r, r < q → sy' r = nI (y r)) → wX_unpackRanks_103 post k (nI q) f_capacity f_alphabet f_slots f_tables (nI cc) f_inputSize f_outputSize (nI n) f_columnIndex (nI sc) f_groupCount (nI tc) (nI (s * 128)) (nI (sl_pc pl G cc tc sel y len q)) a_input a_output a_held a_checks a_packed a_block a_column a_ranks a_otherRanks a_links a_starts a_order a_shifted a_classes a_nextClasses a_buckets a_list sy' a_selectors a_lengths a_codes a_lengthCounts a_sorted a_weights a_parents a_depths := by
  have hw : ∀ q, q < sc → sl_cw sel y len q ≤ 16 := by
    intro q hq
    exact ((hG _ (hsel (q / 8) (by omega))).1 _ (hy q hq)).2
  intro d
  induction d with
  | zero =>
    intro q k sy' hd hk h1
    obtain ⟨k, rfl⟩ : ∃ q, k = q + 1 := ⟨k - 1, by omega⟩
    have e : q = sc := by omega
    subst e
    exact br_t (nI_le (Nat.le_refl q) (by omega)) (xw_expand hn (fun r hr => ⟨h1 r hr, by have := hy r hr; omega⟩) hQ ha (fun rk' h => K _ sy' rk' h))
  | succ d ih =>
    intro q k sy' hd hk h1
    obtain ⟨k, rfl⟩ : ∃ q, k = q + 1 := ⟨k - 1, by omega⟩
    have hst := hsel (q / 8) (by omega)
    have hpc := sl_pcb (pl := pl) hM htc hcc hG hw (q := q) (by omega)
    have hw16 := hw q (by omega)
    have hpc1 : sl_pc pl G cc tc sel y len q + sl_cw sel y len q = sl_pc pl G cc tc sel y len (q + 1) := by
      unfold sl_pc; rw [ca_ss, Nat.add_assoc]
    refine br_f (nI_ge (by omega) (by omega)) ?_
    rw [wk_shr3 (l := q) (by omega), wk_c (i := q / 8) (by omega), hse (q / 8) (by omega)]
    refine ⟨vp_in_nI (by omega) (by omega), ?_⟩
    refine xw_ts (l := len (sel (q / 8))) (v := y q) hs hB hcc ?_ (by omega) (hy q (by omega)) (hG _ hst) (hR _ hst).1 (hR _ hst).2 (hC q (by omega)) ⟨vp_in_nI (by omega) (by omega), ?_⟩
    · show _ + sl_cw sel y len q ≤ 4096
      omega
    · rw [wk_c (i := q) (by omega)]
      refine nm_e (nm_r (nI_1 q) ?_)
      have hgo := ih (q + 1) k (upd sy' q (nI (y q))) (by omega) (by omega) (fun r hr => ?_)
      · rw [← hpc1] at hgo; exact hgo
      · by_cases z : r = q
        · subst z; rw [pk_us]
        · rw [pk_un z]; exact h1 r (by omega)
theorem xw_up77 {post : SX → Prop} {B : Nat → Bool} {s cc sc tc n G : Nat} {rk y sel pl : Nat → Nat} {len : Nat → Nat → Nat} (hs : s < 4) (hB : ∀ i, i < 4096 → sl_B a_packed s i = B i) (hcc : cc ≤ 17) (h0 : 0 < cc) (hsc : sc ≤ 48) (htc : tc ≤ 4) (hn : n ≤ 48) (hGs : G = (sc + 7) / 8)
    (hM : mt_M tc G sel pl) (hsel : ∀ g, g < G → sel g < tc) (hse : ∀ g, g < G → a_selectors g = nI (sel g)) (hG : ∀ t, t < tc → hu_G (len t) cc) (hy : ∀ q, q < sc → y q < cc)
    (hT : ∀ t, t < tc → sl_T B (sl_pt pl G cc len t) cc (len t)) (hC : ∀ q, q < sc → sl_S B (sl_pc pl G cc tc sel y len q) (sl_cw sel y len q) (hu_c (len (sel (q / 8))) cc (y q))) (hQ : ru_Q rk y sc) (ha : ru_a y sc = n)
    (K : ∀ (bp : Int32) (le' co' lc' so' sy' rk' : Nat → Int32), (∀ r, r < n → rk' r = nI (rk r)) → post (f_capacity, f_alphabet, f_slots, f_tables, nI cc, f_inputSize, f_outputSize, nI n, f_columnIndex, nI sc, f_groupCount, nI tc, nI (s * 128), bp, a_input, a_output, a_held, a_checks, a_packed, a_block, a_column, rk', a_otherRanks, a_links, a_starts, a_order, a_shifted, a_classes, a_nextClasses, a_buckets, a_list, sy', a_selectors, le', co', lc', so', a_weights, a_parents, a_depths)) :
    ∀ d t k (le' co' lc' so' : Nat → Int32), t + d = tc → d < k → wk_rd cc t lc' so' len → wX_unpackRanks_77 post k (nI t) f_capacity f_alphabet f_slots f_tables (nI cc) f_inputSize f_outputSize (nI n) f_columnIndex (nI sc) f_groupCount (nI tc) (nI (s * 128)) (nI (sl_pt pl G cc len t)) a_input a_output a_held a_checks a_packed a_block a_column a_ranks a_otherRanks a_links a_starts a_order a_shifted a_classes a_nextClasses a_buckets a_list a_symbols a_selectors le' co' lc' so' a_weights a_parents a_depths := by
  intro d
  induction d with
  | zero =>
    intro t k le' co' lc' so' hd hk hR
    obtain ⟨k, rfl⟩ : ∃ q, k = q + 1 := ⟨k - 1, by omega⟩
    have e : t = tc := by omega
    subst e
    exact br_t (nI_le (Nat.le_refl t) (by omega)) ⟨sc + 1, xw_up103 (pl := pl) (G := G) hs hB hcc hsc htc hn hGs hM hsel hse hG hR hy hC hQ ha (fun bp sy' rk' h => K bp le' co' lc' so' sy' rk' h) sc 0 (sc + 1) _ (by omega) (by omega) (fun r hr => by omega)⟩
  | succ d ih =>
    intro t k le' co' lc' so' hd hk hR
    obtain ⟨k, rfl⟩ : ∃ q, k = q + 1 := ⟨k - 1, by omega⟩
    have hpt := sl_ptb hM htc hcc hG (t := t) (by omega)
    have hpt1 : sl_pt pl G cc len t + sl_L (len t) cc = sl_pt pl G cc len (t + 1) := by
      unfold sl_pt; rw [ca_ss, Nat.add_assoc]
    have hGt := hG t (by omega)
    refine br_f (nI_ge (by omega) (by omega)) (xw_rl (l := len t) hs hB (by omega) (by omega) hcc h0 hGt (hT t (by omega)) (fun le2 g1 g2 => ?_))
    refine xw_as hcc (by omega) hGt g1 (fun co2 so2 lc2 a1 a2 a3 a4 a5 a6 => nm_r (nI_1 t) ?_)
    rw [hpt1]
    refine ih (t + 1) k _ _ _ _ (by omega) (by omega) (fun u hu => ?_)
    by_cases z : u = t
    · subst z; exact ⟨a3, a2⟩
    · have := hR u (by omega)
      refine ⟨fun L h1 h2 => ?_, fun v hv => ?_⟩
      · rw [a6 _ (by omega)]; exact this.1 L h1 h2
      · have hr : ca_r cc (ca_X (len u)) v < cc := ca_rlt (ca_XT cc _) hv
        rw [a5 _ (by omega)]; exact this.2 v hv
theorem xw_ranks {post : SX → Prop} {B : Nat → Bool} {s A n : Nat} {x : Nat → Nat} (hs : s < 4) (hB : ∀ i, i < 4096 → sl_B a_packed s i = B i) (hA : A ≤ 16) (hn : n ≤ 48) (hR : sl_R A n x B)
    (K : ∀ (bb bp sc gc tc : Int32) (l' le' co' lc' so' sy' se' rk' : Nat → Int32) (rk : Nat → Nat), mt_M A n (ro_col n x) rk → (∀ r, r < n → rk' r = nI (rk r)) → post (f_capacity, f_alphabet, f_slots, f_tables, nI (A + 1), f_inputSize, f_outputSize, nI n, nI (ro_w n x 0), sc, gc, tc, bb, bp, a_input, a_output, a_held, a_checks, a_packed, a_block, a_column, rk', a_otherRanks, a_links, a_starts, a_order, a_shifted, a_classes, a_nextClasses, a_buckets, l', sy', se', le', co', lc', so', a_weights, a_parents, a_depths)) : wpX_unpackRanks post (f_capacity, f_alphabet, f_slots, f_tables, nI (A + 1), f_inputSize, f_outputSize, f_blockLength, f_columnIndex, f_symbolCount, f_groupCount, f_tableCount, f_bitBase, f_bitPlace, a_input, a_output, a_held, a_checks, a_packed, a_block, a_column, a_ranks, a_otherRanks, a_links, a_starts, a_order, a_shifted, a_classes, a_nextClasses, a_buckets, a_list, a_symbols, a_selectors, a_lengths, a_codes, a_lengthCounts, a_sorted, a_weights, a_parents, a_depths) (nI s) := by
  obtain ⟨h1, h2, h3⟩ := hR
  have hw0 : ro_w n x 0 ≤ 47 := by
    rcases Nat.eq_zero_or_pos n with z | z
    · subst z; rw [ro_w0]; omega
    · have := ro_wlt (x := x) z; omega
  refine nm_r (e' := nI (s * 128)) (pk_mul s 128) ?_
  refine xw_tbB (p := 0) (w := 6) (v := n) (M := 48) hs hB (by omega) (by omega) hn (by omega) (by omega) h1 ?_
  refine xw_tbB (p := 0 + 6) (w := 6) (v := ro_w n x 0) (M := 47) hs hB (by omega) (by omega) hw0 (by omega) (by omega) h2 ?_
  rcases Nat.eq_zero_or_pos n with hz | hz
  · subst hz
    exact br_t (nI_le (a := 0) (b := 0) (by omega) (by omega)) (K _ _ _ _ _ _ _ _ _ _ _ _ _ (fun _ => 0) (fun r hr => by omega) (fun r hr => by omega))
  obtain ⟨rk, sc, tc, y, sel, pl, len, m1, m2, m3, m4, m5, m6, m7, m8, b1, b2, b3, b4, b5⟩ := h3 hz
  have hsc : sc ≤ 48 := by have := ru_le y sc; omega
  refine br_f (nI_nle hz (by omega)) ?_
  refine xw_tbB (p := 0 + 6 + 6) (w := 6) (v := sc) (M := 48) hs hB (by omega) (by omega) hsc (by omega) (by omega) b1 ?_
  refine xw_tbB (p := 0 + 6 + 6 + 6) (w := 3) (v := tc) (M := 4) hs hB (by omega) (by omega) m5 (by omega) (by omega) b2 ?_
  have e7 : nI sc + 7 = nI (sc + 7) := nI_add sc 7
  refine nm_r (e' := nI ((sc + 7) / 8)) (by rw [e7, wk_shr3 (by omega)]) ?_
  refine xw_rs (G := (sc + 7) / 8) (pl := pl) hs hB m5 (by omega) m7 b3 (fun se' l' g1 => ⟨tc + 1, ?_⟩)
  exact xw_up77 (G := (sc + 7) / 8) (rk := rk) (y := y) (pl := pl) (len := len) hs hB (by omega) (by omega) hsc m5 hn rfl m7 m6 g1 m8 m4 b4 b5 m2 m3 (fun bp le' co' lc' so' sy' rk' h => K _ bp _ _ _ l' le' co' lc' so' sy' se' rk' rk m1 h) tc 0 (tc + 1) _ _ _ _ (by omega) (by omega) (fun u hu => by omega)
theorem xw_column {post : SX → Prop} {B : Nat → Bool} {s A n : Nat} {x : Nat → Nat} (hs : s < 4) (hB : ∀ i, i < 4096 → sl_B a_packed s i = B i) (hA : A ≤ 16) (hn : n ≤ 48) (hR : sl_R A n x B)
    (K : ∀ (bb bp sc gc tc : Int32) (l' le' co' lc' so' sy' se' rk' cl' : Nat → Int32), (∀ r, r < n → cl' r = nI (ro_col n x r)) → post (f_capacity, nI A, f_slots, f_tables, nI (A + 1), f_inputSize, f_outputSize, nI n, nI (ro_w n x 0), sc, gc, tc, bb, bp, a_input, a_output, a_held, a_checks, a_packed, a_block, cl', rk', a_otherRanks, a_links, a_starts, a_order, a_shifted, a_classes, a_nextClasses, a_buckets, l', sy', se', le', co', lc', so', a_weights, a_parents, a_depths)) : wpX_unpackColumn post (f_capacity, nI A, f_slots, f_tables, nI (A + 1), f_inputSize, f_outputSize, f_blockLength, f_columnIndex, f_symbolCount, f_groupCount, f_tableCount, f_bitBase, f_bitPlace, a_input, a_output, a_held, a_checks, a_packed, a_block, a_column, a_ranks, a_otherRanks, a_links, a_starts, a_order, a_shifted, a_classes, a_nextClasses, a_buckets, a_list, a_symbols, a_selectors, a_lengths, a_codes, a_lengthCounts, a_sorted, a_weights, a_parents, a_depths) (nI s) := by
  unfold wpX_unpackColumn
  refine xw_ranks hs hB hA hn hR (fun bb bp sc gc tc l' le' co' lc' so' sy' se' rk' rk hM hr => ?_)
  exact xw_unrank hn hA hM hr (fun l2 cl' h => K bb bp sc gc tc l2 le' co' lc' so' sy' se' rk' cl' h)
theorem xw_block {post : SX → Prop} {B : Nat → Bool} {s A n : Nat} {x : Nat → Nat} (hs : s < 4) (hB : ∀ i, i < 4096 → sl_B a_packed s i = B i) (hA : A ≤ 16) (hn : n ≤ 48) (hx : ∀ i, i < n → x i < A) (hR : sl_R A n x B)
    (K : ∀ (bb bp sc gc tc : Int32) (l' le' co' lc' so' sy' se' rk' cl' li' st' bl' : Nat → Int32), (∀ r, r < n → bl' r = nI (x r)) → post (f_capacity, nI A, f_slots, f_tables, nI (A + 1), f_inputSize, f_outputSize, nI n, nI (ro_w n x 0), sc, gc, tc, bb, bp, a_input, a_output, a_held, a_checks, a_packed, bl', cl', rk', a_otherRanks, li', st', a_order, a_shifted, a_classes, a_nextClasses, a_buckets, l', sy', se', le', co', lc', so', a_weights, a_parents, a_depths)) : wpX_unpackBlock post (f_capacity, nI A, f_slots, f_tables, nI (A + 1), f_inputSize, f_outputSize, f_blockLength, f_columnIndex, f_symbolCount, f_groupCount, f_tableCount, f_bitBase, f_bitPlace, a_input, a_output, a_held, a_checks, a_packed, a_block, a_column, a_ranks, a_otherRanks, a_links, a_starts, a_order, a_shifted, a_classes, a_nextClasses, a_buckets, a_list, a_symbols, a_selectors, a_lengths, a_codes, a_lengthCounts, a_sorted, a_weights, a_parents, a_depths) (nI s) := by
  unfold wpX_unpackBlock
  refine xw_column hs hB hA hn hR (fun bb bp sc gc tc l' le' co' lc' so' sy' se' rk' cl' hc => ?_)
  refine xw_links (c := ro_col n x) hn (fun i hi => ⟨hc i hi, by have := ro_collt hx hi; omega⟩) (fun li' st' hl => ?_)
  refine xw_unwind (c := ro_col n x) hn ?_ hc hl (fun bl' hb => K bb bp sc gc tc l' le' co' lc' so' sy' se' rk' cl' li' st' bl' (fun r hr => ?_))
  · rcases Nat.eq_zero_or_pos n with z | z
    · exact Or.inr z
    · exact Or.inl (ro_wlt z)
  · have h1 := hb (n - 1 - r) (by omega)
    have e : n - 1 - (n - 1 - r) = r := by omega
    rw [e, ro_unw (ro_colC n x) (by omega) (by omega), e, Nat.zero_add, ro_alt hr] at h1
    exact h1
end
end
section
/-! the reference: rotations, rows, column -/
section
variable {g_capacity g_alphabet g_slots g_tables g_inLen g_outLen g_n : Int32} {b_input b_output b_holds b_held b_heldLen b_checks b_x b_col b_table b_sorted b_order : Nat → Int32}
theorem yw_at {post : Int32 → Prop} {n i : Nat} {x : Nat → Nat} (h0 : 0 < n) (hn : n ≤ 48) (hi : i < 2 ^ 31) (hx : ∀ j, j < n → b_x j = nI (x j)) (K : post (nI (ro_a n x i))) : wpY_at post (g_capacity, g_alphabet, g_slots, g_tables, g_inLen, g_outLen, nI n, b_input, b_output, b_holds, b_held, b_heldLen, b_checks, b_x, b_col, b_table, b_sorted, b_order) (nI i) := by
  have hm : i % n < n := Nat.mod_lt _ h0
  refine br_f (nI_nle h0 (by omega)) (br_t (nI_pos' hi) ⟨nI_ne0 h0 (by omega), ?_⟩)
  rw [pk_rem hi h0 (by omega), wk_c (by omega), hx _ hm]
  exact ⟨vp_in_nI (by omega) (by omega), K⟩
theorem yw_cmp2 {post : Int32 → Prop} {n i j : Nat} {x : Nat → Nat} (hn : n ≤ 48) (hi : i < 1000) (hj : j < 1000) (hx : ∀ j, j < n → b_x j = nI (x j) ∧ x j < 16)
    (K : ∀ r : Int32, (r < 0 ↔ ro_L n x n i j) → (r = 0 ↔ ro_E n x n i j) → post r) :
    ∀ d k q, k + d = n → d < q → (∀ m, m < k → ro_a n x (i + m) = ro_a n x (j + m)) → wY_compare_2 post (nI i) (nI j) g_capacity g_alphabet g_slots g_tables g_inLen g_outLen (nI n) b_input b_output b_holds b_held b_heldLen b_checks b_x b_col b_table b_sorted b_order q (nI k) := by
  intro d
  induction d with
  | zero =>
    intro k q hd hq he
    obtain ⟨q, rfl⟩ : ∃ r, q = r + 1 := ⟨q - 1, by omega⟩
    have e : k = n := by omega
    subst e
    exact br_t (nI_le (Nat.le_refl k) (by omega)) (K 0 ⟨fun z => absurd z (by decide), fun z => (ro_le z he).elim⟩ ⟨fun _ => he, fun _ => rfl⟩)
  | succ d ih =>
    intro k q hd hq he
    obtain ⟨q, rfl⟩ : ∃ r, q = r + 1 := ⟨q - 1, by omega⟩
    have h0 : 0 < n := by omega
    have hx1 : ∀ j, j < n → b_x j = nI (x j) := fun j hj => (hx j hj).1
    have l1 := ro_alt2 h0 (fun j hj => (hx j hj).2) (i + k)
    have l2 := ro_alt2 h0 (fun j hj => (hx j hj).2) (j + k)
    refine br_f (nI_ge (by omega) (by omega)) ?_
    rw [nI_add, nI_add]
    refine yw_at h0 hn (by omega) hx1 (yw_at h0 hn (by omega) hx1 (pk_eq (ro_a n x (i + k)) (ro_a n x (j + k)) (fun e => ?_) (fun e => ?_)))
    · refine nm_r (nI_1 k) (ih (k + 1) q (by omega) (by omega) (fun m hm => ?_))
      by_cases z : m = k
      · subst z; exact e
      · exact he m (by omega)
    · have ht := pk_sub_toInt (a := ro_a n x (i + k)) (b := ro_a n x (j + k)) (by omega) (by omega)
      have e0 : (0 : Int32).toInt = 0 := by decide
      refine K _ ?_ ?_
      · rw [Int32.lt_iff_toInt_lt, ht, e0]
        constructor
        · intro z; exact ⟨k, by omega, he, show ro_a n x (i + k) < ro_a n x (j + k) by omega⟩
        · rintro ⟨m, hm, h1, h2⟩
          rcases Nat.lt_trichotomy m k with c | c | c
          · have := he m c; dsimp only at h2; omega
          · subst c; dsimp only at h2; omega
          · have := h1 k c; dsimp only at this; exact absurd this e
      · rw [← Int32.toInt_inj, ht, e0]
        constructor
        · intro z; omega
        · intro z; exact absurd (z k (by omega)) e
theorem yw_cmp {post : Int32 → Prop} {n i j : Nat} {x : Nat → Nat} (hn : n ≤ 48) (hi : i < 1000) (hj : j < 1000) (hx : ∀ j, j < n → b_x j = nI (x j) ∧ x j < 16)
    (K : ∀ r : Int32, (r < 0 ↔ ro_L n x n i j) → (r = 0 ↔ ro_E n x n i j) → post r) : wpY_compare post (g_capacity, g_alphabet, g_slots, g_tables, g_inLen, g_outLen, nI n, b_input, b_output, b_holds, b_held, b_heldLen, b_checks, b_x, b_col, b_table, b_sorted, b_order) (nI i) (nI j) :=
  ⟨n + 1, yw_cmp2 hn hi hj hx K n 0 (n + 1) (by omega) (by omega) (fun m hm => by omega)⟩
theorem yw_row4 {post : Int32 → Prop} {n i : Nat} {x : Nat → Nat} (hn : n ≤ 48) (hi : i < 1000) (hx : ∀ j, j < n → b_x j = nI (x j) ∧ x j < 16) (K : post (nI (ro_w n x i))) :
    ∀ d j q, j + d = n → d < q → wY_row_4 post (nI i) g_capacity g_alphabet g_slots g_tables g_inLen g_outLen (nI n) b_input b_output b_holds b_held b_heldLen b_checks b_x b_col b_table b_sorted b_order q (nI (ca_c (fun j => ro_K n x j i) j)) (nI j) := by
  intro d
  induction d with
  | zero =>
    intro j q hd hq
    obtain ⟨q, rfl⟩ : ∃ r, q = r + 1 := ⟨q - 1, by omega⟩
    have e : j = n := by omega
    subst e
    exact br_t (nI_le (Nat.le_refl j) (by omega)) K
  | succ d ih =>
    intro j q hd hq
    obtain ⟨q, rfl⟩ : ∃ r, q = r + 1 := ⟨q - 1, by omega⟩
    have go := ih (j + 1) q (by omega) (by omega)
    refine br_f (nI_ge (by omega) (by omega)) (yw_cmp hn (by omega) hi hx (fun r h1 h2 => ?_))
    by_cases z : r < 0
    · have hL := h1.mp z
      rw [ca_cst (p := fun j => ro_K n x j i) (Or.inl hL)] at go
      have nz : ¬ r = 0 := fun e => ro_le hL (h2.mp e)
      exact br_f (Int32.not_le.mpr z) (nm_r (nI_1 _) (br_f nz (nm_r (nI_1 j) go)))
    · refine br_t (Int32.not_lt.mp z) ?_
      by_cases y : r = 0
      · have hE := h2.mp y
        refine br_t y (pk_le i j (fun c => nm_r (nI_1 j) ?_) (fun c => nm_r (nI_1 _) (nm_r (nI_1 j) ?_)))
        · have nK : ¬ ro_K n x j i := by
            rintro (k | ⟨_, k⟩)
            · exact z (h1.mpr k)
            · omega
          rw [ca_csf (p := fun j => ro_K n x j i) nK] at go; exact go
        · rw [ca_cst (p := fun j => ro_K n x j i) (Or.inr ⟨hE, c⟩)] at go; exact go
      · have nK : ¬ ro_K n x j i := by
          rintro (k | ⟨k, _⟩)
          · exact z (h1.mpr k)
          · exact y (h2.mpr k)
        rw [ca_csf (p := fun j => ro_K n x j i) nK] at go
        exact br_f y (nm_r (nI_1 j) go)
theorem yw_row {post : Int32 → Prop} {n i : Nat} {x : Nat → Nat} (hn : n ≤ 48) (hi : i < 1000) (hx : ∀ j, j < n → b_x j = nI (x j) ∧ x j < 16) (K : post (nI (ro_w n x i))) : wpY_row post (g_capacity, g_alphabet, g_slots, g_tables, g_inLen, g_outLen, nI n, b_input, b_output, b_holds, b_held, b_heldLen, b_checks, b_x, b_col, b_table, b_sorted, b_order) (nI i) :=
  ⟨n + 1, yw_row4 hn hi hx K n 0 (n + 1) (by omega) (by omega)⟩
theorem yw_col2 {post : SY → Prop} {n : Nat} {x : Nat → Nat} (hn : n ≤ 48) (hx : ∀ j, j < n → b_x j = nI (x j) ∧ x j < 16) (K : ∀ c' : Nat → Int32, (∀ r, r < n → c' r = nI (ro_col n x r)) → post (g_capacity, g_alphabet, g_slots, g_tables, g_inLen, g_outLen, nI n, b_input, b_output, b_holds, b_held, b_heldLen, b_checks, b_x, c', b_table, b_sorted, b_order)) :
    ∀ d i q c', i + d = n → d < q → (∀ j, j < i → c' (ro_w n x j) = nI (ro_a n x (j + n - 1))) → wY_makeColumn_2 post g_capacity g_alphabet g_slots g_tables g_inLen g_outLen (nI n) q (nI i) b_input b_output b_holds b_held b_heldLen b_checks b_x c' b_table b_sorted b_order := by
  intro d
  induction d with
  | zero =>
    intro i q c' hd hq h
    obtain ⟨q, rfl⟩ : ∃ r, q = r + 1 := ⟨q - 1, by omega⟩
    have e : i = n := by omega
    subst e
    refine br_t (nI_le (Nat.le_refl i) (by omega)) (K c' (fun r hr => ?_))
    obtain ⟨j, hj, e⟩ := ca_sur (ro_wP i x) hr
    rw [← e, h j hj, ro_colC i x j hj]
  | succ d ih =>
    intro i q c' hd hq h
    obtain ⟨q, rfl⟩ : ∃ r, q = r + 1 := ⟨q - 1, by omega⟩
    have hw := ro_wlt (x := x) (show i < n by omega)
    have e1 : nI i + nI n - 1 = nI (i + n - 1) := by
      rw [nI_add]; exact pk_sub (b := 1) (by omega)
    refine br_f (nI_ge (by omega) (by omega)) (yw_row hn (by omega) hx ?_)
    rw [e1]
    refine yw_at (by omega) hn (by omega) (fun j hj => (hx j hj).1) ⟨vp_in_nI (by omega) (by omega), ?_⟩
    rw [wk_c (by omega)]
    refine nm_e (nm_r (nI_1 i) (ih (i + 1) q _ (by omega) (by omega) (fun j hj => ?_)))
    by_cases z : j = i
    · subst z; rw [pk_us]
    · rw [pk_un (fun y => z ((ro_wP n x).2 j i (by omega) (by omega) y))]; exact h j (by omega)
theorem yw_col {post : SY → Prop} {n : Nat} {x : Nat → Nat} (hn : n ≤ 48) (hx : ∀ j, j < n → b_x j = nI (x j) ∧ x j < 16) (K : ∀ c' : Nat → Int32, (∀ r, r < n → c' r = nI (ro_col n x r)) → post (g_capacity, g_alphabet, g_slots, g_tables, g_inLen, g_outLen, nI n, b_input, b_output, b_holds, b_held, b_heldLen, b_checks, b_x, c', b_table, b_sorted, b_order)) : wpY_makeColumn post (g_capacity, g_alphabet, g_slots, g_tables, g_inLen, g_outLen, nI n, b_input, b_output, b_holds, b_held, b_heldLen, b_checks, b_x, b_col, b_table, b_sorted, b_order) :=
  ⟨n + 1, yw_col2 hn hx K n 0 (n + 1) _ (by omega) (by omega) (fun j hj => by omega)⟩
theorem yw_occ3 {post : Int32 → Prop} {f t v : Nat} {c : Nat → Nat} (ht : t ≤ 48) (hv : v < 2 ^ 31) (hc : ∀ j, j < t → b_col j = nI (c j) ∧ c j < 2 ^ 31) (K0 : ¬ mt_o c v f t → post 0) (K1 : mt_o c v f t → post 1) :
    ∀ d k q, k + d = t → f ≤ k → d < q → (∀ m, f ≤ m → m < k → c m ≠ v) → wY_occurs_3 post (nI v) (nI t) g_capacity g_alphabet g_slots g_tables g_inLen g_outLen g_n b_input b_output b_holds b_held b_heldLen b_checks b_x b_col b_table b_sorted b_order q (nI k) := by
  intro d
  induction d with
  | zero =>
    intro k q hd hf hq h
    obtain ⟨q, rfl⟩ : ∃ r, q = r + 1 := ⟨q - 1, by omega⟩
    have e : k = t := by omega
    subst e
    exact br_t (nI_le (Nat.le_refl k) (by omega)) (K0 (fun ⟨m, h1, h2, h3⟩ => h m h1 h2 h3))
  | succ d ih =>
    intro k q hd hf hq h
    obtain ⟨q, rfl⟩ : ∃ r, q = r + 1 := ⟨q - 1, by omega⟩
    have hk := hc k (by omega)
    refine br_f (nI_ge (by omega) (by omega)) ⟨vp_in_nI (by omega) (by omega), ?_⟩
    rw [wk_c (i := k) (by omega), hk.1]
    refine pk_eq (c k) v (fun e => K1 ⟨k, hf, by omega, e⟩) (fun e => nm_r (nI_1 k) (ih (k + 1) q (by omega) (by omega) (by omega) (fun m h1 h2 => ?_))) rfl rfl hk.2 hv
    by_cases z : m = k
    · subst z; exact e
    · exact h m h1 (by omega)
theorem yw_occ {post : Int32 → Prop} {f t v : Nat} {c : Nat → Nat} (ht : t ≤ 48) (hf : f ≤ t) (hv : v < 2 ^ 31) (hc : ∀ j, j < t → b_col j = nI (c j) ∧ c j < 2 ^ 31) (K0 : ¬ mt_o c v f t → post 0) (K1 : mt_o c v f t → post 1) : wpY_occurs post (g_capacity, g_alphabet, g_slots, g_tables, g_inLen, g_outLen, g_n, b_input, b_output, b_holds, b_held, b_heldLen, b_checks, b_x, b_col, b_table, b_sorted, b_order) (nI v) (nI f) (nI t) :=
  ⟨t - f + 1, yw_occ3 ht hv hc K0 K1 (t - f) f _ (by omega) (by omega) (by omega) (fun m h1 h2 => by omega)⟩
theorem yw_dif5 {post : Int32 → Prop} {f t : Nat} {c : Nat → Nat} (ht : t ≤ 48) (hc : ∀ j, j < t → b_col j = nI (c j) ∧ c j < 2 ^ 31) (K : post (nI (ca_c (fun k => f ≤ k ∧ ¬ mt_o c (c k) f k) t))) :
    ∀ d k q, k + d = t → f ≤ k → d < q → wY_different_5 post (nI f) (nI t) g_capacity g_alphabet g_slots g_tables g_inLen g_outLen g_n b_input b_output b_holds b_held b_heldLen b_checks b_x b_col b_table b_sorted b_order q (nI (ca_c (fun k => f ≤ k ∧ ¬ mt_o c (c k) f k) k)) (nI k) := by
  intro d
  induction d with
  | zero =>
    intro k q hd hf hq
    obtain ⟨q, rfl⟩ : ∃ r, q = r + 1 := ⟨q - 1, by omega⟩
    have e : k = t := by omega
    subst e
    exact br_t (nI_le (Nat.le_refl k) (by omega)) K
  | succ d ih =>
    intro k q hd hf hq
    obtain ⟨q, rfl⟩ : ∃ r, q = r + 1 := ⟨q - 1, by omega⟩
    have hk := hc k (by omega)
    have go := ih (k + 1) q (by omega) (by omega) (by omega)
    refine br_f (nI_ge (by omega) (by omega)) ⟨vp_in_nI (by omega) (by omega), ?_⟩
    rw [wk_c (i := k) (by omega), hk.1]
    refine yw_occ (by omega) hf hk.2 (fun j hj => hc j (by omega)) (fun z => ?_) (fun z => ?_)
    · rw [ca_cst (p := fun k => f ≤ k ∧ ¬ mt_o c (c k) f k) ⟨hf, z⟩] at go
      exact br_t rfl (nm_r (nI_1 _) (nm_r (nI_1 k) go))
    · rw [ca_csf (p := fun k => f ≤ k ∧ ¬ mt_o c (c k) f k) (fun y => y.2 z)] at go
      exact br_f (by decide) (nm_r (nI_1 k) go)
theorem yw_dif {post : Int32 → Prop} {f t : Nat} {c : Nat → Nat} (ht : t ≤ 48) (hf : f ≤ t) (hc : ∀ j, j < t → b_col j = nI (c j) ∧ c j < 2 ^ 31) (K : post (nI (ca_c (fun k => f ≤ k ∧ ¬ mt_o c (c k) f k) t))) : wpY_different post (g_capacity, g_alphabet, g_slots, g_tables, g_inLen, g_outLen, g_n, b_input, b_output, b_holds, b_held, b_heldLen, b_checks, b_x, b_col, b_table, b_sorted, b_order) (nI f) (nI t) := by
  have h := yw_dif5 (g_capacity := g_capacity) (g_alphabet := g_alphabet) (g_slots := g_slots) (g_tables := g_tables) (g_inLen := g_inLen) (g_outLen := g_outLen) (g_n := g_n) (b_input := b_input) (b_output := b_output) (b_holds := b_holds) (b_held := b_held) (b_heldLen := b_heldLen) (b_checks := b_checks) (b_x := b_x) (b_table := b_table) (b_sorted := b_sorted) (b_order := b_order) ht hc K (t - f) f (t - f + 1) (by omega) (by omega) (by omega)
  rw [ca_cnone (fun i hi z => by have := z.1; omega)] at h
  exact ⟨t - f + 1, h⟩
end
end
section
/-! the reference's table of sorted rows -/
def in_o (o : Nat → Nat) (r k : Nat) : Nat → Nat := fun i => if i < k then o i else if i = k then r else o (i - 1)
theorem in_ol {o : Nat → Nat} {r k i : Nat} (h : i < k) : in_o o r k i = o i := if_pos h
theorem in_oe {o : Nat → Nat} {r k : Nat} : in_o o r k k = r := by unfold in_o; rw [if_neg (by omega), if_pos rfl]
theorem in_og {o : Nat → Nat} {r k i : Nat} (h : k < i) : in_o o r k i = o (i - 1) := by unfold in_o; rw [if_neg (by omega), if_neg (by omega)]
theorem in_insP {r k : Nat} {o : Nat → Nat} (hP : ca_P r o) (hk : k ≤ r) : ca_P (r + 1) (in_o o r k) := by
  have g : ∀ i, i < r + 1 → (i = k ∧ in_o o r k i = r) ∨ (∃ t, t < r ∧ in_o o r k i = o t ∧ ((i < k ∧ t = i) ∨ (k < i ∧ t + 1 = i))) := by
    intro i hi
    rcases Nat.lt_trichotomy i k with c | c | c
    · exact Or.inr ⟨i, by omega, in_ol c, Or.inl ⟨c, rfl⟩⟩
    · subst c; exact Or.inl ⟨rfl, in_oe⟩
    · exact Or.inr ⟨i - 1, by omega, in_og c, Or.inr ⟨c, by omega⟩⟩
  refine ⟨fun i hi => ?_, fun i j hi hj e => ?_⟩
  · rcases g i hi with ⟨_, e⟩ | ⟨t, ht, e, _⟩
    · rw [e]; omega
    · rw [e]; have := hP.1 t ht; omega
  · rcases g i hi with ⟨a, a'⟩ | ⟨t, ht, a, a'⟩
    · rcases g j hj with ⟨b, b'⟩ | ⟨u, hu, b, b'⟩
      · omega
      · rw [a', b] at e; have := hP.1 u hu; omega
    · rcases g j hj with ⟨b, b'⟩ | ⟨u, hu, b, b'⟩
      · rw [a, b'] at e; have := hP.1 t ht; omega
      · rw [a, b] at e
        have := hP.2 t u ht hu e
        omega
theorem in_insS {r k : Nat} {lt : Nat → Nat → Prop} (ir : ∀ a, ¬ lt a a) (nt : ∀ a b c, ¬ lt b a → ¬ lt c b → ¬ lt c a) (asy : ∀ a b, lt a b → ¬ lt b a) {o : Nat → Nat} (hs : ∀ i j, i < j → j < r → ¬ lt (o j) (o i)) (hk : k ≤ r)
    (h1 : 0 < k → ¬ lt r (o (k - 1))) (h2 : ∀ i, k ≤ i → i < r → lt r (o i)) : ∀ i j, i < j → j < r + 1 → ¬ lt (in_o o r k j) (in_o o r k i) := by
  intro i j hij hj
  rcases Nat.lt_trichotomy j k with c | c | c
  · rw [in_ol c, in_ol (by omega)]; exact hs i j hij (by omega)
  · subst c
    rw [in_oe, in_ol hij]
    by_cases e : i = j - 1
    · subst e; exact h1 (by omega)
    · exact nt _ _ _ (hs i (j - 1) (by omega) (by omega)) (h1 (by omega))
  · rw [in_og c]
    rcases Nat.lt_trichotomy i k with d | d | d
    · rw [in_ol d]; exact hs i (j - 1) (by omega) (by omega)
    · subst d; rw [in_oe]; exact asy _ _ (h2 (j - 1) (by omega) (by omega))
    · rw [in_og d]; exact hs (i - 1) (j - 1) (by omega) (by omega)
/-- rows of 48 places: those before R, and of row R those before Q -/
def wk_2 (a : Nat → Int32) (p n R Q : Nat) (T : Nat → Nat → Nat) : Prop := ∀ r q, p ≤ q → q < n → (r < R ∨ (r = R ∧ q < Q)) → a (r * 48 + q) = nI (T r q)
theorem wk_2s {a : Nat → Int32} {p n R Q : Nat} {T : Nat → Nat → Nat} (hn : n ≤ 48) (hQ : Q < n) (h : wk_2 a p n R Q T) : wk_2 (upd a (R * 48 + Q) (nI (T R Q))) p n R (Q + 1) T := by
  intro r q h1 h2 h3
  by_cases e : r = R ∧ q = Q
  · obtain ⟨e1, e2⟩ := e
    subst e1; subst e2; rw [pk_us]
  · rw [pk_un (by omega)]
    exact h r q h1 h2 (by omega)
theorem wk_2r {a : Nat → Int32} {p n R : Nat} {T : Nat → Nat → Nat} (h : wk_2 a p n R n T) : wk_2 a p n (R + 1) p T :=
  fun r q h1 h2 h3 => h r q h1 h2 (by omega)
theorem wk_t48 (r q : Nat) : nI r * 48 + nI q = nI (r * 48 + q) := by
  show nI r * nI 48 + nI q = _
  rw [pk_mul, nI_add]
def tb_l (T : Nat → Nat → Nat) (p n a b : Nat) : Prop := ro_l (fun m => T a (p + m)) (fun m => T b (p + m)) (n - p)
section
variable {g_capacity g_alphabet g_slots g_tables g_inLen g_outLen g_n : Int32} {b_input b_output b_holds b_held b_heldLen b_checks b_x b_col b_table b_sorted b_order : Nat → Int32}
theorem yw_bef3 {post : Int32 → Prop} {n p a b : Nat} {T : Nat → Nat → Nat} (hn : n ≤ 48) (ha : a < n) (hb : b < n) (hT : ∀ r q, r < n → p ≤ q → q < n → b_table (r * 48 + q) = nI (T r q) ∧ T r q < 16)
    (K0 : ¬ tb_l T p n a b → post 0) (K1 : tb_l T p n a b → post 1) :
    ∀ d k q, k + d = n - p → d < q → p ≤ n → (∀ m, m < k → T a (p + m) = T b (p + m)) → wY_before_3 post (nI a) (nI b) g_capacity g_alphabet g_slots g_tables (nI n) g_outLen g_n b_input b_output b_holds b_held b_heldLen b_checks b_x b_col b_table b_sorted b_order q (nI (p + k)) := by
  intro d
  induction d with
  | zero =>
    intro k q hd hq hp h
    obtain ⟨q, rfl⟩ : ∃ r, q = r + 1 := ⟨q - 1, by omega⟩
    refine br_t (nI_le (by omega) (by omega)) (K0 (fun z => ro_le z (fun m hm => h m (by omega))))
  | succ d ih =>
    intro k q hd hq hp h
    obtain ⟨q, rfl⟩ : ∃ r, q = r + 1 := ⟨q - 1, by omega⟩
    have h1 := hT a (p + k) ha (by omega) (by omega)
    have h2 := hT b (p + k) hb (by omega) (by omega)
    refine br_f (nI_ge (by omega) (by omega)) ?_
    rw [wk_t48, wk_t48, wk_c (i := a * 48 + (p + k)) (by omega), wk_c (i := b * 48 + (p + k)) (by omega), h1.1, h2.1]
    refine ⟨vp_in_nI (by omega) (by omega), nm_e ⟨vp_in_nI (by omega) (by omega), nm_e (pk_eq (T a (p + k)) (T b (p + k)) (fun e => nm_r (nI_1 (p + k)) (ih (k + 1) q (by omega) (by omega) hp (fun m hm => ?_))) (fun e => pk_le (T b (p + k)) (T a (p + k)) (fun c => K0 ?_) (fun c => K1 ⟨k, by omega, h, c⟩)))⟩⟩
    · by_cases z : m = k
      · subst z; exact e
      · exact h m (by omega)
    · rintro ⟨m, hm, g1, g2⟩
      dsimp only at g2
      rcases Nat.lt_trichotomy m k with c2 | c2 | c2
      · have := h m c2; omega
      · subst c2; omega
      · exact e (g1 k c2)
theorem yw_bef {post : Int32 → Prop} {n p a b : Nat} {T : Nat → Nat → Nat} (hn : n ≤ 48) (hp : p ≤ n) (ha : a < n) (hb : b < n) (hT : ∀ r q, r < n → p ≤ q → q < n → b_table (r * 48 + q) = nI (T r q) ∧ T r q < 16)
    (K0 : ¬ tb_l T p n a b → post 0) (K1 : tb_l T p n a b → post 1) : wpY_before post (g_capacity, g_alphabet, g_slots, g_tables, nI n, g_outLen, g_n, b_input, b_output, b_holds, b_held, b_heldLen, b_checks, b_x, b_col, b_table, b_sorted, b_order) (nI a) (nI b) (nI p) :=
  ⟨n - p + 1, yw_bef3 hn ha hb hT K0 K1 (n - p) 0 _ (by omega) (by omega) hp (fun m hm => by omega)⟩
theorem yw_mt181 {post : SY → Prop} {J7 : Int32 → (Nat → Int32) → (Nat → Int32) → (Nat → Int32) → (Nat → Int32) → (Nat → Int32) → (Nat → Int32) → (Nat → Int32) → (Nat → Int32) → (Nat → Int32) → (Nat → Int32) → (Nat → Int32) → Prop} {J : Int32 → (Nat → Int32) → (Nat → Int32) → (Nat → Int32) → (Nat → Int32) → (Nat → Int32) → (Nat → Int32) → (Nat → Int32) → (Nat → Int32) → (Nat → Int32) → (Nat → Int32) → (Nat → Int32) → Prop}
    {n p r : Nat} {T : Nat → Nat → Nat} (hn : n ≤ 48) (hr : r < n) (hT : ∀ q, p ≤ q → q < n → b_sorted (r * 48 + q) = nI (T r q))
    (K : ∀ t' : Nat → Int32, wk_2 t' p n (r + 1) p T → J (nI (r + 1)) b_input b_output b_holds b_held b_heldLen b_checks b_x b_col t' b_sorted b_order) :
    ∀ d q k t', q + d = n → p ≤ q → d < k → wk_2 t' p n r q T → wY_makeTable_181 post J7 J (nI p) (nI r) g_capacity g_alphabet g_slots g_tables (nI n) g_outLen g_n k (nI q) b_input b_output b_holds b_held b_heldLen b_checks b_x b_col t' b_sorted b_order := by
  intro d
  induction d with
  | zero =>
    intro q k t' hd hp hk h
    obtain ⟨k, rfl⟩ : ∃ r, k = r + 1 := ⟨k - 1, by omega⟩
    have e : q = n := by omega
    subst e
    exact br_t (nI_le (Nat.le_refl q) (by omega)) (nm_r (nI_1 r) (K t' (wk_2r h)))
  | succ d ih =>
    intro q k t' hd hp hk h
    obtain ⟨k, rfl⟩ : ∃ r, k = r + 1 := ⟨k - 1, by omega⟩
    refine br_f (nI_ge (by omega) (by omega)) ?_
    rw [wk_t48, wk_c (i := r * 48 + q) (by omega), hT q hp (by omega)]
    exact ⟨vp_in_nI (by omega) (by omega), vp_in_nI (by omega) (by omega), nm_e (nm_r (nI_1 q) (ih (q + 1) k _ (by omega) (by omega) (by omega) (wk_2s hn (by omega) h)))⟩
theorem yw_mt171 {post : SY → Prop} {J7 : Int32 → (Nat → Int32) → (Nat → Int32) → (Nat → Int32) → (Nat → Int32) → (Nat → Int32) → (Nat → Int32) → (Nat → Int32) → (Nat → Int32) → (Nat → Int32) → (Nat → Int32) → (Nat → Int32) → Prop}
    {n p : Nat} {T : Nat → Nat → Nat} (hn : n ≤ 48) (hp : p ≤ n) (hT : ∀ r q, r < n → p ≤ q → q < n → b_sorted (r * 48 + q) = nI (T r q))
    (K : ∀ t' : Nat → Int32, (∀ r q, r < n → p ≤ q → q < n → t' (r * 48 + q) = nI (T r q)) → J7 (nI p - 1) b_input b_output b_holds b_held b_heldLen b_checks b_x b_col t' b_sorted b_order) :
    ∀ d r k t', r + d = n → d < k → wk_2 t' p n r p T → wY_makeTable_171 post J7 (nI p) g_capacity g_alphabet g_slots g_tables (nI n) g_outLen g_n k (nI r) b_input b_output b_holds b_held b_heldLen b_checks b_x b_col t' b_sorted b_order := by
  intro d
  induction d with
  | zero =>
    intro r k t' hd hk h
    obtain ⟨k, rfl⟩ : ∃ r, k = r + 1 := ⟨k - 1, by omega⟩
    have e : r = n := by omega
    subst e
    exact br_t (nI_le (Nat.le_refl r) (by omega)) (nm_r (wk_m1 p) (K t' (fun r' q h1 h2 h3 => h r' q h2 h3 (Or.inl h1))))
  | succ d ih =>
    intro r k t' hd hk h
    obtain ⟨k, rfl⟩ : ∃ r, k = r + 1 := ⟨k - 1, by omega⟩
    exact br_f (nI_ge (by omega) (by omega)) ⟨n - p + 1, yw_mt181 hn (by omega) (fun q h1 h2 => hT r q (by omega) h1 h2) (fun t2 h2 => ih (r + 1) k t2 (by omega) (by omega) h2) (n - p) p _ t' (by omega) (by omega) (by omega) h⟩
theorem yw_mt122 {post : SY → Prop} {J7 : Int32 → (Nat → Int32) → (Nat → Int32) → (Nat → Int32) → (Nat → Int32) → (Nat → Int32) → (Nat → Int32) → (Nat → Int32) → (Nat → Int32) → (Nat → Int32) → (Nat → Int32) → (Nat → Int32) → Prop} {J : Int32 → (Nat → Int32) → (Nat → Int32) → (Nat → Int32) → (Nat → Int32) → (Nat → Int32) → (Nat → Int32) → (Nat → Int32) → (Nat → Int32) → (Nat → Int32) → (Nat → Int32) → (Nat → Int32) → Prop}
    {n p r : Nat} {o : Nat → Nat} {T : Nat → Nat → Nat} (hn : n ≤ 48) (hr : r < n) (ho : b_order r = nI (o r)) (hol : o r < n) (hT : ∀ r q, r < n → p ≤ q → q < n → b_table (r * 48 + q) = nI (T r q))
    (K : ∀ s' : Nat → Int32, wk_2 s' p n (r + 1) p (fun r q => T (o r) q) → J (nI (r + 1)) b_input b_output b_holds b_held b_heldLen b_checks b_x b_col b_table s' b_order) :
    ∀ d q k s', q + d = n → p ≤ q → d < k → wk_2 s' p n r q (fun r q => T (o r) q) → wY_makeTable_122 post J7 J (nI p) (nI r) g_capacity g_alphabet g_slots g_tables (nI n) g_outLen g_n k (nI q) b_input b_output b_holds b_held b_heldLen b_checks b_x b_col b_table s' b_order := by
  intro d
  induction d with
  | zero =>
    intro q k s' hd hp hk h
    obtain ⟨k, rfl⟩ : ∃ r, k = r + 1 := ⟨k - 1, by omega⟩
    have e : q = n := by omega
    subst e
    exact br_t (nI_le (Nat.le_refl q) (by omega)) (nm_r (nI_1 r) (K s' (wk_2r h)))
  | succ d ih =>
    intro q k s' hd hp hk h
    obtain ⟨k, rfl⟩ : ∃ r, k = r + 1 := ⟨k - 1, by omega⟩
    refine br_f (nI_ge (by omega) (by omega)) ?_
    rw [wk_c (i := r) (by omega), ho, wk_t48, wk_t48, wk_c (i := r * 48 + q) (by omega), wk_c (i := o r * 48 + q) (by omega), hT (o r) q hol hp (by omega)]
    exact ⟨vp_in_nI (by omega) (by omega), vp_in_nI (by omega) (by omega), vp_in_nI (by omega) (by omega), nm_e (nm_r (nI_1 q) (ih (q + 1) k _ (by omega) (by omega) (by omega) (wk_2s (T := fun r q => T (o r) q) hn (by omega) h)))⟩
theorem yw_mt112 {post : SY → Prop} {J7 : Int32 → (Nat → Int32) → (Nat → Int32) → (Nat → Int32) → (Nat → Int32) → (Nat → Int32) → (Nat → Int32) → (Nat → Int32) → (Nat → Int32) → (Nat → Int32) → (Nat → Int32) → (Nat → Int32) → Prop}
    {n p : Nat} {o : Nat → Nat} {T : Nat → Nat → Nat} (hn : n ≤ 48) (hp : p ≤ n) (ho : ∀ r, r < n → b_order r = nI (o r) ∧ o r < n) (hT : ∀ r q, r < n → p ≤ q → q < n → b_table (r * 48 + q) = nI (T r q))
    (K : ∀ t' s' : Nat → Int32, (∀ r q, r < n → p ≤ q → q < n → t' (r * 48 + q) = nI (T (o r) q)) → J7 (nI p - 1) b_input b_output b_holds b_held b_heldLen b_checks b_x b_col t' s' b_order) :
    ∀ d r k s', r + d = n → d < k → wk_2 s' p n r p (fun r q => T (o r) q) → wY_makeTable_112 post J7 (nI p) g_capacity g_alphabet g_slots g_tables (nI n) g_outLen g_n k (nI r) b_input b_output b_holds b_held b_heldLen b_checks b_x b_col b_table s' b_order := by
  intro d
  induction d with
  | zero =>
    intro r k s' hd hk h
    obtain ⟨k, rfl⟩ : ∃ r, k = r + 1 := ⟨k - 1, by omega⟩
    have e : r = n := by omega
    subst e
    exact br_t (nI_le (Nat.le_refl r) (by omega)) ⟨r + 1, yw_mt171 (T := fun r q => T (o r) q) hn hp (fun r' q h1 h2 h3 => h r' q h2 h3 (Or.inl h1)) (fun t' h' => K t' s' h') r 0 _ _ (by omega) (by omega) (fun r' q h1 h2 h3 => by omega)⟩
  | succ d ih =>
    intro r k s' hd hk h
    obtain ⟨k, rfl⟩ : ∃ r, k = r + 1 := ⟨k - 1, by omega⟩
    have hor := ho r (by omega)
    exact br_f (nI_ge (by omega) (by omega)) ⟨n - p + 1, yw_mt122 hn (by omega) hor.1 hor.2 hT (fun s2 h2 => ih (r + 1) k s2 (by omega) (by omega) h2) (n - p) p _ s' (by omega) (by omega) (by omega) h⟩
theorem yw_mt56 {post : SY → Prop} {J7 : Int32 → (Nat → Int32) → (Nat → Int32) → (Nat → Int32) → (Nat → Int32) → (Nat → Int32) → (Nat → Int32) → (Nat → Int32) → (Nat → Int32) → (Nat → Int32) → (Nat → Int32) → (Nat → Int32) → Prop} {J : Int32 → (Nat → Int32) → (Nat → Int32) → (Nat → Int32) → (Nat → Int32) → (Nat → Int32) → (Nat → Int32) → (Nat → Int32) → (Nat → Int32) → (Nat → Int32) → (Nat → Int32) → (Nat → Int32) → Prop}
    {n p r : Nat} {o : Nat → Nat} {T : Nat → Nat → Nat} (hn : n ≤ 48) (hp : p ≤ n) (hr : r < n) (hP : ca_P r o) (hS : ∀ i j, i < j → j < r → ¬ tb_l T p n (o j) (o i)) (hT : ∀ r q, r < n → p ≤ q → q < n → b_table (r * 48 + q) = nI (T r q) ∧ T r q < 16)
    (K : ∀ (a' : Nat → Int32) (o' : Nat → Nat), (∀ i, i < r + 1 → a' i = nI (o' i)) → ca_P (r + 1) o' → (∀ i j, i < j → j < r + 1 → ¬ tb_l T p n (o' j) (o' i)) → J (nI (r + 1)) b_input b_output b_holds b_held b_heldLen b_checks b_x b_col b_table b_sorted a') :
    ∀ k q (a' : Nat → Int32), k ≤ r → k < q → (∀ i, i < k → a' i = nI (o i)) → (∀ i, k < i → i ≤ r → a' i = nI (o (i - 1))) → (∀ i, k ≤ i → i < r → tb_l T p n r (o i)) → wY_makeTable_56 post J7 J (nI p) (nI r) g_capacity g_alphabet g_slots g_tables (nI n) g_outLen g_n q (nI k) b_input b_output b_holds b_held b_heldLen b_checks b_x b_col b_table b_sorted a' := by
  have ir : ∀ a, ¬ tb_l T p n a a := fun a h => ro_irr h
  have nt : ∀ a b c, ¬ tb_l T p n b a → ¬ tb_l T p n c b → ¬ tb_l T p n c a := fun a b c h1 h2 => ro_ntr h1 h2
  have asy : ∀ a b, tb_l T p n a b → ¬ tb_l T p n b a := fun a b h1 h2 => ro_asym h1 h2
  have fin : ∀ k (a' : Nat → Int32), k ≤ r → (∀ i, i < k → a' i = nI (o i)) → (∀ i, k < i → i ≤ r → a' i = nI (o (i - 1))) → (∀ i, k ≤ i → i < r → tb_l T p n r (o i)) → (0 < k → ¬ tb_l T p n r (o (k - 1))) → J (nI (r + 1)) b_input b_output b_holds b_held b_heldLen b_checks b_x b_col b_table b_sorted (upd a' k (nI r)) := by
    intro k a' hk h1 h2 h3 h4
    refine K _ (in_o o r k) (fun i hi => ?_) (in_insP hP hk) (in_insS ir nt asy hS hk h4 h3)
    rcases Nat.lt_trichotomy i k with c | c | c
    · rw [pk_un (by omega), in_ol c]; exact h1 i c
    · subst c; rw [pk_us, in_oe]
    · rw [pk_un (by omega), in_og c]; exact h2 i c (by omega)
  intro k
  induction k with
  | zero =>
    intro q a' hk hq h1 h2 h3
    obtain ⟨q, rfl⟩ : ∃ r, q = r + 1 := ⟨q - 1, by omega⟩
    refine br_t (nI_le (a := 0) (b := 0) (by omega) (by omega)) ⟨vp_in_nI (by omega) (by omega), ?_⟩
    rw [wk_c (i := 0) (by omega)]
    exact nm_e (nm_r (nI_1 r) (fin 0 a' (by omega) h1 h2 h3 (fun z => by omega)))
  | succ k ih =>
    intro q a' hk hq h1 h2 h3
    obtain ⟨q, rfl⟩ : ∃ r, q = r + 1 := ⟨q - 1, by omega⟩
    have hok := hP.1 k (by omega)
    refine br_f (nI_nle (by omega) (by omega)) ?_
    rw [nI_pred, wk_c (i := k) (by omega), wk_c (i := k + 1) (by omega), h1 k (by omega)]
    refine ⟨vp_in_nI (by omega) (by omega), yw_bef hn hp hr (by omega) hT (fun z => ?_) (fun z => ?_)⟩
    · exact br_t rfl ⟨vp_in_nI (by omega) (by omega), nm_e (nm_r (nI_1 r) (fin (k + 1) a' hk h1 h2 h3 (fun _ => z)))⟩
    · refine br_f (by decide) ⟨vp_in_nI (by omega) (by omega), vp_in_nI (by omega) (by omega), nm_e (nm_r (pk_m1 k) (ih q _ (by omega) (by omega) (fun i hi => ?_) (fun i g1 g2 => ?_) (fun i g1 g2 => ?_)))⟩
      · rw [pk_un (by omega)]; exact h1 i (by omega)
      · by_cases y : i = k + 1
        · subst y; rw [pk_us, Nat.add_sub_cancel]
        · rw [pk_un y]; exact h2 i (by omega) g2
      · by_cases y : i = k
        · subst y; exact z
        · exact h3 i (by omega) g2
theorem yw_mt46 {post : SY → Prop} {J7 : Int32 → (Nat → Int32) → (Nat → Int32) → (Nat → Int32) → (Nat → Int32) → (Nat → Int32) → (Nat → Int32) → (Nat → Int32) → (Nat → Int32) → (Nat → Int32) → (Nat → Int32) → (Nat → Int32) → Prop}
    {n p : Nat} {T : Nat → Nat → Nat} (hn : n ≤ 48) (hp : p ≤ n) (hT : ∀ r q, r < n → p ≤ q → q < n → b_table (r * 48 + q) = nI (T r q) ∧ T r q < 16)
    (K : ∀ (t' s' o' : Nat → Int32) (o : Nat → Nat), ca_P n o → (∀ i j, i < j → j < n → ¬ tb_l T p n (o j) (o i)) → (∀ r q, r < n → p ≤ q → q < n → t' (r * 48 + q) = nI (T (o r) q)) → J7 (nI p - 1) b_input b_output b_holds b_held b_heldLen b_checks b_x b_col t' s' o') :
    ∀ d r k (a' : Nat → Int32) (o : Nat → Nat), r + d = n → d < k → (∀ i, i < r → a' i = nI (o i)) → ca_P r o → (∀ i j, i < j → j < r → ¬ tb_l T p n (o j) (o i)) → wY_makeTable_46 post J7 (nI p) g_capacity g_alphabet g_slots g_tables (nI n) g_outLen g_n k (nI r) b_input b_output b_holds b_held b_heldLen b_checks b_x b_col b_table b_sorted a' := by
  intro d
  induction d with
  | zero =>
    intro r k a' o hd hk h1 h2 h3
    obtain ⟨k, rfl⟩ : ∃ r, k = r + 1 := ⟨k - 1, by omega⟩
    have e : r = n := by omega
    subst e
    exact br_t (nI_le (Nat.le_refl r) (by omega)) ⟨r + 1, yw_mt112 hn hp (fun i hi => ⟨h1 i hi, h2.1 i hi⟩) (fun r q g1 g2 g3 => (hT r q g1 g2 g3).1) (fun t' s' h => K t' s' a' o h2 h3 h) r 0 _ _ (by omega) (by omega) (fun r' q g1 g2 g3 => by omega)⟩
  | succ d ih =>
    intro r k a' o hd hk h1 h2 h3
    obtain ⟨k, rfl⟩ : ∃ r, k = r + 1 := ⟨k - 1, by omega⟩
    exact br_f (nI_ge (by omega) (by omega)) ⟨r + 1, yw_mt56 hn hp (by omega) h2 h3 hT (fun a2 o2 g1 g2 g3 => ih (r + 1) k a2 o2 (by omega) (by omega) g1 g2 g3) r _ a' (Nat.le_refl r) (by omega) h1 (fun i g1 g2 => by omega) (fun i g1 g2 => by omega)⟩
theorem yw_mt13 {post : SY → Prop} {J7 : Int32 → (Nat → Int32) → (Nat → Int32) → (Nat → Int32) → (Nat → Int32) → (Nat → Int32) → (Nat → Int32) → (Nat → Int32) → (Nat → Int32) → (Nat → Int32) → (Nat → Int32) → (Nat → Int32) → Prop}
    {n p : Nat} {c : Nat → Nat} {T : Nat → Nat → Nat} (hn : n ≤ 48) (hp : p < n) (hc : ∀ r, r < n → b_input r = nI (c r) ∧ c r < 16) (hT : ∀ r q, r < n → p < q → q < n → T r q < 16)
    (K : ∀ (t' s' o' : Nat → Int32) (o : Nat → Nat), ca_P n o → (∀ i j, i < j → j < n → ¬ tb_l (fun r q => if q = p then c r else T r q) p n (o j) (o i)) → (∀ r q, r < n → p ≤ q → q < n → t' (r * 48 + q) = nI (if q = p then c (o r) else T (o r) q)) → J7 (nI p - 1) b_input b_output b_holds b_held b_heldLen b_checks b_x b_col t' s' o') :
    ∀ d r k t', r + d = n → d < k → (∀ r q, r < n → p < q → q < n → t' (r * 48 + q) = nI (T r q)) → (∀ i, i < r → t' (i * 48 + p) = nI (c i)) → wY_makeTable_13 post J7 (nI p) g_capacity g_alphabet g_slots g_tables (nI n) g_outLen g_n k (nI r) b_input b_output b_holds b_held b_heldLen b_checks b_x b_col t' b_sorted b_order := by
  intro d
  induction d with
  | zero =>
    intro r k t' hd hk h1 h2
    obtain ⟨k, rfl⟩ : ∃ r, k = r + 1 := ⟨k - 1, by omega⟩
    have e : r = n := by omega
    subst e
    refine br_t (nI_le (Nat.le_refl r) (by omega)) ⟨r + 1, yw_mt46 (T := fun r q => if q = p then c r else T r q) hn (by omega) (fun i q g1 g2 g3 => ?_) K r 0 _ _ (fun i => i) (by omega) (by omega) (fun i hi => by omega) (ca_Pid 0) (fun i j _ hj => by omega)⟩
    show t' (i * 48 + q) = nI (if q = p then c i else T i q) ∧ (if q = p then c i else T i q) < 16
    by_cases z : q = p
    · subst z; rw [if_pos rfl]; exact ⟨h2 i g1, (hc i g1).2⟩
    · rw [if_neg z]; exact ⟨h1 i q g1 (by omega) g3, hT i q g1 (by omega) g3⟩
  | succ d ih =>
    intro r k t' hd hk h1 h2
    obtain ⟨k, rfl⟩ : ∃ r, k = r + 1 := ⟨k - 1, by omega⟩
    refine br_f (nI_ge (by omega) (by omega)) ?_
    rw [wk_t48, wk_c (i := r * 48 + p) (by omega), wk_c (i := r) (by omega), (hc r (by omega)).1]
    refine ⟨vp_in_nI (by omega) (by omega), vp_in_nI (by omega) (by omega), nm_e (nm_r (nI_1 r) (ih (r + 1) k _ (by omega) (by omega) (fun i q g1 g2 g3 => ?_) (fun i hi => ?_)))⟩
    · rw [pk_un (by omega)]; exact h1 i q g1 g2 g3
    · by_cases z : i = r
      · subst z; rw [pk_us]
      · rw [pk_un (by omega)]; exact h2 i (by omega)
/-- what the table is worth from place p on -/
def tb_I (n : Nat) (c : Nat → Nat) (p : Nat) (T : Nat → Nat → Nat) : Prop :=
  (∀ r q, r < n → p ≤ q → q < n → ∃ i, i < n ∧ T r q = c i) ∧ (∀ z, ro_C n z c → ∀ r m, r < n → m < n - p → T r (p + m) = ro_a n z (ca_v n (ro_w n z) r + m))
theorem tb_step {n p : Nat} {c o : Nat → Nat} {T : Nat → Nat → Nat} (hp : p < n) (I : tb_I n c (p + 1) T) (ho : ca_P n o) (hS : ∀ i j, i < j → j < n → ¬ tb_l (fun r q => if q = p then c r else T r q) p n (o j) (o i)) : tb_I n c p (fun r q => if q = p then c (o r) else T (o r) q) := by
  refine ⟨fun r q h1 h2 h3 => ?_, fun z hz r m hr hm => ?_⟩
  · show ∃ i, i < n ∧ (if q = p then c (o r) else T (o r) q) = c i
    by_cases e : q = p
    · rw [if_pos e]; exact ⟨o r, ho.1 r h1, rfl⟩
    · rw [if_neg e]; exact I.1 (o r) q (ho.1 r h1) (by omega) h3
  · have h := ro_tab (k := n - (p + 1)) (u := fun r m => if p + m = p then c r else T r (p + m)) hz (by omega) ho (fun r hr => if_pos rfl) (fun r m hr hm => ?_) (fun r s h hs => ?_) r m hr (by omega)
    · exact h
    · show (if p + (m + 1) = p then c r else T r (p + (m + 1))) = _
      rw [if_neg (by omega)]
      have := I.2 z hz r m hr hm
      have e : p + 1 + m = p + (m + 1) := by omega
      rw [e] at this; exact this
    · have e : n - (p + 1) + 1 = n - p := by omega
      rw [e]
      exact hS r s h hs
theorem yw_mt7 {post : SY → Prop} {n : Nat} {c : Nat → Nat} (hn : n ≤ 48) (hc : ∀ r, r < n → b_input r = nI (c r) ∧ c r < 16)
    (K : ∀ (t' s' o' : Nat → Int32) (T : Nat → Nat → Nat), (∀ r q, r < n → q < n → t' (r * 48 + q) = nI (T r q)) → tb_I n c 0 T → post (g_capacity, g_alphabet, g_slots, g_tables, nI n, g_outLen, g_n, b_input, b_output, b_holds, b_held, b_heldLen, b_checks, b_x, b_col, t', s', o')) :
    ∀ p k x1 (t' s' o' : Nat → Int32) (T : Nat → Nat → Nat), p ≤ n → p < k → x1 = nI p - 1 → (∀ r q, r < n → p ≤ q → q < n → t' (r * 48 + q) = nI (T r q)) → tb_I n c p T → wY_makeTable_7 post g_capacity g_alphabet g_slots g_tables (nI n) g_outLen g_n k x1 b_input b_output b_holds b_held b_heldLen b_checks b_x b_col t' s' o' := by
  intro p
  induction p with
  | zero =>
    intro k x1 t' s' o' T hp hk hx h1 I
    obtain ⟨k, rfl⟩ : ∃ r, k = r + 1 := ⟨k - 1, by omega⟩
    subst hx
    exact br_t wk_neg (K t' s' o' T (fun r q g1 g2 => h1 r q g1 (by omega) g2) I)
  | succ p ih =>
    intro k x1 t' s' o' T hp hk hx h1 I
    obtain ⟨k, rfl⟩ : ∃ r, k = r + 1 := ⟨k - 1, by omega⟩
    rw [nI_pred] at hx
    subst hx
    refine br_f (nI_pos (by omega)) ⟨n + 1, yw_mt13 (c := c) (T := T) hn (by omega) hc (fun r q g1 g2 g3 => ?_) (fun t2 s2 o2 o g1 g2 g3 => ih k _ t2 s2 o2 _ (by omega) (by omega) rfl g3 (tb_step (by omega) I g1 g2)) n 0 _ t' (by omega) (by omega) (fun r q g1 g2 g3 => h1 r q g1 (by omega) g3) (fun i hi => by omega)⟩
    obtain ⟨i, hi, e⟩ := I.1 r q g1 (by omega) g3
    rw [e]; exact (hc i hi).2
theorem yw_mt {post : SY → Prop} {n : Nat} {c : Nat → Nat} (hn : n ≤ 48) (hc : ∀ r, r < n → b_input r = nI (c r) ∧ c r < 16)
    (K : ∀ (t' s' o' : Nat → Int32) (T : Nat → Nat → Nat), (∀ r q, r < n → q < n → t' (r * 48 + q) = nI (T r q)) → tb_I n c 0 T → post (g_capacity, g_alphabet, g_slots, g_tables, nI n, g_outLen, g_n, b_input, b_output, b_holds, b_held, b_heldLen, b_checks, b_x, b_col, t', s', o')) : wpY_makeTable post (g_capacity, g_alphabet, g_slots, g_tables, nI n, g_outLen, g_n, b_input, b_output, b_holds, b_held, b_heldLen, b_checks, b_x, b_col, b_table, b_sorted, b_order) :=
  nm_e ⟨n + 1, yw_mt7 hn hc K n (n + 1) _ _ _ _ (fun _ _ => 0) (Nat.le_refl n) (by omega) rfl (fun r q g1 g2 g3 => by omega) ⟨fun r q g1 g2 g3 => by omega, fun z hz r m hr hm => by omega⟩⟩
end
end
section
/-! the relation -/
def rl_A (A n : Nat) (x : Nat → Nat) (a : Nat → Int32) : Prop := ∀ i, i < n → a i = nI (x i) ∧ x i < A
def rl_slot (A C s : Nat) (pk bh bl : Nat → Int32) : Prop := ∃ (n : Nat) (x : Nat → Nat), n ≤ C ∧ bl s = nI n ∧ (∀ i, i < n → bh (s * 48 + i) = nI (x i) ∧ x i < A) ∧ ∃ B : Nat → Bool, (∀ i, i < 4096 → sl_B pk s i = B i) ∧ sl_R A n x B
def rl_G (C A S T n m : Nat) (xi xo : Nat → Nat) (ain aout ah pk bin bout bh bl : Nat → Int32) : Prop :=
  (8 ≤ C ∧ C ≤ 48) ∧ (2 ≤ A ∧ A ≤ 16) ∧ (1 ≤ S ∧ S ≤ 4) ∧ (2 ≤ T ∧ T ≤ 4) ∧ n ≤ C ∧ m ≤ C ∧ rl_A A n xi ain ∧ rl_A A n xi bin ∧ rl_A A m xo aout ∧ rl_A A m xo bout ∧ (∀ s, s < 4 → ah s ≠ 0 → rl_slot A C s pk bh bl)
def i_Rel (_ : Nat) (u : SX) (v : SY) : Prop := match u, v with
  | (f_capacity, f_alphabet, f_slots, f_tables, f_codeCount, f_inputSize, f_outputSize, f_blockLength, f_columnIndex, f_symbolCount, f_groupCount, f_tableCount, f_bitBase, f_bitPlace, a_input, a_output, a_held, a_checks, a_packed, a_block, a_column, a_ranks, a_otherRanks, a_links, a_starts, a_order, a_shifted, a_classes, a_nextClasses, a_buckets, a_list, a_symbols, a_selectors, a_lengths, a_codes, a_lengthCounts, a_sorted, a_weights, a_parents, a_depths), (g_capacity, g_alphabet, g_slots, g_tables, g_inLen, g_outLen, g_n, b_input, b_output, b_holds, b_held, b_heldLen, b_checks, b_x, b_col, b_table, b_sorted, b_order) => ∃ (C A S T n m : Nat) (xi xo : Nat → Nat), f_capacity = nI C ∧ f_alphabet = nI A ∧ f_slots = nI S ∧ f_tables = nI T ∧ f_codeCount = nI (A + 1) ∧ f_inputSize = nI n ∧ f_outputSize = nI m ∧ g_capacity = nI C ∧ g_alphabet = nI A ∧ g_slots = nI S ∧ g_tables = nI T ∧ g_inLen = nI n ∧ g_outLen = nI m ∧ b_holds = a_held ∧ b_checks = a_checks ∧ rl_G C A S T n m xi xo a_input a_output a_held a_packed b_input b_output b_held b_heldLen
theorem rl_el {k : Nat} {u : SX} {v : SY} {P : SX → SY → Prop}
    (h : ∀ (C A S T n m : Nat) (xi xo : Nat → Nat) (f_blockLength f_columnIndex f_symbolCount f_groupCount f_tableCount f_bitBase f_bitPlace g_n : Int32) (a_input a_output a_held a_checks a_packed a_block a_column a_ranks a_otherRanks a_links a_starts a_order a_shifted a_classes a_nextClasses a_buckets a_list a_symbols a_selectors a_lengths a_codes a_lengthCounts a_sorted a_weights a_parents a_depths b_input b_output b_held b_heldLen b_x b_col b_table b_sorted b_order : Nat → Int32),
      rl_G C A S T n m xi xo a_input a_output a_held a_packed b_input b_output b_held b_heldLen → P (nI C, nI A, nI S, nI T, nI (A + 1), nI n, nI m, f_blockLength, f_columnIndex, f_symbolCount, f_groupCount, f_tableCount, f_bitBase, f_bitPlace, a_input, a_output, a_held, a_checks, a_packed, a_block, a_column, a_ranks, a_otherRanks, a_links, a_starts, a_order, a_shifted, a_classes, a_nextClasses, a_buckets, a_list, a_symbols, a_selectors, a_lengths, a_codes, a_lengthCounts, a_sorted, a_weights, a_parents, a_depths) (nI C, nI A, nI S, nI T, nI n, nI m, g_n, b_input, b_output, a_held, b_held, b_heldLen, a_checks, b_x, b_col, b_table, b_sorted, b_order)) (I : i_Rel k u v) : P u v := by
  match u, v, I with
  | (f_capacity, f_alphabet, f_slots, f_tables, f_codeCount, f_inputSize, f_outputSize, f_blockLength, f_columnIndex, f_symbolCount, f_groupCount, f_tableCount, f_bitBase, f_bitPlace, a_input, a_output, a_held, a_checks, a_packed, a_block, a_column, a_ranks, a_otherRanks, a_links, a_starts, a_order, a_shifted, a_classes, a_nextClasses, a_buckets, a_list, a_symbols, a_selectors, a_lengths, a_codes, a_lengthCounts, a_sorted, a_weights, a_parents, a_depths), (g_capacity, g_alphabet, g_slots, g_tables, g_inLen, g_outLen, g_n, b_input, b_output, b_holds, b_held, b_heldLen, b_checks, b_x, b_col, b_table, b_sorted, b_order), I =>
    obtain ⟨C, A, S, T, n, m, xi, xo, e1, e2, e3, e4, e5, e6, e7, e8, e9, e10, e11, e12, e13, e14, e15, G⟩ := I
    subst e1 e2 e3 e4 e5 e6 e7 e8 e9 e10 e11 e12 e13 e14 e15
    exact h C A S T n m xi xo _ _ _ _ _ _ _ _ _ _ _ _ _ _ _ _ _ _ _ _ _ _ _ _ _ _ _ _ _ _ _ _ _ _ _ _ _ _ _ _ _ _ _ G
theorem rl_in {k C A S T n m : Nat} {xi xo : Nat → Nat} {f_blockLength f_columnIndex f_symbolCount f_groupCount f_tableCount f_bitBase f_bitPlace g_n : Int32} {a_input a_output a_held a_checks a_packed a_block a_column a_ranks a_otherRanks a_links a_starts a_order a_shifted a_classes a_nextClasses a_buckets a_list a_symbols a_selectors a_lengths a_codes a_lengthCounts a_sorted a_weights a_parents a_depths b_input b_output b_held b_heldLen b_x b_col b_table b_sorted b_order : Nat → Int32}
    (G : rl_G C A S T n m xi xo a_input a_output a_held a_packed b_input b_output b_held b_heldLen) : i_Rel k (nI C, nI A, nI S, nI T, nI (A + 1), nI n, nI m, f_blockLength, f_columnIndex, f_symbolCount, f_groupCount, f_tableCount, f_bitBase, f_bitPlace, a_input, a_output, a_held, a_checks, a_packed, a_block, a_column, a_ranks, a_otherRanks, a_links, a_starts, a_order, a_shifted, a_classes, a_nextClasses, a_buckets, a_list, a_symbols, a_selectors, a_lengths, a_codes, a_lengthCounts, a_sorted, a_weights, a_parents, a_depths) (nI C, nI A, nI S, nI T, nI n, nI m, g_n, b_input, b_output, a_held, b_held, b_heldLen, a_checks, b_x, b_col, b_table, b_sorted, b_order) :=
  ⟨C, A, S, T, n, m, xi, xo, rfl, rfl, rfl, rfl, rfl, rfl, rfl, rfl, rfl, rfl, rfl, rfl, rfl, rfl, rfl, G⟩
theorem i_up {k : Nat} {u : SX} {v : SY} (h : i_Rel k u v) : i_Rel (k + 3) u v := h
/-! the settings -/
def rl_cl (v : Int32) (lo hi : Nat) : Int32 := if nI lo ≤ v then (if v ≤ nI hi then v else nI hi) else nI lo
theorem rl_clE (v : Int32) {lo hi : Nat} (h : lo ≤ hi) (hh : hi < 1000) : ∃ c, lo ≤ c ∧ c ≤ hi ∧ rl_cl v lo hi = nI c := by
  unfold rl_cl
  by_cases a : nI lo ≤ v
  · rw [if_pos a]
    by_cases b : v ≤ nI hi
    · rw [if_pos b]
      have h0 : ¬ v < 0 := Int32.not_lt.mpr (Int32.le_trans (nI_pos' (by omega)) a)
      obtain ⟨j, hj, rfl⟩ := nI_of h0
      rw [nI_leI (by omega) hj] at a
      rw [nI_leI hj (by omega)] at b
      exact ⟨j, a, b, rfl⟩
    · rw [if_neg b]; exact ⟨hi, h, Nat.le_refl _, rfl⟩
  · rw [if_neg a]; exact ⟨lo, Nat.le_refl _, h, rfl⟩
section
variable {f_capacity f_alphabet f_slots f_tables f_codeCount f_inputSize f_outputSize f_blockLength f_columnIndex f_symbolCount f_groupCount f_tableCount f_bitBase f_bitPlace : Int32} {a_input a_output a_held a_checks a_packed a_block a_column a_ranks a_otherRanks a_links a_starts a_order a_shifted a_classes a_nextClasses a_buckets a_list a_symbols a_selectors a_lengths a_codes a_lengthCounts a_sorted a_weights a_parents a_depths : Nat → Int32}
variable {g_capacity g_alphabet g_slots g_tables g_inLen g_outLen g_n : Int32} {b_input b_output b_holds b_held b_heldLen b_checks b_x b_col b_table b_sorted b_order : Nat → Int32}
theorem xw_clamp {post : Int32 → Prop} {v : Int32} (lo hi : Nat) (K : post (rl_cl v lo hi)) : wpX_clamp post (f_capacity, f_alphabet, f_slots, f_tables, f_codeCount, f_inputSize, f_outputSize, f_blockLength, f_columnIndex, f_symbolCount, f_groupCount, f_tableCount, f_bitBase, f_bitPlace, a_input, a_output, a_held, a_checks, a_packed, a_block, a_column, a_ranks, a_otherRanks, a_links, a_starts, a_order, a_shifted, a_classes, a_nextClasses, a_buckets, a_list, a_symbols, a_selectors, a_lengths, a_codes, a_lengthCounts, a_sorted, a_weights, a_parents, a_depths) v (nI lo) (nI hi) := by
  unfold rl_cl at K
  by_cases a : nI lo ≤ v
  · rw [if_pos a] at K
    by_cases b : v ≤ nI hi
    · rw [if_pos b] at K; exact br_t a (br_t b K)
    · rw [if_neg b] at K; exact br_t a (br_f b K)
  · rw [if_neg a] at K; exact br_f a K
theorem yw_clamp {post : Int32 → Prop} {v : Int32} (lo hi : Nat) (K : post (rl_cl v lo hi)) : wpY_clamp post (g_capacity, g_alphabet, g_slots, g_tables, g_inLen, g_outLen, g_n, b_input, b_output, b_holds, b_held, b_heldLen, b_checks, b_x, b_col, b_table, b_sorted, b_order) v (nI lo) (nI hi) := by
  unfold rl_cl at K
  by_cases a : nI lo ≤ v
  · rw [if_pos a] at K
    by_cases b : v ≤ nI hi
    · rw [if_pos b] at K; exact br_t a (br_t b K)
    · rw [if_neg b] at K; exact br_t a (br_f b K)
  · rw [if_neg a] at K; exact br_f a K
end
theorem i_vc0 (k0 : Int32) (k1 : Int32) (k2 : Int32) (k3 : Int32) : wpX_init (fun u => wpY_init (fun v => i_Rel 4 u v) k0 k1 k2 k3) k0 k1 k2 k3 := by
  obtain ⟨C, hC, hC2, eC⟩ := rl_clE k0 (lo := 8) (hi := 48) (by omega) (by omega)
  obtain ⟨A, hA, hA2, eA⟩ := rl_clE k1 (lo := 2) (hi := 16) (by omega) (by omega)
  obtain ⟨S, hS, hS2, eS⟩ := rl_clE k2 (lo := 1) (hi := 4) (by omega) (by omega)
  obtain ⟨T, hT, hT2, eT⟩ := rl_clE k3 (lo := 2) (hi := 4) (by omega) (by omega)
  unfold wpX_init
  refine xw_clamp 8 48 ?_
  refine xw_clamp 2 16 ?_
  refine xw_clamp 1 4 ?_
  refine xw_clamp 2 4 ?_
  rw [eC, eA, eS, eT]
  refine nm_r (nI_1 A) ?_
  unfold wpY_init
  refine yw_clamp 8 48 ?_
  refine yw_clamp 2 16 ?_
  refine yw_clamp 1 4 ?_
  refine yw_clamp 2 4 ?_
  rw [eC, eA, eS, eT]
  refine rl_in (n := 0) (m := 0) (xi := fun _ => 0) (xo := fun _ => 0) ⟨⟨hC, hC2⟩, ⟨hA, hA2⟩, ⟨hS, hS2⟩, ⟨hT, hT2⟩, by omega, by omega, fun i hi => by omega, fun i hi => by omega, fun i hi => by omega, fun i hi => by omega, fun s _ h => absurd rfl h⟩
end
section
/-! the plain calls -/
theorem rl_Au {A n j : Nat} {x : Nat → Nat} {a : Nat → Int32} (h : rl_A A n x a) (hj : j < A) : rl_A A (n + 1) (fun i => if i = n then j else x i) (upd a n (nI j)) := by
  intro i hi
  show _ = nI (if i = n then j else x i) ∧ (if i = n then j else x i) < A
  by_cases e : i = n
  · subst e; rw [pk_us, if_pos rfl]; exact ⟨rfl, hj⟩
  · rw [pk_un e, if_neg e]; exact h i (by omega)
theorem rl_Ao {A n : Nat} {x : Nat → Nat} {a b : Nat → Int32} (h : rl_A A n x a) : rl_A A n x (wk_ov n a b) := by
  intro i hi
  rw [wk_ovl hi]; exact h i hi
theorem i_vc_setting {k : Nat} {u : SX} {v : SY} (I : i_Rel k u v) (hk : k + 3 ≤ 1540) (v1 : Int32) : wpX_setting (fun r => wpY_setting (fun r' => r' = r ∧ i_Rel (k + 3) u v) v v1) u v1 := by
  refine rl_el (P := fun u v => wpX_setting (fun r => wpY_setting (fun r' => r' = r ∧ i_Rel (k + 3) u v) v v1) u v1) ?_ I
  intro C A S T n m xi xo f_blockLength f_columnIndex f_symbolCount f_groupCount f_tableCount f_bitBase f_bitPlace g_n a_input a_output a_held a_checks a_packed a_block a_column a_ranks a_otherRanks a_links a_starts a_order a_shifted a_classes a_nextClasses a_buckets a_list a_symbols a_selectors a_lengths a_codes a_lengthCounts a_sorted a_weights a_parents a_depths b_input b_output b_held b_heldLen b_x b_col b_table b_sorted b_order G
  have R := rl_in (k := k + 3) (f_blockLength := f_blockLength) (f_columnIndex := f_columnIndex) (f_symbolCount := f_symbolCount) (f_groupCount := f_groupCount) (f_tableCount := f_tableCount) (f_bitBase := f_bitBase) (f_bitPlace := f_bitPlace) (g_n := g_n) (a_checks := a_checks) (a_block := a_block) (a_column := a_column) (a_ranks := a_ranks) (a_otherRanks := a_otherRanks) (a_links := a_links) (a_starts := a_starts) (a_order := a_order) (a_shifted := a_shifted) (a_classes := a_classes) (a_nextClasses := a_nextClasses) (a_buckets := a_buckets) (a_list := a_list) (a_symbols := a_symbols) (a_selectors := a_selectors) (a_lengths := a_lengths) (a_codes := a_codes) (a_lengthCounts := a_lengthCounts) (a_sorted := a_sorted) (a_weights := a_weights) (a_parents := a_parents) (a_depths := a_depths) (b_x := b_x) (b_col := b_col) (b_table := b_table) (b_sorted := b_sorted) (b_order := b_order) G
  by_cases h0 : v1 = 0
  · exact br_t h0 (br_t h0 ⟨rfl, R⟩)
  by_cases h1 : v1 = 1
  · exact br_f h0 (br_t h1 (br_f h0 (br_t h1 ⟨rfl, R⟩)))
  by_cases h2 : v1 = 2
  · exact br_f h0 (br_f h1 (br_t h2 (br_f h0 (br_f h1 (br_t h2 ⟨rfl, R⟩)))))
  by_cases h3 : v1 = 3
  · exact br_f h0 (br_f h1 (br_f h2 (br_t h3 (br_f h0 (br_f h1 (br_f h2 (br_t h3 ⟨rfl, R⟩)))))))
  · exact br_f h0 (br_f h1 (br_f h2 (br_f h3 (br_f h0 (br_f h1 (br_f h2 (br_f h3 ⟨rfl, R⟩)))))))
theorem i_vc_append {k : Nat} {u : SX} {v : SY} (I : i_Rel k u v) (hk : k + 3 ≤ 1540) (v1 : Int32) : wpX_append (fun r u' => wpY_append (fun r' v' => r' = r ∧ i_Rel (k + 3) u' v') v v1) u v1 := by
  refine rl_el (P := fun u v => wpX_append (fun r u' => wpY_append (fun r' v' => r' = r ∧ i_Rel (k + 3) u' v') v v1) u v1) ?_ I
  intro C A S T n m xi xo f_blockLength f_columnIndex f_symbolCount f_groupCount f_tableCount f_bitBase f_bitPlace g_n a_input a_output a_held a_checks a_packed a_block a_column a_ranks a_otherRanks a_links a_starts a_order a_shifted a_classes a_nextClasses a_buckets a_list a_symbols a_selectors a_lengths a_codes a_lengthCounts a_sorted a_weights a_parents a_depths b_input b_output b_held b_heldLen b_x b_col b_table b_sorted b_order G
  obtain ⟨g1, g2, g3, g4, g5, g6, g7, g8, g9, g10, g11⟩ := id G
  by_cases h0 : v1 < 0
  · exact br_t h0 (br_t h0 ⟨rfl, rl_in G⟩)
  by_cases h1 : v1 < nI A
  · by_cases h2 : n < C
    · obtain ⟨j, hj, rfl⟩ := nI_of h0
      rw [nI_ltI hj (by omega)] at h1
      have h3 : nI n < nI C := nI_lt h2 (by omega)
      refine br_f h0 (br_t (nI_lt h1 (by omega)) (br_t h3 ⟨vp_in_nI (by omega) (by omega), ?_⟩))
      rw [wk_c (i := n) (by omega)]
      refine nm_e (nm_r (nI_1 n) ?_)
      refine br_f h0 (br_t (nI_lt h1 (by omega)) (br_t h3 ⟨vp_in_nI (by omega) (by omega), ?_⟩))
      rw [wk_c (i := n) (by omega)]
      exact nm_e (nm_r (nI_1 n) ⟨rfl, rl_in ⟨g1, g2, g3, g4, by omega, g6, rl_Au g7 h1, rl_Au g8 h1, g9, g10, g11⟩⟩)
    · have h3 : ¬ nI n < nI C := nI_nlt (by omega) (by omega)
      exact br_f h0 (br_t h1 (br_f h3 (br_f h0 (br_t h1 (br_f h3 ⟨rfl, rl_in G⟩)))))
  · exact br_f h0 (br_f h1 (br_f h0 (br_f h1 ⟨rfl, rl_in G⟩)))
theorem i_vc_clear {k : Nat} {u : SX} {v : SY} (I : i_Rel k u v) (hk : k + 3 ≤ 1540) : wpX_clear (fun u' => wpY_clear (fun v' => i_Rel (k + 3) u' v') v) u := by
  refine rl_el (P := fun u v => wpX_clear (fun u' => wpY_clear (fun v' => i_Rel (k + 3) u' v') v) u) ?_ I
  intro C A S T n m xi xo f_blockLength f_columnIndex f_symbolCount f_groupCount f_tableCount f_bitBase f_bitPlace g_n a_input a_output a_held a_checks a_packed a_block a_column a_ranks a_otherRanks a_links a_starts a_order a_shifted a_classes a_nextClasses a_buckets a_list a_symbols a_selectors a_lengths a_codes a_lengthCounts a_sorted a_weights a_parents a_depths b_input b_output b_held b_heldLen b_x b_col b_table b_sorted b_order G
  obtain ⟨g1, g2, g3, g4, g5, g6, g7, g8, g9, g10, g11⟩ := id G
  show i_Rel (k + 3) (nI C, nI A, nI S, nI T, nI (A + 1), nI 0, nI m, f_blockLength, f_columnIndex, f_symbolCount, f_groupCount, f_tableCount, f_bitBase, f_bitPlace, a_input, a_output, a_held, a_checks, a_packed, a_block, a_column, a_ranks, a_otherRanks, a_links, a_starts, a_order, a_shifted, a_classes, a_nextClasses, a_buckets, a_list, a_symbols, a_selectors, a_lengths, a_codes, a_lengthCounts, a_sorted, a_weights, a_parents, a_depths) (nI C, nI A, nI S, nI T, nI 0, nI m, g_n, b_input, b_output, a_held, b_held, b_heldLen, a_checks, b_x, b_col, b_table, b_sorted, b_order)
  exact rl_in (n := 0) (xi := xi) ⟨g1, g2, g3, g4, by omega, g6, fun i hi => by omega, fun i hi => by omega, g9, g10, g11⟩
theorem i_vc_inputLength {k : Nat} {u : SX} {v : SY} (I : i_Rel k u v) (hk : k + 3 ≤ 1540) : wpX_inputLength (fun r => wpY_inputLength (fun r' => r' = r ∧ i_Rel (k + 3) u v) v) u := by
  refine rl_el (P := fun u v => wpX_inputLength (fun r => wpY_inputLength (fun r' => r' = r ∧ i_Rel (k + 3) u v) v) u) ?_ I
  intro C A S T n m xi xo f_blockLength f_columnIndex f_symbolCount f_groupCount f_tableCount f_bitBase f_bitPlace g_n a_input a_output a_held a_checks a_packed a_block a_column a_ranks a_otherRanks a_links a_starts a_order a_shifted a_classes a_nextClasses a_buckets a_list a_symbols a_selectors a_lengths a_codes a_lengthCounts a_sorted a_weights a_parents a_depths b_input b_output b_held b_heldLen b_x b_col b_table b_sorted b_order G
  exact ⟨rfl, rl_in G⟩
theorem i_vc_inputAt {k : Nat} {u : SX} {v : SY} (I : i_Rel k u v) (hk : k + 3 ≤ 1540) (v1 : Int32) : wpX_inputAt (fun r => wpY_inputAt (fun r' => r' = r ∧ i_Rel (k + 3) u v) v v1) u v1 := by
  refine rl_el (P := fun u v => wpX_inputAt (fun r => wpY_inputAt (fun r' => r' = r ∧ i_Rel (k + 3) u v) v v1) u v1) ?_ I
  intro C A S T n m xi xo f_blockLength f_columnIndex f_symbolCount f_groupCount f_tableCount f_bitBase f_bitPlace g_n a_input a_output a_held a_checks a_packed a_block a_column a_ranks a_otherRanks a_links a_starts a_order a_shifted a_classes a_nextClasses a_buckets a_list a_symbols a_selectors a_lengths a_codes a_lengthCounts a_sorted a_weights a_parents a_depths b_input b_output b_held b_heldLen b_x b_col b_table b_sorted b_order G
  obtain ⟨g1, g2, g3, g4, g5, g6, g7, g8, g9, g10, g11⟩ := id G
  by_cases h0 : v1 < 0
  · exact br_t h0 (br_t h0 ⟨rfl, rl_in G⟩)
  by_cases h1 : v1 < nI n
  · obtain ⟨j, hj, rfl⟩ := nI_of h0
    have h2 := h1
    rw [nI_ltI hj (by omega)] at h2
    refine br_f h0 (br_t h1 ⟨vp_in_nI (by omega) (by omega), br_f h0 (br_t h1 ⟨vp_in_nI (by omega) (by omega), ?_, rl_in G⟩)⟩)
    rw [wk_c hj, (g7 j h2).1, (g8 j h2).1]
  · exact br_f h0 (br_f h1 (br_f h0 (br_f h1 ⟨rfl, rl_in G⟩)))
theorem i_vc_outputLength {k : Nat} {u : SX} {v : SY} (I : i_Rel k u v) (hk : k + 3 ≤ 1540) : wpX_outputLength (fun r => wpY_outputLength (fun r' => r' = r ∧ i_Rel (k + 3) u v) v) u := by
  refine rl_el (P := fun u v => wpX_outputLength (fun r => wpY_outputLength (fun r' => r' = r ∧ i_Rel (k + 3) u v) v) u) ?_ I
  intro C A S T n m xi xo f_blockLength f_columnIndex f_symbolCount f_groupCount f_tableCount f_bitBase f_bitPlace g_n a_input a_output a_held a_checks a_packed a_block a_column a_ranks a_otherRanks a_links a_starts a_order a_shifted a_classes a_nextClasses a_buckets a_list a_symbols a_selectors a_lengths a_codes a_lengthCounts a_sorted a_weights a_parents a_depths b_input b_output b_held b_heldLen b_x b_col b_table b_sorted b_order G
  exact ⟨rfl, rl_in G⟩
theorem i_vc_outputAt {k : Nat} {u : SX} {v : SY} (I : i_Rel k u v) (hk : k + 3 ≤ 1540) (v1 : Int32) : wpX_outputAt (fun r => wpY_outputAt (fun r' => r' = r ∧ i_Rel (k + 3) u v) v v1) u v1 := by
  refine rl_el (P := fun u v => wpX_outputAt (fun r => wpY_outputAt (fun r' => r' = r ∧ i_Rel (k + 3) u v) v v1) u v1) ?_ I
  intro C A S T n m xi xo f_blockLength f_columnIndex f_symbolCount f_groupCount f_tableCount f_bitBase f_bitPlace g_n a_input a_output a_held a_checks a_packed a_block a_column a_ranks a_otherRanks a_links a_starts a_order a_shifted a_classes a_nextClasses a_buckets a_list a_symbols a_selectors a_lengths a_codes a_lengthCounts a_sorted a_weights a_parents a_depths b_input b_output b_held b_heldLen b_x b_col b_table b_sorted b_order G
  obtain ⟨g1, g2, g3, g4, g5, g6, g7, g8, g9, g10, g11⟩ := id G
  by_cases h0 : v1 < 0
  · exact br_t h0 (br_t h0 ⟨rfl, rl_in G⟩)
  by_cases h1 : v1 < nI m
  · obtain ⟨j, hj, rfl⟩ := nI_of h0
    have h2 := h1
    rw [nI_ltI hj (by omega)] at h2
    refine br_f h0 (br_t h1 ⟨vp_in_nI (by omega) (by omega), br_f h0 (br_t h1 ⟨vp_in_nI (by omega) (by omega), ?_, rl_in G⟩)⟩)
    rw [wk_c hj, (g9 j h2).1, (g10 j h2).1]
  · exact br_f h0 (br_f h1 (br_f h0 (br_f h1 ⟨rfl, rl_in G⟩)))
section
variable {f_capacity f_alphabet f_slots f_tables f_codeCount f_inputSize f_outputSize f_blockLength f_columnIndex f_symbolCount f_groupCount f_tableCount f_bitBase f_bitPlace : Int32} {a_input a_output a_held a_checks a_packed a_block a_column a_ranks a_otherRanks a_links a_starts a_order a_shifted a_classes a_nextClasses a_buckets a_list a_symbols a_selectors a_lengths a_codes a_lengthCounts a_sorted a_weights a_parents a_depths : Nat → Int32}
variable {g_capacity g_alphabet g_slots g_tables g_inLen g_outLen g_n : Int32} {b_input b_output b_holds b_held b_heldLen b_checks b_x b_col b_table b_sorted b_order : Nat → Int32}
theorem xw_take {post : Int32 → SX → Prop} {m : Nat} (hm : m ≤ 48) (K : post (nI m) (f_capacity, f_alphabet, f_slots, f_tables, f_codeCount, nI m, nI m, f_blockLength, f_columnIndex, f_symbolCount, f_groupCount, f_tableCount, f_bitBase, f_bitPlace, wk_ov m a_output a_input, a_output, a_held, a_checks, a_packed, a_block, a_column, a_ranks, a_otherRanks, a_links, a_starts, a_order, a_shifted, a_classes, a_nextClasses, a_buckets, a_list, a_symbols, a_selectors, a_lengths, a_codes, a_lengthCounts, a_sorted, a_weights, a_parents, a_depths)) : wpX_takeOutput post (f_capacity, f_alphabet, f_slots, f_tables, f_codeCount, f_inputSize, nI m, f_blockLength, f_columnIndex, f_symbolCount, f_groupCount, f_tableCount, f_bitBase, f_bitPlace, a_input, a_output, a_held, a_checks, a_packed, a_block, a_column, a_ranks, a_otherRanks, a_links, a_starts, a_order, a_shifted, a_classes, a_nextClasses, a_buckets, a_list, a_symbols, a_selectors, a_lengths, a_codes, a_lengthCounts, a_sorted, a_weights, a_parents, a_depths) := by
  refine wk_cp (fun k i b => wX_takeOutput_2 post f_capacity f_alphabet f_slots f_tables f_codeCount f_inputSize (nI m) f_blockLength f_columnIndex f_symbolCount f_groupCount f_tableCount f_bitBase f_bitPlace k (nI i) b a_output a_held a_checks a_packed a_block a_column a_ranks a_otherRanks a_links a_starts a_order a_shifted a_classes a_nextClasses a_buckets a_list a_symbols a_selectors a_lengths a_codes a_lengthCounts a_sorted a_weights a_parents a_depths) a_output a_input m ?_ ?_
  · intro k; exact br_t (nI_le (Nat.le_refl m) (by omega)) K
  · intro k i hi ih
    exact br_f (nI_ge hi (by omega)) ⟨vp_in_nI (by omega) (by omega), vp_in_nI (by omega) (by omega), nm_r (by rw [wk_c (by omega)]; exact wk_ovs i a_output a_input) (nm_r (nI_1 i) ih)⟩
theorem yw_take {post : Int32 → SY → Prop} {m : Nat} (hm : m ≤ 48) (K : post (nI m) (g_capacity, g_alphabet, g_slots, g_tables, nI m, nI m, g_n, wk_ov m b_output b_input, b_output, b_holds, b_held, b_heldLen, b_checks, b_x, b_col, b_table, b_sorted, b_order)) : wpY_takeOutput post (g_capacity, g_alphabet, g_slots, g_tables, g_inLen, nI m, g_n, b_input, b_output, b_holds, b_held, b_heldLen, b_checks, b_x, b_col, b_table, b_sorted, b_order) := by
  refine wk_cp (fun k i b => wY_takeOutput_2 post g_capacity g_alphabet g_slots g_tables g_inLen (nI m) g_n k (nI i) b b_output b_holds b_held b_heldLen b_checks b_x b_col b_table b_sorted b_order) b_output b_input m ?_ ?_
  · intro k; exact br_t (nI_le (Nat.le_refl m) (by omega)) K
  · intro k i hi ih
    exact br_f (nI_ge hi (by omega)) ⟨vp_in_nI (by omega) (by omega), vp_in_nI (by omega) (by omega), nm_r (by rw [wk_c (by omega)]; exact wk_ovs i b_output b_input) (nm_r (nI_1 i) ih)⟩
end
theorem i_vc_takeOutput {k : Nat} {u : SX} {v : SY} (I : i_Rel k u v) (hk : k + 3 ≤ 1540) : wpX_takeOutput (fun r u' => wpY_takeOutput (fun r' v' => r' = r ∧ i_Rel (k + 3) u' v') v) u := by
  refine rl_el (P := fun u v => wpX_takeOutput (fun r u' => wpY_takeOutput (fun r' v' => r' = r ∧ i_Rel (k + 3) u' v') v) u) ?_ I
  intro C A S T n m xi xo f_blockLength f_columnIndex f_symbolCount f_groupCount f_tableCount f_bitBase f_bitPlace g_n a_input a_output a_held a_checks a_packed a_block a_column a_ranks a_otherRanks a_links a_starts a_order a_shifted a_classes a_nextClasses a_buckets a_list a_symbols a_selectors a_lengths a_codes a_lengthCounts a_sorted a_weights a_parents a_depths b_input b_output b_held b_heldLen b_x b_col b_table b_sorted b_order G
  obtain ⟨g1, g2, g3, g4, g5, g6, g7, g8, g9, g10, g11⟩ := id G
  exact xw_take (by omega) (yw_take (by omega) ⟨rfl, rl_in ⟨g1, g2, g3, g4, by omega, g6, rl_Ao g9, rl_Ao g10, g9, g10, g11⟩⟩)
end
section
/-! appendPacked, repeat -/
def ap_e (w : Int32) (k : Nat) : Nat := ((w.toUInt32 >>> ((4 * nI k).toUInt32 &&& Int32.toUInt32 31)).toInt32).toBitVec.toNat % 2 ^ 4
theorem ap_eq (w : Int32) (k : Nat) : ((w.toUInt32 >>> ((4 * nI k).toUInt32 &&& Int32.toUInt32 31)).toInt32) &&& 15 = nI (ap_e w k) := pk_and _ 4 (by decide)
theorem ap_lt (w : Int32) (k : Nat) : ap_e w k < 16 := Nat.mod_lt _ (by decide)
theorem ap_A {A n k : Nat} {x e : Nat → Nat} {a : Nat → Int32} (h : rl_A A (n + k) (fun i => if i < n then x i else e (i - n)) a) (he : e k < A) : rl_A A (n + (k + 1)) (fun i => if i < n then x i else e (i - n)) (upd a (n + k) (nI (e k))) := by
  intro i hi
  by_cases z : i = n + k
  · subst z
    show _ = nI (if n + k < n then x (n + k) else e (n + k - n)) ∧ (if n + k < n then x (n + k) else e (n + k - n)) < A
    rw [pk_us, if_neg (by omega), Nat.add_sub_cancel_left]; exact ⟨rfl, he⟩
  · rw [pk_un z]; exact h i (by omega)
section
variable {f_capacity f_alphabet f_slots f_tables f_codeCount f_inputSize f_outputSize f_blockLength f_columnIndex f_symbolCount f_groupCount f_tableCount f_bitBase f_bitPlace : Int32} {a_input a_output a_held a_checks a_packed a_block a_column a_ranks a_otherRanks a_links a_starts a_order a_shifted a_classes a_nextClasses a_buckets a_list a_symbols a_selectors a_lengths a_codes a_lengthCounts a_sorted a_weights a_parents a_depths : Nat → Int32}
variable {g_capacity g_alphabet g_slots g_tables g_inLen g_outLen g_n : Int32} {b_input b_output b_holds b_held b_heldLen b_checks b_x b_col b_table b_sorted b_order : Nat → Int32}
theorem xw_ap67 {post : Int32 → SX → Prop} {A n C cnt : Nat} {w : Int32} {x : Nat → Nat} (hn : n + cnt ≤ 48) (he : ∀ i, i < cnt → ap_e w i < A)
    (K : ∀ a' : Nat → Int32, rl_A A (n + cnt) (fun i => if i < n then x i else ap_e w (i - n)) a' → post (nI (n + cnt)) (nI C, nI A, f_slots, f_tables, f_codeCount, nI (n + cnt), f_outputSize, f_blockLength, f_columnIndex, f_symbolCount, f_groupCount, f_tableCount, f_bitBase, f_bitPlace, a', a_output, a_held, a_checks, a_packed, a_block, a_column, a_ranks, a_otherRanks, a_links, a_starts, a_order, a_shifted, a_classes, a_nextClasses, a_buckets, a_list, a_symbols, a_selectors, a_lengths, a_codes, a_lengthCounts, a_sorted, a_weights, a_parents, a_depths)) :
    ∀ d k q a', k + d = cnt → d < q → rl_A A (n + k) (fun i => if i < n then x i else ap_e w (i - n)) a' → wX_appendPacked_67 post w (nI cnt) (nI C) (nI A) f_slots f_tables f_codeCount (nI n) f_outputSize f_blockLength f_columnIndex f_symbolCount f_groupCount f_tableCount f_bitBase f_bitPlace q (nI k) a' a_output a_held a_checks a_packed a_block a_column a_ranks a_otherRanks a_links a_starts a_order a_shifted a_classes a_nextClasses a_buckets a_list a_symbols a_selectors a_lengths a_codes a_lengthCounts a_sorted a_weights a_parents a_depths := by
  intro d
  induction d with
  | zero =>
    intro k q a' hd hq h
    obtain ⟨q, rfl⟩ : ∃ r, q = r + 1 := ⟨q - 1, by omega⟩
    have e : k = cnt := by omega
    subst e
    exact br_t (nI_le (Nat.le_refl k) (by omega)) (nm_r (nI_add n k) (K a' h))
  | succ d ih =>
    intro k q a' hd hq h
    obtain ⟨q, rfl⟩ : ∃ r, q = r + 1 := ⟨q - 1, by omega⟩
    refine br_f (nI_ge (by omega) (by omega)) ?_
    rw [nI_add n k, wk_c (i := n + k) (by omega), ap_eq]
    exact ⟨vp_in_nI (by omega) (by omega), nm_e (nm_r (nI_1 k) (ih (k + 1) q _ (by omega) (by omega) (ap_A h (he k (by omega)))))⟩
theorem xw_ap16 {post : Int32 → SX → Prop} {A n C cnt : Nat} {w : Int32} {x : Nat → Nat} (hC : C ≤ 48) (hA : A ≤ 16) (hnC : n ≤ C) (hcnt : cnt ≤ 8) (hx : rl_A A n x a_input)
    (K1 : ∀ a' : Nat → Int32, (∀ i, i < cnt → ap_e w i < A) → n + cnt ≤ C → rl_A A (n + cnt) (fun i => if i < n then x i else ap_e w (i - n)) a' → post (nI (n + cnt)) (nI C, nI A, f_slots, f_tables, f_codeCount, nI (n + cnt), f_outputSize, f_blockLength, f_columnIndex, f_symbolCount, f_groupCount, f_tableCount, f_bitBase, f_bitPlace, a', a_output, a_held, a_checks, a_packed, a_block, a_column, a_ranks, a_otherRanks, a_links, a_starts, a_order, a_shifted, a_classes, a_nextClasses, a_buckets, a_list, a_symbols, a_selectors, a_lengths, a_codes, a_lengthCounts, a_sorted, a_weights, a_parents, a_depths))
    (K2 : (∀ i, i < cnt → ap_e w i < A) → ¬ n + cnt ≤ C → post 105 (nI C, nI A, f_slots, f_tables, f_codeCount, nI n, f_outputSize, f_blockLength, f_columnIndex, f_symbolCount, f_groupCount, f_tableCount, f_bitBase, f_bitPlace, a_input, a_output, a_held, a_checks, a_packed, a_block, a_column, a_ranks, a_otherRanks, a_links, a_starts, a_order, a_shifted, a_classes, a_nextClasses, a_buckets, a_list, a_symbols, a_selectors, a_lengths, a_codes, a_lengthCounts, a_sorted, a_weights, a_parents, a_depths)) (K3 : (¬ ∀ i, i < cnt → ap_e w i < A) → post 103 (nI C, nI A, f_slots, f_tables, f_codeCount, nI n, f_outputSize, f_blockLength, f_columnIndex, f_symbolCount, f_groupCount, f_tableCount, f_bitBase, f_bitPlace, a_input, a_output, a_held, a_checks, a_packed, a_block, a_column, a_ranks, a_otherRanks, a_links, a_starts, a_order, a_shifted, a_classes, a_nextClasses, a_buckets, a_list, a_symbols, a_selectors, a_lengths, a_codes, a_lengthCounts, a_sorted, a_weights, a_parents, a_depths)) :
    ∀ d k q, k + d = cnt → d < q → (∀ i, i < k → ap_e w i < A) → wX_appendPacked_16 post w (nI cnt) (nI C) (nI A) f_slots f_tables f_codeCount (nI n) f_outputSize f_blockLength f_columnIndex f_symbolCount f_groupCount f_tableCount f_bitBase f_bitPlace a_input a_output a_held a_checks a_packed a_block a_column a_ranks a_otherRanks a_links a_starts a_order a_shifted a_classes a_nextClasses a_buckets a_list a_symbols a_selectors a_lengths a_codes a_lengthCounts a_sorted a_weights a_parents a_depths q (nI k) := by
  intro d
  induction d with
  | zero =>
    intro k q hd hq h
    obtain ⟨q, rfl⟩ : ∃ r, q = r + 1 := ⟨q - 1, by omega⟩
    have e : k = cnt := by omega
    subst e
    refine br_t (nI_le (Nat.le_refl k) (by omega)) ?_
    rw [nI_add n k]
    refine pk_le (n + k) C (fun z => ⟨k + 1, xw_ap67 (by omega) h (fun a' g => K1 a' h z g) k 0 _ _ (by omega) (by omega) (fun i hi => ?_)⟩) (fun z => K2 h (by omega))
    show _ = nI (if i < n then x i else _) ∧ (if i < n then x i else _) < A
    rw [if_pos (by omega)]; exact hx i (by omega)
  | succ d ih =>
    intro k q hd hq h
    obtain ⟨q, rfl⟩ : ∃ r, q = r + 1 := ⟨q - 1, by omega⟩
    have hl := ap_lt w k
    refine br_f (nI_ge (by omega) (by omega)) (nm_r (ap_eq w k) (pk_lt (ap_e w k) A (fun z => nm_r (nI_1 k) (ih (k + 1) q (by omega) (by omega) (fun i hi => ?_))) (fun z => K3 (fun y => ?_))))
    · by_cases e : i = k
      · subst e; exact z
      · exact h i (by omega)
    · have := y k (by omega); omega
theorem yw_ap63 {post : Int32 → SY → Prop} {A n C cnt : Nat} {w : Int32} {x : Nat → Nat} (hn : n + cnt ≤ 48) (he : ∀ i, i < cnt → ap_e w i < A)
    (K : ∀ a' : Nat → Int32, rl_A A (n + cnt) (fun i => if i < n then x i else ap_e w (i - n)) a' → post (nI (n + cnt)) (nI C, nI A, g_slots, g_tables, nI (n + cnt), g_outLen, g_n, a', b_output, b_holds, b_held, b_heldLen, b_checks, b_x, b_col, b_table, b_sorted, b_order)) :
    ∀ d k q a', k + d = cnt → d < q → rl_A A (n + k) (fun i => if i < n then x i else ap_e w (i - n)) a' → wY_appendPacked_63 post w (nI cnt) (nI C) (nI A) g_slots g_tables (nI n) g_outLen g_n q (nI k) a' b_output b_holds b_held b_heldLen b_checks b_x b_col b_table b_sorted b_order := by
  intro d
  induction d with
  | zero =>
    intro k q a' hd hq h
    obtain ⟨q, rfl⟩ : ∃ r, q = r + 1 := ⟨q - 1, by omega⟩
    have e : k = cnt := by omega
    subst e
    exact br_t (nI_le (Nat.le_refl k) (by omega)) (nm_r (nI_add n k) (K a' h))
  | succ d ih =>
    intro k q a' hd hq h
    obtain ⟨q, rfl⟩ : ∃ r, q = r + 1 := ⟨q - 1, by omega⟩
    refine br_f (nI_ge (by omega) (by omega)) ?_
    rw [nI_add n k, wk_c (i := n + k) (by omega), ap_eq]
    exact ⟨vp_in_nI (by omega) (by omega), nm_e (nm_r (nI_1 k) (ih (k + 1) q _ (by omega) (by omega) (ap_A h (he k (by omega)))))⟩
theorem yw_ap16 {post : Int32 → SY → Prop} {A n C cnt : Nat} {w : Int32} {x : Nat → Nat} (hC : C ≤ 48) (hA : A ≤ 16) (hnC : n ≤ C) (hcnt : cnt ≤ 8) (hx : rl_A A n x b_input)
    (K1 : ∀ a' : Nat → Int32, (∀ i, i < cnt → ap_e w i < A) → n + cnt ≤ C → rl_A A (n + cnt) (fun i => if i < n then x i else ap_e w (i - n)) a' → post (nI (n + cnt)) (nI C, nI A, g_slots, g_tables, nI (n + cnt), g_outLen, g_n, a', b_output, b_holds, b_held, b_heldLen, b_checks, b_x, b_col, b_table, b_sorted, b_order))
    (K2 : (∀ i, i < cnt → ap_e w i < A) → ¬ n + cnt ≤ C → post 105 (nI C, nI A, g_slots, g_tables, nI n, g_outLen, g_n, b_input, b_output, b_holds, b_held, b_heldLen, b_checks, b_x, b_col, b_table, b_sorted, b_order)) (K3 : (¬ ∀ i, i < cnt → ap_e w i < A) → post 103 (nI C, nI A, g_slots, g_tables, nI n, g_outLen, g_n, b_input, b_output, b_holds, b_held, b_heldLen, b_checks, b_x, b_col, b_table, b_sorted, b_order)) :
    ∀ d k q, k + d = cnt → d < q → (∀ i, i < k → ap_e w i < A) → wY_appendPacked_16 post w (nI cnt) (nI C) (nI A) g_slots g_tables (nI n) g_outLen g_n b_input b_output b_holds b_held b_heldLen b_checks b_x b_col b_table b_sorted b_order q (nI k) := by
  intro d
  induction d with
  | zero =>
    intro k q hd hq h
    obtain ⟨q, rfl⟩ : ∃ r, q = r + 1 := ⟨q - 1, by omega⟩
    have e : k = cnt := by omega
    subst e
    refine br_t (nI_le (Nat.le_refl k) (by omega)) ?_
    rw [nI_add n k]
    refine pk_le (n + k) C (fun z => ⟨k + 1, yw_ap63 (by omega) h (fun a' g => K1 a' h z g) k 0 _ _ (by omega) (by omega) (fun i hi => ?_)⟩) (fun z => K2 h (by omega))
    show _ = nI (if i < n then x i else _) ∧ (if i < n then x i else _) < A
    rw [if_pos (by omega)]; exact hx i (by omega)
  | succ d ih =>
    intro k q hd hq h
    obtain ⟨q, rfl⟩ : ∃ r, q = r + 1 := ⟨q - 1, by omega⟩
    have hl := ap_lt w k
    refine br_f (nI_ge (by omega) (by omega)) ?_
    rw [ap_eq]
    refine pk_lt (ap_e w k) A (fun z => nm_r (nI_1 k) (ih (k + 1) q (by omega) (by omega) (fun i hi => ?_))) (fun z => K3 (fun y => ?_))
    · by_cases e : i = k
      · subst e; exact z
      · exact h i (by omega)
    · have := y k (by omega); omega
theorem xw_rp39 {post : Int32 → SX → Prop} {A n C tot : Nat} {x : Nat → Nat} (hn : n ≤ 48) (h0 : 0 < n ∨ tot = 0) (ht : tot ≤ 48)
    (K : ∀ a' : Nat → Int32, rl_A A tot (fun i => x (i % n)) a' → post (nI tot) (nI C, nI A, f_slots, f_tables, f_codeCount, nI tot, f_outputSize, f_blockLength, f_columnIndex, f_symbolCount, f_groupCount, f_tableCount, f_bitBase, f_bitPlace, a', a_output, a_held, a_checks, a_packed, a_block, a_column, a_ranks, a_otherRanks, a_links, a_starts, a_order, a_shifted, a_classes, a_nextClasses, a_buckets, a_list, a_symbols, a_selectors, a_lengths, a_codes, a_lengthCounts, a_sorted, a_weights, a_parents, a_depths)) :
    ∀ d i q a', i + d = tot → n ≤ i → d < q → rl_A A i (fun i => x (i % n)) a' → wX_repeat_39 post (nI tot) (nI C) (nI A) f_slots f_tables f_codeCount (nI n) f_outputSize f_blockLength f_columnIndex f_symbolCount f_groupCount f_tableCount f_bitBase f_bitPlace q (nI i) a' a_output a_held a_checks a_packed a_block a_column a_ranks a_otherRanks a_links a_starts a_order a_shifted a_classes a_nextClasses a_buckets a_list a_symbols a_selectors a_lengths a_codes a_lengthCounts a_sorted a_weights a_parents a_depths := by
  intro d
  induction d with
  | zero =>
    intro i q a' hd hi hq h
    obtain ⟨q, rfl⟩ : ∃ r, q = r + 1 := ⟨q - 1, by omega⟩
    have e : i = tot := by omega
    subst e
    exact br_t (nI_le (Nat.le_refl i) (by omega)) (K a' h)
  | succ d ih =>
    intro i q a' hd hi hq h
    obtain ⟨q, rfl⟩ : ∃ r, q = r + 1 := ⟨q - 1, by omega⟩
    have h1 := h (i - n) (by omega)
    have em : (i - n) % n = i % n := (Nat.mod_eq_sub_mod hi).symm
    dsimp only at h1
    rw [em] at h1
    refine br_f (nI_ge (by omega) (by omega)) ?_
    rw [pk_sub hi, wk_c (i := i) (by omega), wk_c (i := i - n) (by omega), h1.1]
    refine ⟨vp_in_nI (by omega) (by omega), vp_in_nI (by omega) (by omega), nm_e (nm_r (nI_1 i) (ih (i + 1) q _ (by omega) (by omega) (by omega) (fun j hj => ?_)))⟩
    by_cases z : j = i
    · subst z; rw [pk_us]; exact ⟨rfl, h1.2⟩
    · rw [pk_un z]; exact h j (by omega)
theorem yw_rp41 {post : Int32 → SY → Prop} {J : Int32 → (Nat → Int32) → (Nat → Int32) → (Nat → Int32) → (Nat → Int32) → (Nat → Int32) → (Nat → Int32) → (Nat → Int32) → (Nat → Int32) → (Nat → Int32) → (Nat → Int32) → (Nat → Int32) → Prop} {A n C t : Nat} {x1 : Int32} {x : Nat → Nat} (ht : t * n + n ≤ 48) (ht1 : 1 ≤ t)
    (K : ∀ a' : Nat → Int32, rl_A A (t * n + n) (fun i => x (i % n)) a' → J (nI (t + 1)) a' b_output b_holds b_held b_heldLen b_checks b_x b_col b_table b_sorted b_order) :
    ∀ d i q a', i + d = n → d < q → rl_A A (t * n + i) (fun i => x (i % n)) a' → wY_repeat_41 post J x1 (nI t) (nI C) (nI A) g_slots g_tables (nI n) g_outLen g_n q (nI i) a' b_output b_holds b_held b_heldLen b_checks b_x b_col b_table b_sorted b_order := by
  intro d
  induction d with
  | zero =>
    intro i q a' hd hq h
    obtain ⟨q, rfl⟩ : ∃ r, q = r + 1 := ⟨q - 1, by omega⟩
    have e : i = n := by omega
    subst e
    exact br_t (nI_le (Nat.le_refl i) (by omega)) (nm_r (nI_1 t) (K a' h))
  | succ d ih =>
    intro i q a' hd hq h
    obtain ⟨q, rfl⟩ : ∃ r, q = r + 1 := ⟨q - 1, by omega⟩
    have hle : n ≤ t * n := Nat.le_mul_of_pos_left n (by omega)
    have h1 := h i (by omega)
    have em : (t * n + i) % n = i % n := Nat.mul_add_mod_self_right t n i
    refine br_f (nI_ge (by omega) (by omega)) ?_
    rw [pk_mul, nI_add, wk_c (i := i) (by omega), wk_c (i := t * n + i) (by omega), h1.1]
    refine ⟨vp_in_nI (by omega) (by omega), vp_in_nI (by omega) (by omega), nm_e (nm_r (nI_1 i) (ih (i + 1) q _ (by omega) (by omega) (fun j hj => ?_)))⟩
    by_cases z : j = t * n + i
    · subst z
      show _ = nI (x ((t * n + i) % n)) ∧ x ((t * n + i) % n) < A
      rw [pk_us, em]; exact ⟨rfl, h1.2⟩
    · rw [pk_un z]; exact h j (by omega)
theorem yw_rp34 {post : Int32 → SY → Prop} {A n C times : Nat} {x : Nat → Nat} (ht : n * times ≤ 48) (ht2 : times ≤ 48) (hn : n ≤ 48)
    (K : ∀ a' : Nat → Int32, rl_A A (n * times) (fun i => x (i % n)) a' → post (nI (n * times)) (nI C, nI A, g_slots, g_tables, nI (n * times), g_outLen, g_n, a', b_output, b_holds, b_held, b_heldLen, b_checks, b_x, b_col, b_table, b_sorted, b_order)) :
    ∀ d t q a', t + d = times → 1 ≤ t → d < q → rl_A A (t * n) (fun i => x (i % n)) a' → wY_repeat_34 post (nI times) (nI C) (nI A) g_slots g_tables (nI n) g_outLen g_n q (nI t) a' b_output b_holds b_held b_heldLen b_checks b_x b_col b_table b_sorted b_order := by
  intro d
  induction d with
  | zero =>
    intro t q a' hd h1 hq h
    obtain ⟨q, rfl⟩ : ∃ r, q = r + 1 := ⟨q - 1, by omega⟩
    have e : t = times := by omega
    subst e
    rw [Nat.mul_comm] at h
    exact br_t (nI_le (Nat.le_refl t) (by omega)) (nm_r (pk_mul n t) (K a' h))
  | succ d ih =>
    intro t q a' hd h1 hq h
    obtain ⟨q, rfl⟩ : ∃ r, q = r + 1 := ⟨q - 1, by omega⟩
    have e1 : (t + 1) * n = t * n + n := Nat.succ_mul t n
    have e2 : (t + 1) * n ≤ n * times := by rw [Nat.mul_comm n times]; exact Nat.mul_le_mul_right n (by omega)
    refine br_f (nI_ge (by omega) (by omega)) ⟨n + 1, yw_rp41 (by omega) h1 (fun a2 g => ih (t + 1) q a2 (by omega) (by omega) (by omega) (by rw [e1]; exact g)) n 0 _ a' (by omega) (by omega) h⟩
end
theorem i_vc_appendPacked {k : Nat} {u : SX} {v : SY} (I : i_Rel k u v) (hk : k + 3 ≤ 1540) (v1 : Int32) (v2 : Int32) : wpX_appendPacked (fun r u' => wpY_appendPacked (fun r' v' => r' = r ∧ i_Rel (k + 3) u' v') v v1 v2) u v1 v2 := by
  refine rl_el (P := fun u v => wpX_appendPacked (fun r u' => wpY_appendPacked (fun r' v' => r' = r ∧ i_Rel (k + 3) u' v') v v1 v2) u v1 v2) ?_ I
  intro C A S T n m xi xo f_blockLength f_columnIndex f_symbolCount f_groupCount f_tableCount f_bitBase f_bitPlace g_n a_input a_output a_held a_checks a_packed a_block a_column a_ranks a_otherRanks a_links a_starts a_order a_shifted a_classes a_nextClasses a_buckets a_list a_symbols a_selectors a_lengths a_codes a_lengthCounts a_sorted a_weights a_parents a_depths b_input b_output b_held b_heldLen b_x b_col b_table b_sorted b_order G
  obtain ⟨g1, g2, g3, g4, g5, g6, g7, g8, g9, g10, g11⟩ := id G
  by_cases h0 : v2 < 1
  · exact br_t h0 (br_t h0 ⟨rfl, rl_in G⟩)
  by_cases h1 : v2 ≤ 8
  · have hp : ¬ v2 < 0 := fun z => h0 (Int32.lt_trans z (by decide))
    obtain ⟨cnt, hcnt, rfl⟩ := nI_of2 (x := v2) (M := 8) (n := 8) (by decide) hp h1
    refine br_f h0 (br_t h1 ⟨cnt + 1, xw_ap16 (by omega) (by omega) g5 hcnt g7 (fun a' ha hc hA => ?_) (fun ha hc => ?_) (fun ha => ?_) cnt 0 _ (by omega) (by omega) (fun i hi => by omega)⟩)
    · refine br_f h0 (br_t h1 ⟨cnt + 1, yw_ap16 (by omega) (by omega) g5 hcnt g8 (fun b' hb hd hB => ⟨rfl, rl_in ⟨g1, g2, g3, g4, hc, g6, hA, hB, g9, g10, g11⟩⟩) (fun _ hd => absurd hc hd) (fun hb => absurd ha hb) cnt 0 _ (by omega) (by omega) (fun i hi => by omega)⟩)
    · refine br_f h0 (br_t h1 ⟨cnt + 1, yw_ap16 (by omega) (by omega) g5 hcnt g8 (fun b' hb hd hB => absurd hd hc) (fun _ hd => ⟨rfl, rl_in G⟩) (fun hb => absurd ha hb) cnt 0 _ (by omega) (by omega) (fun i hi => by omega)⟩)
    · refine br_f h0 (br_t h1 ⟨cnt + 1, yw_ap16 (by omega) (by omega) g5 hcnt g8 (fun b' hb hd hB => absurd hb ha) (fun hb hd => absurd hb ha) (fun hb => ⟨rfl, rl_in G⟩) cnt 0 _ (by omega) (by omega) (fun i hi => by omega)⟩)
  · exact br_f h0 (br_f h1 (br_f h0 (br_f h1 ⟨rfl, rl_in G⟩)))
theorem i_vc_repeat {k : Nat} {u : SX} {v : SY} (I : i_Rel k u v) (hk : k + 3 ≤ 1540) (v1 : Int32) : wpX_repeat (fun r u' => wpY_repeat (fun r' v' => r' = r ∧ i_Rel (k + 3) u' v') v v1) u v1 := by
  refine rl_el (P := fun u v => wpX_repeat (fun r u' => wpY_repeat (fun r' v' => r' = r ∧ i_Rel (k + 3) u' v') v v1) u v1) ?_ I
  intro C A S T n m xi xo f_blockLength f_columnIndex f_symbolCount f_groupCount f_tableCount f_bitBase f_bitPlace g_n a_input a_output a_held a_checks a_packed a_block a_column a_ranks a_otherRanks a_links a_starts a_order a_shifted a_classes a_nextClasses a_buckets a_list a_symbols a_selectors a_lengths a_codes a_lengthCounts a_sorted a_weights a_parents a_depths b_input b_output b_held b_heldLen b_x b_col b_table b_sorted b_order G
  obtain ⟨g1, g2, g3, g4, g5, g6, g7, g8, g9, g10, g11⟩ := id G
  by_cases h0 : v1 < 1
  · exact br_t h0 (br_t h0 ⟨rfl, rl_in G⟩)
  by_cases h1 : v1 ≤ nI C
  · have hp : ¬ v1 < 0 := fun z => h0 (Int32.lt_trans z (by decide))
    obtain ⟨t, ht, rfl⟩ := nI_of hp
    have h2 := h1
    rw [nI_leI ht (by omega)] at h2
    have h3 : 1 ≤ t := by
      rcases Nat.eq_zero_or_pos t with z | z
      · subst z; exact absurd (show nI 0 < 1 by decide) h0
      · exact z
    have hb : n * t ≤ 48 * 48 := Nat.mul_le_mul (by omega) (by omega)
    have A0 : ∀ a : Nat → Int32, rl_A A n xi a → rl_A A n (fun i => xi (i % n)) a := by
      intro a h i hi
      show a i = nI (xi (i % n)) ∧ xi (i % n) < A
      rw [Nat.mod_eq_of_lt hi]; exact h i hi
    by_cases h4 : n * t ≤ C
    · have hle : n ≤ n * t := Nat.le_mul_of_pos_right n h3
      have h5 : nI n * nI t ≤ nI C := by rw [pk_mul]; exact nI_le h4 (by omega)
      refine br_f h0 (br_t h1 (nm_r (pk_mul n t) (br_t (nI_le h4 (by omega)) ⟨n * t - n + 1, xw_rp39 (x := xi) (A := A) (by omega) ?_ (by omega) (fun a' ha => ?_) (n * t - n) n _ _ (by omega) (by omega) (by omega) (A0 _ g7)⟩)))
      · rcases Nat.eq_zero_or_pos n with z | z
        · exact Or.inr (by rw [z, Nat.zero_mul])
        · exact Or.inl z
      · refine br_f h0 (br_t h1 (br_t h5 ⟨t, yw_rp34 (x := xi) (A := A) (by omega) (by omega) (by omega) (fun b' hb => ⟨rfl, rl_in ⟨g1, g2, g3, g4, h4, g6, ha, hb, g9, g10, g11⟩⟩) (t - 1) 1 _ _ (by omega) (by omega) (by omega) (by rw [Nat.one_mul]; exact A0 _ g8)⟩))
    · have h5 : ¬ nI n * nI t ≤ nI C := by rw [pk_mul]; exact nI_ge (by omega) (by omega)
      have h6 : ¬ nI (n * t) ≤ nI C := nI_ge (by omega) (by omega)
      exact br_f h0 (br_t h1 (nm_r (pk_mul n t) (br_f h6 (br_f h0 (br_t h1 (br_f h5 ⟨rfl, rl_in G⟩))))))
  · exact br_f h0 (br_f h1 (br_f h0 (br_f h1 ⟨rfl, rl_in G⟩)))
end
section
/-! encode -/
theorem rl_range {v1 : Int32} {S : Nat} (hS : S ≤ 4) : v1 < 0 ∨ (¬ v1 < 0 ∧ ¬ v1 < nI S) ∨ ∃ s, s < S ∧ v1 = nI s := by
  by_cases h0 : v1 < 0
  · exact Or.inl h0
  · by_cases h1 : v1 < nI S
    · obtain ⟨j, hj, rfl⟩ := nI_of h0
      rw [nI_ltI hj (by omega)] at h1
      exact Or.inr (Or.inr ⟨j, h1, rfl⟩)
    · exact Or.inr (Or.inl ⟨h0, h1⟩)
theorem rl_slotk {A C s : Nat} {pk pk' bh bh' bl bl' : Nat → Int32} (h : rl_slot A C s pk bh bl) (h48 : C ≤ 48) (hl : bl' s = bl s) (hh : ∀ i, i < 48 → bh' (s * 48 + i) = bh (s * 48 + i)) (hp : ∀ i, i < 4096 → sl_B pk' s i = sl_B pk s i) : rl_slot A C s pk' bh' bl' := by
  obtain ⟨n, x, h1, h2, h3, B, h4, h5⟩ := h
  exact ⟨n, x, h1, by rw [hl]; exact h2, fun i hi => by rw [hh i (by omega)]; exact h3 i hi, B, fun i hi => by rw [hp i hi]; exact h4 i hi, h5⟩
section
variable {f_capacity f_alphabet f_slots f_tables f_codeCount f_inputSize f_outputSize f_blockLength f_columnIndex f_symbolCount f_groupCount f_tableCount f_bitBase f_bitPlace : Int32} {a_input a_output a_held a_checks a_packed a_block a_column a_ranks a_otherRanks a_links a_starts a_order a_shifted a_classes a_nextClasses a_buckets a_list a_symbols a_selectors a_lengths a_codes a_lengthCounts a_sorted a_weights a_parents a_depths : Nat → Int32}
variable {g_capacity g_alphabet g_slots g_tables g_inLen g_outLen g_n : Int32} {b_input b_output b_holds b_held b_heldLen b_checks b_x b_col b_table b_sorted b_order : Nat → Int32}
theorem yw_enc13 {post : Int32 → SY → Prop} {n s : Nat} (hn : n ≤ 48) (hs : s < 4)
    (K : ∀ h' : Nat → Int32, (∀ j, j < n → h' (s * 48 + j) = b_input j) → (∀ q, q < s * 48 ∨ s * 48 + 48 ≤ q → h' q = b_held q) → post (nI n) (g_capacity, g_alphabet, g_slots, g_tables, nI n, g_outLen, nI n, b_input, b_output, upd b_holds s (vp_nar .boolean 1), h', upd b_heldLen s (nI n), upd b_checks s (wk_crc0 (wk_ov n b_input b_x) n), wk_ov n b_input b_x, b_col, b_table, b_sorted, b_order)) :
    ∀ d i q h', i + d = n → d < q → (∀ j, j < i → h' (s * 48 + j) = b_input j) → (∀ q, q < s * 48 ∨ s * 48 + 48 ≤ q → h' q = b_held q) → wY_encode_13 post (nI s) g_capacity g_alphabet g_slots g_tables (nI n) g_outLen g_n q (nI i) b_input b_output b_holds h' b_heldLen b_checks b_x b_col b_table b_sorted b_order := by
  intro d
  induction d with
  | zero =>
    intro i q h' hd hq h1 h2
    obtain ⟨q, rfl⟩ : ∃ r, q = r + 1 := ⟨q - 1, by omega⟩
    have e : i = n := by omega
    subst e
    refine br_t (nI_le (Nat.le_refl i) (by omega)) ?_
    rw [wk_c (i := s) (by omega)]
    refine ⟨vp_in_nI hs (by omega), nm_e ⟨vp_in_nI hs (by omega), nm_e ?_⟩⟩
    refine yw_load hn ?_
    refine yw_crc hn ?_
    exact ⟨vp_in_nI hs (by omega), nm_e (K h' h1 h2)⟩
  | succ d ih =>
    intro i q h' hd hq h1 h2
    obtain ⟨q, rfl⟩ : ∃ r, q = r + 1 := ⟨q - 1, by omega⟩
    refine br_f (nI_ge (by omega) (by omega)) ?_
    rw [wk_t48, wk_c (i := s * 48 + i) (by omega), wk_c (i := i) (by omega)]
    refine ⟨vp_in_nI (by omega) (by omega), vp_in_nI (by omega) (by omega), nm_e (nm_r (nI_1 i) (ih (i + 1) q _ (by omega) (by omega) (fun j hj => ?_) (fun r hr => ?_)))⟩
    · by_cases z : j = i
      · subst z; rw [pk_us]
      · rw [pk_un (by omega)]; exact h1 j (by omega)
    · rw [pk_un (by omega)]; exact h2 r hr
theorem yw_enc {post : Int32 → SY → Prop} {n s S : Nat} (hn : n ≤ 48) (hS : S ≤ 4) (hs : s < S)
    (K : ∀ h' : Nat → Int32, (∀ j, j < n → h' (s * 48 + j) = b_input j) → (∀ q, q < s * 48 ∨ s * 48 + 48 ≤ q → h' q = b_held q) → post (nI n) (g_capacity, g_alphabet, nI S, g_tables, nI n, g_outLen, nI n, b_input, b_output, upd b_holds s (vp_nar .boolean 1), h', upd b_heldLen s (nI n), upd b_checks s (wk_crc0 (wk_ov n b_input b_x) n), wk_ov n b_input b_x, b_col, b_table, b_sorted, b_order)) :
    wpY_encode post (g_capacity, g_alphabet, nI S, g_tables, nI n, g_outLen, g_n, b_input, b_output, b_holds, b_held, b_heldLen, b_checks, b_x, b_col, b_table, b_sorted, b_order) (nI s) := by
  unfold wpY_encode
  refine br_f (nI_pos (by omega)) (br_t (nI_lt hs (by omega)) (br_t rfl ⟨n + 1, ?_⟩))
  exact yw_enc13 hn (by omega) K n 0 _ _ (by omega) (by omega) (fun j hj => by omega) (fun q _ => rfl)
theorem xw_enc {post : Int32 → SX → Prop} {C A S T n s : Nat} {xi : Nat → Nat} (hA : 2 ≤ A ∧ A ≤ 16) (hT : 2 ≤ T ∧ T ≤ 4) (hS : S ≤ 4) (hn : n ≤ 48) (hs : s < S) (hx : rl_A A n xi a_input)
    (K : ∀ (bl ci sc gc tc bb bp : Int32) (pk' bk' cl' rk' or' sh' cs' nc' bu' l' sy' se' le' co' lc' so' w' p' d' : Nat → Int32), sl_R A n xi (sl_B pk' s) → bi_F a_packed pk' (s * 4096) 4096 →
      post (nI n) (nI C, nI A, nI S, nI T, nI (A + 1), nI n, f_outputSize, bl, ci, sc, gc, tc, bb, bp, a_input, a_output, upd a_held s (vp_nar .boolean 1), upd a_checks s (wk_crc0 (wk_ov n a_input a_block) n), pk', bk', cl', rk', a_otherRanks, a_links, a_starts, or', sh', cs', nc', bu', l', sy', se', le', co', lc', so', w', p', d')) :
    wpX_encode post (nI C, nI A, nI S, nI T, nI (A + 1), nI n, f_outputSize, f_blockLength, f_columnIndex, f_symbolCount, f_groupCount, f_tableCount, f_bitBase, f_bitPlace, a_input, a_output, a_held, a_checks, a_packed, a_block, a_column, a_ranks, a_otherRanks, a_links, a_starts, a_order, a_shifted, a_classes, a_nextClasses, a_buckets, a_list, a_symbols, a_selectors, a_lengths, a_codes, a_lengthCounts, a_sorted, a_weights, a_parents, a_depths) (nI s) := by
  refine br_f (nI_pos (by omega)) (br_t (nI_lt hs (by omega)) (xw_load hn ?_))
  refine xw_crc hn ⟨vp_in_nI (by omega) (by omega), ?_⟩
  rw [wk_c (i := s) (by omega)]
  refine nm_e ?_
  refine xw_sort (x := xi) hn (fun i hi => ⟨by rw [wk_ovl hi]; exact (hx i hi).1, by have := (hx i hi).2; omega⟩) (fun or' sh' cs' nc' bu' cl' hc => ?_)
  refine xw_rank (c := ro_col n xi) hn hA.2 (fun i hi => ⟨hc i hi, ro_collt (fun i hi => (hx i hi).2) hi⟩) (fun l1 rk' rk hM hr => ?_)
  refine xw_collect (rk := rk) hn hA.1 hA.2 (fun i hi => ⟨hr i hi, (hM i hi).1⟩) (fun sc y y' hy hQ ha => ?_)
  have hsc : sc ≤ 48 := by have := ru_le y sc; omega
  refine xw_choose (y := y) (by omega) (by omega) hsc hT.2 (by omega) (by omega) hy (fun tc se' le' w' p' d' co' so' lc' sel len htc _ hSe hTa hCo => ?_)
  have hix : ro_w n xi 0 < 64 := by
    rcases Nat.eq_zero_or_pos n with z | z
    · subst z; rw [ro_w0]; omega
    · have := ro_wlt (x := xi) z; omega
  refine xw_write (len := len) (y := y) (sel := sel) (by omega) (by omega) (by omega) hsc htc rfl hn hix hTa hCo hSe hy (fun pk' l2 p pl b1 b2 b3 F => ⟨vp_in_nI (by omega) (by omega), nm_e ?_⟩)
  exact K _ _ _ _ _ _ _ pk' _ cl' rk' or' sh' cs' nc' bu' l2 y' se' le' co' lc' so' w' p' d' ⟨b1, b2, fun h0 => ⟨rk, sc, tc, y, sel, pl, len, hM, hQ, ha, fun q hq => (hy q hq).2, htc, fun g hg => (hSe g hg).2, (b3 h0).1, fun t ht => (hTa t ht).1, (b3 h0).2⟩⟩ F
end
theorem i_vc_encode {k : Nat} {u : SX} {v : SY} (I : i_Rel k u v) (hk : k + 3 ≤ 1540) (v1 : Int32) : wpX_encode (fun r u' => wpY_encode (fun r' v' => r' = r ∧ i_Rel (k + 3) u' v') v v1) u v1 := by
  refine rl_el (P := fun u v => wpX_encode (fun r u' => wpY_encode (fun r' v' => r' = r ∧ i_Rel (k + 3) u' v') v v1) u v1) ?_ I
  intro C A S T n m xi xo f_blockLength f_columnIndex f_symbolCount f_groupCount f_tableCount f_bitBase f_bitPlace g_n a_input a_output a_held a_checks a_packed a_block a_column a_ranks a_otherRanks a_links a_starts a_order a_shifted a_classes a_nextClasses a_buckets a_list a_symbols a_selectors a_lengths a_codes a_lengthCounts a_sorted a_weights a_parents a_depths b_input b_output b_held b_heldLen b_x b_col b_table b_sorted b_order G
  obtain ⟨g1, g2, g3, g4, g5, g6, g7, g8, g9, g10, g11⟩ := id G
  rcases rl_range (v1 := v1) g3.2 with h | ⟨h, h'⟩ | ⟨s, hs, rfl⟩
  · refine br_t h ?_
    unfold wpY_encode
    exact br_t h (br_f (by decide) ⟨rfl, rl_in G⟩)
  · refine br_f h (br_f h' ?_)
    unfold wpY_encode
    exact br_f h (br_f h' (br_f (by decide) ⟨rfl, rl_in G⟩))
  · refine xw_enc (xi := xi) g2 g4 g3.2 (by omega) hs g7 (fun bl ci sc gc tc bb bp pk' bk' cl' rk' or' sh' cs' nc' bu' l' sy' se' le' co' lc' so' w' p' d' hR F => ?_)
    refine yw_enc (by omega) g3.2 hs (fun h' e1 e2 => ⟨rfl, ?_⟩)
    have ec : wk_crc0 (wk_ov n b_input b_x) n = wk_crc0 (wk_ov n a_input a_block) n := wk_crceq (fun j hj => by rw [wk_ovl hj, wk_ovl hj, (g8 j hj).1, (g7 j hj).1])
    rw [ec]
    refine rl_in ⟨g1, g2, g3, g4, g5, g6, g7, g8, g9, g10, fun t ht hh => ?_⟩
    by_cases z : t = s
    · subst z
      exact ⟨n, xi, g5, pk_us, fun i hi => ⟨by rw [e1 i hi]; exact (g8 i hi).1, (g8 i hi).2⟩, _, fun i _ => rfl, hR⟩
    · rw [pk_un z] at hh
      refine rl_slotk (g11 t ht hh) (by omega) (pk_un z) (fun i hi => e2 _ (by omega)) (fun i hi => F _ (by omega))
end
section
/-! decode, heldLength, heldCheck, alterCheck, transform -/
section
variable {f_capacity f_alphabet f_slots f_tables f_codeCount f_inputSize f_outputSize f_blockLength f_columnIndex f_symbolCount f_groupCount f_tableCount f_bitBase f_bitPlace : Int32} {a_input a_output a_held a_checks a_packed a_block a_column a_ranks a_otherRanks a_links a_starts a_order a_shifted a_classes a_nextClasses a_buckets a_list a_symbols a_selectors a_lengths a_codes a_lengthCounts a_sorted a_weights a_parents a_depths : Nat → Int32}
variable {g_capacity g_alphabet g_slots g_tables g_inLen g_outLen g_n : Int32} {b_input b_output b_holds b_held b_heldLen b_checks b_x b_col b_table b_sorted b_order : Nat → Int32}
theorem xw_st {post : Int32 → Prop} {s S : Nat} (hS : S ≤ 4) (hs : s < S) (h : a_held s ≠ 0) (K : post 0) : wpX_slotTest post (f_capacity, f_alphabet, nI S, f_tables, f_codeCount, f_inputSize, f_outputSize, f_blockLength, f_columnIndex, f_symbolCount, f_groupCount, f_tableCount, f_bitBase, f_bitPlace, a_input, a_output, a_held, a_checks, a_packed, a_block, a_column, a_ranks, a_otherRanks, a_links, a_starts, a_order, a_shifted, a_classes, a_nextClasses, a_buckets, a_list, a_symbols, a_selectors, a_lengths, a_codes, a_lengthCounts, a_sorted, a_weights, a_parents, a_depths) (nI s) := by
  refine br_f (nI_pos (by omega)) (br_t (nI_lt hs (by omega)) ⟨vp_in_nI (by omega) (by omega), ?_⟩)
  rw [wk_c (i := s) (by omega)]; exact br_f h K
theorem xw_st0 {post : Int32 → Prop} {s S : Nat} (hS : S ≤ 4) (hs : s < S) (h : a_held s = 0) (K : post 102) : wpX_slotTest post (f_capacity, f_alphabet, nI S, f_tables, f_codeCount, f_inputSize, f_outputSize, f_blockLength, f_columnIndex, f_symbolCount, f_groupCount, f_tableCount, f_bitBase, f_bitPlace, a_input, a_output, a_held, a_checks, a_packed, a_block, a_column, a_ranks, a_otherRanks, a_links, a_starts, a_order, a_shifted, a_classes, a_nextClasses, a_buckets, a_list, a_symbols, a_selectors, a_lengths, a_codes, a_lengthCounts, a_sorted, a_weights, a_parents, a_depths) (nI s) := by
  refine br_f (nI_pos (by omega)) (br_t (nI_lt hs (by omega)) ⟨vp_in_nI (by omega) (by omega), ?_⟩)
  rw [wk_c (i := s) (by omega)]; exact br_t h K
theorem yw_st {post : Int32 → Prop} {s S : Nat} (hS : S ≤ 4) (hs : s < S) (h : b_holds s ≠ 0) (K : post 0) : wpY_refusalOf post (g_capacity, g_alphabet, nI S, g_tables, g_inLen, g_outLen, g_n, b_input, b_output, b_holds, b_held, b_heldLen, b_checks, b_x, b_col, b_table, b_sorted, b_order) (nI s) := by
  refine br_f (nI_pos (by omega)) (br_t (nI_lt hs (by omega)) ⟨vp_in_nI (by omega) (by omega), ?_⟩)
  rw [wk_c (i := s) (by omega)]; exact br_f h K
theorem yw_st0 {post : Int32 → Prop} {s S : Nat} (hS : S ≤ 4) (hs : s < S) (h : b_holds s = 0) (K : post 102) : wpY_refusalOf post (g_capacity, g_alphabet, nI S, g_tables, g_inLen, g_outLen, g_n, b_input, b_output, b_holds, b_held, b_heldLen, b_checks, b_x, b_col, b_table, b_sorted, b_order) (nI s) := by
  refine br_f (nI_pos (by omega)) (br_t (nI_lt hs (by omega)) ⟨vp_in_nI (by omega) (by omega), ?_⟩)
  rw [wk_c (i := s) (by omega)]; exact br_t h K
end
theorem rl_Aof {A n : Nat} {x : Nat → Nat} {a b : Nat → Int32} (h : ∀ i, i < n → a i = nI (x i)) (hx : ∀ i, i < n → x i < A) : rl_A A n x (wk_ov n a b) := by
  intro i hi
  rw [wk_ovl hi]; exact ⟨h i hi, hx i hi⟩
theorem i_vc_decode {k : Nat} {u : SX} {v : SY} (I : i_Rel k u v) (hk : k + 3 ≤ 1540) (v1 : Int32) : wpX_decode (fun r u' => wpY_decode (fun r' v' => r' = r ∧ i_Rel (k + 3) u' v') v v1) u v1 := by
  refine rl_el (P := fun u v => wpX_decode (fun r u' => wpY_decode (fun r' v' => r' = r ∧ i_Rel (k + 3) u' v') v v1) u v1) ?_ I
  intro C A S T n m xi xo f_blockLength f_columnIndex f_symbolCount f_groupCount f_tableCount f_bitBase f_bitPlace g_n a_input a_output a_held a_checks a_packed a_block a_column a_ranks a_otherRanks a_links a_starts a_order a_shifted a_classes a_nextClasses a_buckets a_list a_symbols a_selectors a_lengths a_codes a_lengthCounts a_sorted a_weights a_parents a_depths b_input b_output b_held b_heldLen b_x b_col b_table b_sorted b_order G
  obtain ⟨g1, g2, g3, g4, g5, g6, g7, g8, g9, g10, g11⟩ := id G
  unfold wpX_decode
  rcases rl_range (v1 := v1) g3.2 with h | ⟨h, h'⟩ | ⟨s, hs, rfl⟩
  · refine br_t h (br_f (by decide) ?_)
    unfold wpY_decode
    exact br_t h (br_f (by decide) ⟨rfl, rl_in G⟩)
  · refine br_f h (br_f h' (br_f (by decide) ?_))
    unfold wpY_decode
    exact br_f h (br_f h' (br_f (by decide) ⟨rfl, rl_in G⟩))
  by_cases hh : a_held s = 0
  · refine xw_st0 g3.2 hs hh (br_f (by decide) ?_)
    unfold wpY_decode
    exact yw_st0 g3.2 hs hh (br_f (by decide) ⟨rfl, rl_in G⟩)
  obtain ⟨n0, x0, q1, q2, q3, B, q4, q5⟩ := g11 s (by omega) hh
  refine xw_st g3.2 hs hh (br_t rfl ?_)
  refine xw_block (by omega) q4 g2.2 (by omega) (fun i hi => (q3 i hi).2) q5 (fun bb bp sc gc tc l' le' co' lc' so' sy' se' rk' cl' li' st' bl' hb => ?_)
  refine xw_crc (by omega) ⟨vp_in_nI (by omega) (by omega), ?_⟩
  rw [wk_c (i := s) (by omega)]
  have ec : wk_crc0 (wk_ov n0 (fun i => b_held (s * 48 + i)) b_x) n0 = wk_crc0 bl' n0 := wk_crceq (fun j hj => by rw [wk_ovl hj, (q3 j hj).1, hb j hj])
  by_cases hc : wk_crc0 bl' n0 = a_checks s
  · refine br_t hc (xw_out (by omega) ?_)
    unfold wpY_decode
    refine yw_st g3.2 hs hh (br_t rfl (yw_slot (by omega) (by omega) q2 (yw_crc (by omega) ⟨vp_in_nI (by omega) (by omega), ?_⟩)))
    rw [wk_c (i := s) (by omega), ec]
    refine br_t hc.symm (yw_out (by omega) ⟨rfl, rl_in ⟨g1, g2, g3, g4, g5, q1, g7, g8, rl_Aof (x := x0) hb (fun i hi => (q3 i hi).2), rl_Aof (x := x0) (fun i hi => by rw [wk_ovl hi]; exact (q3 i hi).1) (fun i hi => (q3 i hi).2), g11⟩⟩)
  · refine br_f hc ?_
    unfold wpY_decode
    refine yw_st g3.2 hs hh (br_t rfl (yw_slot (by omega) (by omega) q2 (yw_crc (by omega) ⟨vp_in_nI (by omega) (by omega), ?_⟩)))
    rw [wk_c (i := s) (by omega), ec]
    exact br_f (fun z => hc z.symm) ⟨rfl, rl_in G⟩
theorem i_vc_heldLength {k : Nat} {u : SX} {v : SY} (I : i_Rel k u v) (hk : k + 3 ≤ 1540) (v1 : Int32) : wpX_heldLength (fun r u' => wpY_heldLength (fun r' => r' = r ∧ i_Rel (k + 3) u' v) v v1) u v1 := by
  refine rl_el (P := fun u v => wpX_heldLength (fun r u' => wpY_heldLength (fun r' => r' = r ∧ i_Rel (k + 3) u' v) v v1) u v1) ?_ I
  intro C A S T n m xi xo f_blockLength f_columnIndex f_symbolCount f_groupCount f_tableCount f_bitBase f_bitPlace g_n a_input a_output a_held a_checks a_packed a_block a_column a_ranks a_otherRanks a_links a_starts a_order a_shifted a_classes a_nextClasses a_buckets a_list a_symbols a_selectors a_lengths a_codes a_lengthCounts a_sorted a_weights a_parents a_depths b_input b_output b_held b_heldLen b_x b_col b_table b_sorted b_order G
  obtain ⟨g1, g2, g3, g4, g5, g6, g7, g8, g9, g10, g11⟩ := id G
  unfold wpX_heldLength
  rcases rl_range (v1 := v1) g3.2 with h | ⟨h, h'⟩ | ⟨s, hs, rfl⟩
  · refine br_t h (br_f (by decide) ?_)
    unfold wpY_heldLength
    exact br_t h (br_f (by decide) ⟨rfl, rl_in G⟩)
  · refine br_f h (br_f h' (br_f (by decide) ?_))
    unfold wpY_heldLength
    exact br_f h (br_f h' (br_f (by decide) ⟨rfl, rl_in G⟩))
  by_cases hh : a_held s = 0
  · refine xw_st0 g3.2 hs hh (br_f (by decide) ?_)
    unfold wpY_heldLength
    exact yw_st0 g3.2 hs hh (br_f (by decide) ⟨rfl, rl_in G⟩)
  obtain ⟨n0, x0, q1, q2, q3, B, q4, q5⟩ := g11 s (by omega) hh
  refine xw_st g3.2 hs hh (br_t rfl (nm_r (e' := nI (s * 128)) (pk_mul s 128) ?_))
  refine xw_tbB (p := 0) (w := 6) (v := n0) (M := 48) (by omega) q4 (by omega) (by omega) (by omega) (by omega) (by omega) q5.1 ?_
  unfold wpY_heldLength
  refine yw_st g3.2 hs hh (br_t rfl ⟨vp_in_nI (by omega) (by omega), ?_, rl_in G⟩)
  rw [wk_c (by omega), q2]
theorem i_vc_heldCheck {k : Nat} {u : SX} {v : SY} (I : i_Rel k u v) (hk : k + 3 ≤ 1540) (v1 : Int32) : wpX_heldCheck (fun r => wpY_heldCheck (fun r' => r' = r ∧ i_Rel (k + 3) u v) v v1) u v1 := by
  refine rl_el (P := fun u v => wpX_heldCheck (fun r => wpY_heldCheck (fun r' => r' = r ∧ i_Rel (k + 3) u v) v v1) u v1) ?_ I
  intro C A S T n m xi xo f_blockLength f_columnIndex f_symbolCount f_groupCount f_tableCount f_bitBase f_bitPlace g_n a_input a_output a_held a_checks a_packed a_block a_column a_ranks a_otherRanks a_links a_starts a_order a_shifted a_classes a_nextClasses a_buckets a_list a_symbols a_selectors a_lengths a_codes a_lengthCounts a_sorted a_weights a_parents a_depths b_input b_output b_held b_heldLen b_x b_col b_table b_sorted b_order G
  obtain ⟨g1, g2, g3, g4, g5, g6, g7, g8, g9, g10, g11⟩ := id G
  unfold wpX_heldCheck
  rcases rl_range (v1 := v1) g3.2 with h | ⟨h, h'⟩ | ⟨s, hs, rfl⟩
  · refine br_t h (br_f (by decide) ?_)
    unfold wpY_heldCheck
    exact br_t h (br_f (by decide) ⟨rfl, rl_in G⟩)
  · refine br_f h (br_f h' (br_f (by decide) ?_))
    unfold wpY_heldCheck
    exact br_f h (br_f h' (br_f (by decide) ⟨rfl, rl_in G⟩))
  by_cases hh : a_held s = 0
  · refine xw_st0 g3.2 hs hh (br_f (by decide) ?_)
    unfold wpY_heldCheck
    exact yw_st0 g3.2 hs hh (br_f (by decide) ⟨rfl, rl_in G⟩)
  refine xw_st g3.2 hs hh (br_t rfl ⟨vp_in_nI (by omega) (by omega), ?_⟩)
  unfold wpY_heldCheck
  exact yw_st g3.2 hs hh (br_t rfl ⟨vp_in_nI (by omega) (by omega), rfl, rl_in G⟩)
theorem i_vc_alterCheck {k : Nat} {u : SX} {v : SY} (I : i_Rel k u v) (hk : k + 3 ≤ 1540) (v1 : Int32) (v2 : Int32) : wpX_alterCheck (fun r u' => wpY_alterCheck (fun r' v' => r' = r ∧ i_Rel (k + 3) u' v') v v1 v2) u v1 v2 := by
  refine rl_el (P := fun u v => wpX_alterCheck (fun r u' => wpY_alterCheck (fun r' v' => r' = r ∧ i_Rel (k + 3) u' v') v v1 v2) u v1 v2) ?_ I
  intro C A S T n m xi xo f_blockLength f_columnIndex f_symbolCount f_groupCount f_tableCount f_bitBase f_bitPlace g_n a_input a_output a_held a_checks a_packed a_block a_column a_ranks a_otherRanks a_links a_starts a_order a_shifted a_classes a_nextClasses a_buckets a_list a_symbols a_selectors a_lengths a_codes a_lengthCounts a_sorted a_weights a_parents a_depths b_input b_output b_held b_heldLen b_x b_col b_table b_sorted b_order G
  obtain ⟨g1, g2, g3, g4, g5, g6, g7, g8, g9, g10, g11⟩ := id G
  unfold wpX_alterCheck
  rcases rl_range (v1 := v1) g3.2 with h | ⟨h, h'⟩ | ⟨s, hs, rfl⟩
  · refine br_t h (br_f (by decide) ?_)
    unfold wpY_alterCheck
    exact br_t h (br_f (by decide) ⟨rfl, rl_in G⟩)
  · refine br_f h (br_f h' (br_f (by decide) ?_))
    unfold wpY_alterCheck
    exact br_f h (br_f h' (br_f (by decide) ⟨rfl, rl_in G⟩))
  by_cases hh : a_held s = 0
  · refine xw_st0 g3.2 hs hh (br_f (by decide) ?_)
    unfold wpY_alterCheck
    exact yw_st0 g3.2 hs hh (br_f (by decide) ⟨rfl, rl_in G⟩)
  obtain ⟨n0, x0, q1, q2, q3, B, q4, q5⟩ := g11 s (by omega) hh
  refine xw_st g3.2 hs hh (br_t rfl ⟨vp_in_nI (by omega) (by omega), vp_in_nI (by omega) (by omega), ?_⟩)
  rw [wk_c (i := s) (by omega)]
  refine nm_e ?_
  refine xw_block (by omega) q4 g2.2 (by omega) (fun i hi => (q3 i hi).2) q5 (fun bb bp sc gc tc l' le' co' lc' so' sy' se' rk' cl' li' st' bl' hb => ?_)
  refine xw_crc (by omega) ⟨vp_in_nI (by omega) (by omega), ?_⟩
  have ec : wk_crc0 (wk_ov n0 (fun i => b_held (s * 48 + i)) b_x) n0 = wk_crc0 bl' n0 := wk_crceq (fun j hj => by rw [wk_ovl hj, (q3 j hj).1, hb j hj])
  by_cases hc : wk_crc0 bl' n0 = upd a_checks s (a_checks s ^^^ v2) s
  · refine br_t hc ?_
    unfold wpY_alterCheck
    refine yw_st g3.2 hs hh (br_t rfl ⟨vp_in_nI (by omega) (by omega), vp_in_nI (by omega) (by omega), ?_⟩)
    rw [wk_c (i := s) (by omega)]
    refine nm_e (yw_slot (by omega) (by omega) q2 (yw_crc (by omega) ⟨vp_in_nI (by omega) (by omega), ?_⟩))
    rw [ec]
    exact br_t hc.symm ⟨rfl, rl_in G⟩
  · refine br_f hc ?_
    unfold wpY_alterCheck
    refine yw_st g3.2 hs hh (br_t rfl ⟨vp_in_nI (by omega) (by omega), vp_in_nI (by omega) (by omega), ?_⟩)
    rw [wk_c (i := s) (by omega)]
    refine nm_e (yw_slot (by omega) (by omega) q2 (yw_crc (by omega) ⟨vp_in_nI (by omega) (by omega), ?_⟩))
    rw [ec]
    exact br_f (fun z => hc z.symm) ⟨rfl, rl_in G⟩
section
variable {f_capacity f_alphabet f_slots f_tables f_codeCount f_inputSize f_outputSize f_blockLength f_columnIndex f_symbolCount f_groupCount f_tableCount f_bitBase f_bitPlace : Int32} {a_input a_output a_held a_checks a_packed a_block a_column a_ranks a_otherRanks a_links a_starts a_order a_shifted a_classes a_nextClasses a_buckets a_list a_symbols a_selectors a_lengths a_codes a_lengthCounts a_sorted a_weights a_parents a_depths : Nat → Int32}
variable {g_capacity g_alphabet g_slots g_tables g_inLen g_outLen g_n : Int32} {b_input b_output b_holds b_held b_heldLen b_checks b_x b_col b_table b_sorted b_order : Nat → Int32}
theorem xw_tr10 {post : Int32 → SX → Prop} {n : Nat} (hn : n ≤ 48) (K : post f_columnIndex (f_capacity, f_alphabet, f_slots, f_tables, f_codeCount, f_inputSize, nI n, nI n, f_columnIndex, f_symbolCount, f_groupCount, f_tableCount, f_bitBase, f_bitPlace, a_input, wk_ov n a_column a_output, a_held, a_checks, a_packed, a_block, a_column, a_ranks, a_otherRanks, a_links, a_starts, a_order, a_shifted, a_classes, a_nextClasses, a_buckets, a_list, a_symbols, a_selectors, a_lengths, a_codes, a_lengthCounts, a_sorted, a_weights, a_parents, a_depths)) : ∃ q, wX_transform_10 post f_capacity f_alphabet f_slots f_tables f_codeCount f_inputSize f_outputSize (nI n) f_columnIndex f_symbolCount f_groupCount f_tableCount f_bitBase f_bitPlace q 0 a_input a_output a_held a_checks a_packed a_block a_column a_ranks a_otherRanks a_links a_starts a_order a_shifted a_classes a_nextClasses a_buckets a_list a_symbols a_selectors a_lengths a_codes a_lengthCounts a_sorted a_weights a_parents a_depths := by
  refine wk_cp (fun k i b => wX_transform_10 post f_capacity f_alphabet f_slots f_tables f_codeCount f_inputSize f_outputSize (nI n) f_columnIndex f_symbolCount f_groupCount f_tableCount f_bitBase f_bitPlace k (nI i) a_input b a_held a_checks a_packed a_block a_column a_ranks a_otherRanks a_links a_starts a_order a_shifted a_classes a_nextClasses a_buckets a_list a_symbols a_selectors a_lengths a_codes a_lengthCounts a_sorted a_weights a_parents a_depths) a_column a_output n ?_ ?_
  · intro k; exact br_t (nI_le (Nat.le_refl n) (by omega)) K
  · intro k i hi ih
    exact br_f (nI_ge hi (by omega)) ⟨vp_in_nI (by omega) (by omega), vp_in_nI (by omega) (by omega), nm_r (by rw [wk_c (by omega)]; exact wk_ovs i a_column a_output) (nm_r (nI_1 i) ih)⟩
theorem yw_tr10 {post : Int32 → SY → Prop} {n : Nat} {x : Nat → Nat} (hn : n ≤ 48) (hx : ∀ j, j < n → b_x j = nI (x j) ∧ x j < 16) (K : post (nI (ro_w n x 0)) (g_capacity, g_alphabet, g_slots, g_tables, g_inLen, nI n, nI n, b_input, wk_ov n b_col b_output, b_holds, b_held, b_heldLen, b_checks, b_x, b_col, b_table, b_sorted, b_order)) : ∃ q, wY_transform_10 post g_capacity g_alphabet g_slots g_tables g_inLen g_outLen (nI n) q 0 b_input b_output b_holds b_held b_heldLen b_checks b_x b_col b_table b_sorted b_order := by
  refine wk_cp (fun k i b => wY_transform_10 post g_capacity g_alphabet g_slots g_tables g_inLen g_outLen (nI n) k (nI i) b_input b b_holds b_held b_heldLen b_checks b_x b_col b_table b_sorted b_order) b_col b_output n ?_ ?_
  · intro k
    refine br_t (nI_le (Nat.le_refl n) (by omega)) ?_
    rcases Nat.eq_zero_or_pos n with z | z
    · subst z
      exact br_t rfl K
    · exact br_f (nI_ne0 z (by omega)) (yw_row (i := 0) hn (by omega) hx K)
  · intro k i hi ih
    exact br_f (nI_ge hi (by omega)) ⟨vp_in_nI (by omega) (by omega), vp_in_nI (by omega) (by omega), nm_r (by rw [wk_c (by omega)]; exact wk_ovs i b_col b_output) (nm_r (nI_1 i) ih)⟩
end
theorem i_vc_transform {k : Nat} {u : SX} {v : SY} (I : i_Rel k u v) (hk : k + 3 ≤ 1540) : wpX_transform (fun r u' => wpY_transform (fun r' v' => r' = r ∧ i_Rel (k + 3) u' v') v) u := by
  refine rl_el (P := fun u v => wpX_transform (fun r u' => wpY_transform (fun r' v' => r' = r ∧ i_Rel (k + 3) u' v') v) u) ?_ I
  intro C A S T n m xi xo f_blockLength f_columnIndex f_symbolCount f_groupCount f_tableCount f_bitBase f_bitPlace g_n a_input a_output a_held a_checks a_packed a_block a_column a_ranks a_otherRanks a_links a_starts a_order a_shifted a_classes a_nextClasses a_buckets a_list a_symbols a_selectors a_lengths a_codes a_lengthCounts a_sorted a_weights a_parents a_depths b_input b_output b_held b_heldLen b_x b_col b_table b_sorted b_order G
  obtain ⟨g1, g2, g3, g4, g5, g6, g7, g8, g9, g10, g11⟩ := id G
  unfold wpX_transform
  refine xw_load (by omega) ?_
  refine xw_sort (x := xi) (by omega) (fun i hi => ⟨by rw [wk_ovl hi]; exact (g7 i hi).1, by have := (g7 i hi).2; omega⟩) (fun or' sh' cs' nc' bu' cl' hc => ?_)
  refine xw_tr10 (by omega) ?_
  unfold wpY_transform
  refine yw_load (by omega) ?_
  have hy : ∀ j, j < n → wk_ov n b_input b_x j = nI (xi j) ∧ xi j < 16 := fun i hi => ⟨by rw [wk_ovl hi]; exact (g8 i hi).1, by have := (g8 i hi).2; omega⟩
  refine yw_col (x := xi) (by omega) hy (fun c' hc' => ?_)
  refine yw_tr10 (x := xi) (by omega) hy ⟨rfl, ?_⟩
  exact rl_in ⟨g1, g2, g3, g4, g5, g5, g7, g8, rl_Aof (x := ro_col n xi) hc (fun i hi => ro_collt (fun i hi => (g7 i hi).2) hi), rl_Aof (x := ro_col n xi) hc' (fun i hi => ro_collt (fun i hi => (g7 i hi).2) hi), g11⟩
end
section
/-! rowOf, period, frontAt -/
section
variable {f_capacity f_alphabet f_slots f_tables f_codeCount f_inputSize f_outputSize f_blockLength f_columnIndex f_symbolCount f_groupCount f_tableCount f_bitBase f_bitPlace : Int32} {a_input a_output a_held a_checks a_packed a_block a_column a_ranks a_otherRanks a_links a_starts a_order a_shifted a_classes a_nextClasses a_buckets a_list a_symbols a_selectors a_lengths a_codes a_lengthCounts a_sorted a_weights a_parents a_depths : Nat → Int32}
variable {g_capacity g_alphabet g_slots g_tables g_inLen g_outLen g_n : Int32} {b_input b_output b_holds b_held b_heldLen b_checks b_x b_col b_table b_sorted b_order : Nat → Int32}
theorem xw_ro48 {post : Int32 → SX → Prop} {n i p : Nat} {x : Nat → Nat} (hn : n ≤ 48) (hi : i < n) (hp : ro_p n x p) (hpn : p ≤ n) (hl : ∀ r, r < n → a_links r = nI (ro_k n (ro_col n x) r)) (K : post (nI (ro_w n x i)) (f_capacity, f_alphabet, f_slots, f_tables, f_codeCount, f_inputSize, f_outputSize, nI n, nI (ro_w n x 0), f_symbolCount, f_groupCount, f_tableCount, f_bitBase, f_bitPlace, a_input, a_output, a_held, a_checks, a_packed, a_block, a_column, a_ranks, a_otherRanks, a_links, a_starts, a_order, a_shifted, a_classes, a_nextClasses, a_buckets, a_list, a_symbols, a_selectors, a_lengths, a_codes, a_lengthCounts, a_sorted, a_weights, a_parents, a_depths)) :
    ∀ d j q, j + d = n - i → d < q → wX_rowOf_48 post (nI i) f_capacity f_alphabet f_slots f_tables f_codeCount f_inputSize f_outputSize (nI n) (nI (ro_w n x 0)) f_symbolCount f_groupCount f_tableCount f_bitBase f_bitPlace a_input a_output a_held a_checks a_packed a_block a_column a_ranks a_otherRanks a_links a_starts a_order a_shifted a_classes a_nextClasses a_buckets a_list a_symbols a_selectors a_lengths a_codes a_lengthCounts a_sorted a_weights a_parents a_depths q (nI (ro_i (ro_k n (ro_col n x)) j (ro_w n x 0))) (nI (n - j)) := by
  have h0 : 0 < n := by omega
  have hw0 := ro_wlt (x := x) h0
  intro d
  induction d with
  | zero =>
    intro j q hd hq
    obtain ⟨q, rfl⟩ : ∃ r, q = r + 1 := ⟨q - 1, by omega⟩
    have e : j = n - i := by omega
    subst e
    rw [ro_back h0 hp (ro_colC n x) hi]
    refine br_t (nI_le (by omega) (by omega)) (xw_cyc (p := p) hn hw0 hl hpn hp.1 (fun s h1 h2 => ro_cyc h0 hp (ro_colC n x) h1 h2) ?_)
    have e2 : nI (ro_w n x (i % p)) + nI i / nI p = nI (ro_w n x i) := by
      rw [pk_div (by omega) hp.1 (by omega), nI_add, ro_wrow h0 hp hi]
    exact br_f (nI_nle hp.1 (by omega)) ⟨nI_ne0 hp.1 (by omega), nm_r e2 K⟩
  | succ d ih =>
    intro j q hd hq
    obtain ⟨q, rfl⟩ : ∃ r, q = r + 1 := ⟨q - 1, by omega⟩
    have hR : ro_i (ro_k n (ro_col n x)) j (ro_w n x 0) < n := ro_iP (ro_kP n _) hw0 j
    refine br_f (nI_ge (by omega) (by omega)) ⟨vp_in_nI (by omega) (by omega), nm_r (e' := nI (ro_i (ro_k n (ro_col n x)) (j + 1) (ro_w n x 0))) (by rw [wk_c (by omega)]; exact hl _ hR) (nm_r (e' := nI (n - (j + 1))) ?_ (ih (j + 1) q (by omega) (by omega)))⟩
    rw [sb_m1 (by omega)]; congr 1
theorem yw_pe33 {post : Int32 → SY → Prop} {J : Int32 → Prop} {n d : Nat} {x : Nat → Nat} (h0 : 0 < n) (hn : n ≤ 48) (hd : d ≤ 48) (hx : ∀ j, j < n → b_x j = nI (x j) ∧ x j < 16)
    (K1 : (∀ m, m < n → ro_a n x (m + d) = ro_a n x m) → post (nI d) (g_capacity, g_alphabet, g_slots, g_tables, g_inLen, g_outLen, nI n, b_input, b_output, b_holds, b_held, b_heldLen, b_checks, b_x, b_col, b_table, b_sorted, b_order)) (K0 : (¬ ∀ m, m < n → ro_a n x (m + d) = ro_a n x m) → J (nI (d + 1))) :
    ∀ e i q f, i + e = n → e < q → ((f = 1 ∧ ∀ m, m < i → ro_a n x (m + d) = ro_a n x m) ∨ (f = 0 ∧ ¬ ∀ m, m < n → ro_a n x (m + d) = ro_a n x m)) → wY_period_33 post J (nI d) g_capacity g_alphabet g_slots g_tables g_inLen g_outLen (nI n) b_input b_output b_holds b_held b_heldLen b_checks b_x b_col b_table b_sorted b_order q f (nI i) := by
  have hx1 : ∀ j, j < n → b_x j = nI (x j) := fun j hj => (hx j hj).1
  intro e
  induction e with
  | zero =>
    intro i q f he hq hf
    obtain ⟨q, rfl⟩ : ∃ r, q = r + 1 := ⟨q - 1, by omega⟩
    have ei : i = n := by omega
    subst ei
    refine br_t (nI_le (Nat.le_refl i) (by omega)) ?_
    rcases hf with ⟨rfl, h⟩ | ⟨rfl, h⟩
    · exact br_f (by decide) (K1 h)
    · exact br_t rfl (nm_r (nI_1 d) (K0 h))
  | succ e ih =>
    intro i q f he hq hf
    obtain ⟨q, rfl⟩ : ∃ r, q = r + 1 := ⟨q - 1, by omega⟩
    have l1 := ro_alt2 h0 (fun j hj => (hx j hj).2) (i + d)
    have l2 := ro_alt2 h0 (fun j hj => (hx j hj).2) i
    refine br_f (nI_ge (by omega) (by omega)) ?_
    rw [nI_add]
    refine yw_at h0 hn (by omega) hx1 (yw_at h0 hn (by omega) hx1 (pk_eq (ro_a n x (i + d)) (ro_a n x i) (fun z => nm_r (nI_1 i) (ih (i + 1) q f (by omega) (by omega) ?_)) (fun z => nm_r (nI_1 i) (ih (i + 1) q 0 (by omega) (by omega) (Or.inr ⟨rfl, fun y => z (y i (by omega))⟩)))))
    rcases hf with ⟨h1, h⟩ | h
    · refine Or.inl ⟨h1, fun m hm => ?_⟩
      by_cases y : m = i
      · subst y; exact z
      · exact h m (by omega)
    · exact Or.inr h
theorem yw_pe19 {post : Int32 → SY → Prop} {n p : Nat} {x : Nat → Nat} (h0 : 0 < n) (hn : n ≤ 48) (hp : ro_p n x p) (hpn : p ≤ n) (hx : ∀ j, j < n → b_x j = nI (x j) ∧ x j < 16) (K : post (nI p) (g_capacity, g_alphabet, g_slots, g_tables, g_inLen, g_outLen, nI n, b_input, b_output, b_holds, b_held, b_heldLen, b_checks, b_x, b_col, b_table, b_sorted, b_order)) :
    ∀ e d q, d + e = p → 1 ≤ d → e < q → wY_period_19 post g_capacity g_alphabet g_slots g_tables g_inLen g_outLen (nI n) b_input b_output b_holds b_held b_heldLen b_checks b_x b_col b_table b_sorted b_order q (nI d) := by
  have hE : ∀ d, (∀ m, m < n → ro_a n x (m + d) = ro_a n x m) ↔ ro_E n x n d 0 := by
    intro d
    constructor
    · intro h m hm
      have := h m hm
      show ro_a n x (d + m) = ro_a n x (0 + m)
      rw [Nat.add_comm d m, Nat.zero_add]; exact this
    · intro h m hm
      have : ro_a n x (d + m) = ro_a n x (0 + m) := h m hm
      rw [Nat.add_comm d m, Nat.zero_add] at this; exact this
  intro e
  induction e with
  | zero =>
    intro d q hd h1 hq
    obtain ⟨q, rfl⟩ : ∃ r, q = r + 1 := ⟨q - 1, by omega⟩
    have ed : d = p := by omega
    subst ed
    exact br_f (nI_nlt (by omega) (by omega)) ⟨n + 1, yw_pe33 h0 hn (by omega) hx (fun _ => K) (fun z => absurd ((hE d).mpr hp.2.1) z) n 0 _ 1 (by omega) (by omega) (Or.inl ⟨rfl, fun m hm => by omega⟩)⟩
  | succ e ih =>
    intro d q hd h1 hq
    obtain ⟨q, rfl⟩ : ∃ r, q = r + 1 := ⟨q - 1, by omega⟩
    exact br_f (nI_nlt (by omega) (by omega)) ⟨n + 1, yw_pe33 h0 hn (by omega) hx (fun z => absurd ((hE d).mp z) (hp.2.2 d (by omega) (by omega))) (fun _ => ih (d + 1) q (by omega) (by omega) (by omega)) n 0 _ 1 (by omega) (by omega) (Or.inl ⟨rfl, fun m hm => by omega⟩)⟩
theorem yw_fr96 {post : Int32 → SY → Prop} {r F : Nat} {c : Nat → Nat} (hr : r < 48) (hc : ∀ j, j ≤ r → b_col j = nI (c j) ∧ c j < 16) (K : post (nI (F + ca_c (fun w => ¬ mt_o c w 0 r) (c r))) (g_capacity, g_alphabet, g_slots, g_tables, g_inLen, g_outLen, g_n, b_input, b_output, b_holds, b_held, b_heldLen, b_checks, b_x, b_col, b_table, b_sorted, b_order)) :
    ∀ d v q, v + d = c r → d < q → wY_frontAt_96 post (nI r) g_capacity g_alphabet g_slots g_tables g_inLen g_outLen g_n b_input b_output b_holds b_held b_heldLen b_checks b_x b_col b_table b_sorted b_order q (nI (F + ca_c (fun w => ¬ mt_o c w 0 r) v)) (nI v) := by
  have hcr := hc r (Nat.le_refl r)
  intro d
  induction d with
  | zero =>
    intro v q hd hq
    obtain ⟨q, rfl⟩ : ∃ r, q = r + 1 := ⟨q - 1, by omega⟩
    have e : v = c r := by omega
    refine ⟨vp_in_nI (by omega) (by omega), ?_⟩
    rw [wk_c (i := r) (by omega), hcr.1]
    refine br_t (nI_le (by omega) (by omega)) ?_
    rw [e]; exact K
  | succ d ih =>
    intro v q hd hq
    obtain ⟨q, rfl⟩ : ∃ r, q = r + 1 := ⟨q - 1, by omega⟩
    have go := ih (v + 1) q (by omega) (by omega)
    refine ⟨vp_in_nI (by omega) (by omega), ?_⟩
    rw [wk_c (i := r) (by omega), hcr.1]
    refine br_f (nI_ge (by omega) (by omega)) (yw_occ (f := 0) (by omega) (by omega) (by omega) (fun j hj => ⟨(hc j (by omega)).1, by have := (hc j (by omega)).2; omega⟩) (fun z => ?_) (fun z => ?_))
    · rw [ca_cst (p := fun w => ¬ mt_o c w 0 r) z, ← Nat.add_assoc] at go
      exact br_t rfl (nm_r (nI_1 _) (nm_r (nI_1 v) go))
    · rw [ca_csf (p := fun w => ¬ mt_o c w 0 r) (fun y => y z)] at go
      exact br_f (by decide) (nm_r (nI_1 v) go)
theorem yw_fr42 {post : Int32 → SY → Prop} {r A : Nat} {c : Nat → Nat} (hr : r < 48) (hA : A ≤ 16) (hc : ∀ j, j ≤ r → b_col j = nI (c j) ∧ c j < A) (K : post (nI (ca_r A (mt_B c r) (c r))) (g_capacity, g_alphabet, g_slots, g_tables, g_inLen, g_outLen, g_n, b_input, b_output, b_holds, b_held, b_heldLen, b_checks, b_x, b_col, b_table, b_sorted, b_order)) :
    ∀ d j q x4, j + d = r → d < q → x4 = nI (mt_t c j (c r)) - 1 → wY_frontAt_42 post (nI r) g_capacity g_alphabet g_slots g_tables g_inLen g_outLen g_n b_input b_output b_holds b_held b_heldLen b_checks b_x b_col b_table b_sorted b_order q x4 (nI j) := by
  have hcr := hc r (Nat.le_refl r)
  have hc31 : ∀ j, j < r → b_col j = nI (c j) ∧ c j < 2 ^ 31 := fun j hj => ⟨(hc j (by omega)).1, by have := (hc j (by omega)).2; omega⟩
  intro d
  induction d with
  | zero =>
    intro j q x4 hd hq hx
    obtain ⟨q, rfl⟩ : ∃ r, q = r + 1 := ⟨q - 1, by omega⟩
    have e : j = r := by omega
    subst e
    have ht := mt_tle c (c j) j
    have e1 : x4 + 1 = nI (mt_t c j (c j)) := by rw [hx]; grind
    refine br_t (nI_le (Nat.le_refl j) (by omega)) ?_
    rw [e1]
    refine yw_dif (c := c) (by omega) ht hc31 ?_
    rw [mt_diff (A := A) (fun k hk => (hc k (by omega)).2)]
    rcases Nat.eq_zero_or_pos (mt_t c j (c j)) with z | z
    · rw [z] at hx
      subst hx
      refine br_t wk_neg ⟨c j + 1, ?_⟩
      rw [mt_front0 hcr.2 z] at K
      rw [z]
      exact yw_fr96 (F := ca_c (fun w => mt_o c w 0 j) A) hr (fun k hk => ⟨(hc k hk).1, by have := (hc k hk).2; omega⟩) K (c j) 0 _ (by omega) (by omega)
    · have e2 : x4 = nI (mt_t c j (c j) - 1) := by rw [hx]; exact pk_sub (b := 1) z
      rw [mt_front1 z] at K
      rw [e2]
      exact br_f (nI_pos (by omega)) K
  | succ d ih =>
    intro j q x4 hd hq hx
    obtain ⟨q, rfl⟩ : ∃ r, q = r + 1 := ⟨q - 1, by omega⟩
    have hcj := hc j (by omega)
    refine br_f (nI_ge (by omega) (by omega)) ?_
    rw [wk_c (i := j) (by omega), wk_c (i := r) (by omega), hcj.1, hcr.1]
    refine ⟨vp_in_nI (by omega) (by omega), vp_in_nI (by omega) (by omega), pk_eq (c j) (c r) (fun z => nm_r (nI_1 j) (ih (j + 1) q _ (by omega) (by omega) ?_)) (fun z => nm_r (nI_1 j) (ih (j + 1) q _ (by omega) (by omega) ?_))⟩
    · rw [mt_tt z, nI_pred]
    · rw [mt_tf z]; exact hx
end
theorem i_vc_rowOf {k : Nat} {u : SX} {v : SY} (I : i_Rel k u v) (hk : k + 3 ≤ 1540) (v1 : Int32) (v2 : Int32) : wpX_rowOf (fun r u' => wpY_rowOf (fun r' v' => r' = r ∧ i_Rel (k + 3) u' v') v v1 v2) u v1 v2 := by
  refine rl_el (P := fun u v => wpX_rowOf (fun r u' => wpY_rowOf (fun r' v' => r' = r ∧ i_Rel (k + 3) u' v') v v1 v2) u v1 v2) ?_ I
  intro C A S T n m xi xo f_blockLength f_columnIndex f_symbolCount f_groupCount f_tableCount f_bitBase f_bitPlace g_n a_input a_output a_held a_checks a_packed a_block a_column a_ranks a_otherRanks a_links a_starts a_order a_shifted a_classes a_nextClasses a_buckets a_list a_symbols a_selectors a_lengths a_codes a_lengthCounts a_sorted a_weights a_parents a_depths b_input b_output b_held b_heldLen b_x b_col b_table b_sorted b_order G
  obtain ⟨g1, g2, g3, g4, g5, g6, g7, g8, g9, g10, g11⟩ := id G
  unfold wpX_rowOf
  rcases rl_range (v1 := v1) g3.2 with h | ⟨h, h'⟩ | ⟨s, hs, rfl⟩
  · refine br_t h (br_f (by decide) ?_)
    unfold wpY_rowOf
    exact br_t h (br_f (by decide) ⟨rfl, rl_in G⟩)
  · refine br_f h (br_f h' (br_f (by decide) ?_))
    unfold wpY_rowOf
    exact br_f h (br_f h' (br_f (by decide) ⟨rfl, rl_in G⟩))
  by_cases hh : a_held s = 0
  · refine xw_st0 g3.2 hs hh (br_f (by decide) ?_)
    unfold wpY_rowOf
    exact yw_st0 g3.2 hs hh (br_f (by decide) ⟨rfl, rl_in G⟩)
  obtain ⟨n0, x0, q1, q2, q3, B, q4, q5⟩ := g11 s (by omega) hh
  refine xw_st g3.2 hs hh (br_t rfl ?_)
  refine xw_column (by omega) q4 g2.2 (by omega) q5 (fun bb bp sc gc tc l' le' co' lc' so' sy' se' rk' cl' hc => ?_)
  have hy : ∀ j, j < n0 → wk_ov n0 (fun i => b_held (s * 48 + i)) b_x j = nI (x0 j) ∧ x0 j < 16 := fun i hi => ⟨by rw [wk_ovl hi]; exact (q3 i hi).1, by have := (q3 i hi).2; omega⟩
  by_cases h0 : v2 < 0
  · refine br_t h0 ?_
    unfold wpY_rowOf
    exact yw_st g3.2 hs hh (br_t rfl (yw_slot (by omega) (by omega) q2 (br_t h0 ⟨rfl, rl_in G⟩)))
  by_cases h1 : v2 < nI n0
  · obtain ⟨i, hi, rfl⟩ := nI_of h0
    have h2 := h1
    rw [nI_ltI hi (by omega)] at h2
    obtain ⟨p, hp, hpn⟩ := ro_pex x0 (show 0 < n0 by omega)
    refine br_f h0 (br_t h1 (xw_links (c := ro_col n0 x0) (by omega) (fun r hr => ⟨hc r hr, by have := ro_collt (fun i hi => (q3 i hi).2) hr; omega⟩) (fun li' st' hl => ⟨n0 - i + 1, ?_⟩)))
    refine xw_ro48 (by omega) h2 hp hpn hl ?_ (n0 - i) 0 _ (by omega) (by omega)
    unfold wpY_rowOf
    exact yw_st g3.2 hs hh (br_t rfl (yw_slot (by omega) (by omega) q2 (br_f h0 (br_t h1 (yw_row (x := x0) (by omega) (by omega) hy ⟨rfl, rl_in G⟩)))))
  · refine br_f h0 (br_f h1 ?_)
    unfold wpY_rowOf
    exact yw_st g3.2 hs hh (br_t rfl (yw_slot (by omega) (by omega) q2 (br_f h0 (br_f h1 ⟨rfl, rl_in G⟩))))
theorem i_vc_period {k : Nat} {u : SX} {v : SY} (I : i_Rel k u v) (hk : k + 3 ≤ 1540) (v1 : Int32) : wpX_period (fun r u' => wpY_period (fun r' v' => r' = r ∧ i_Rel (k + 3) u' v') v v1) u v1 := by
  refine rl_el (P := fun u v => wpX_period (fun r u' => wpY_period (fun r' v' => r' = r ∧ i_Rel (k + 3) u' v') v v1) u v1) ?_ I
  intro C A S T n m xi xo f_blockLength f_columnIndex f_symbolCount f_groupCount f_tableCount f_bitBase f_bitPlace g_n a_input a_output a_held a_checks a_packed a_block a_column a_ranks a_otherRanks a_links a_starts a_order a_shifted a_classes a_nextClasses a_buckets a_list a_symbols a_selectors a_lengths a_codes a_lengthCounts a_sorted a_weights a_parents a_depths b_input b_output b_held b_heldLen b_x b_col b_table b_sorted b_order G
  obtain ⟨g1, g2, g3, g4, g5, g6, g7, g8, g9, g10, g11⟩ := id G
  unfold wpX_period
  rcases rl_range (v1 := v1) g3.2 with h | ⟨h, h'⟩ | ⟨s, hs, rfl⟩
  · refine br_t h (br_f (by decide) ?_)
    unfold wpY_period
    exact br_t h (br_f (by decide) ⟨rfl, rl_in G⟩)
  · refine br_f h (br_f h' (br_f (by decide) ?_))
    unfold wpY_period
    exact br_f h (br_f h' (br_f (by decide) ⟨rfl, rl_in G⟩))
  by_cases hh : a_held s = 0
  · refine xw_st0 g3.2 hs hh (br_f (by decide) ?_)
    unfold wpY_period
    exact yw_st0 g3.2 hs hh (br_f (by decide) ⟨rfl, rl_in G⟩)
  obtain ⟨n0, x0, q1, q2, q3, B, q4, q5⟩ := g11 s (by omega) hh
  refine xw_st g3.2 hs hh (br_t rfl ?_)
  refine xw_column (by omega) q4 g2.2 (by omega) q5 (fun bb bp sc gc tc l' le' co' lc' so' sy' se' rk' cl' hc => ?_)
  have hy : ∀ j, j < n0 → wk_ov n0 (fun i => b_held (s * 48 + i)) b_x j = nI (x0 j) ∧ x0 j < 16 := fun i hi => ⟨by rw [wk_ovl hi]; exact (q3 i hi).1, by have := (q3 i hi).2; omega⟩
  refine xw_links (c := ro_col n0 x0) (by omega) (fun r hr => ⟨hc r hr, by have := ro_collt (fun i hi => (q3 i hi).2) hr; omega⟩) (fun li' st' hl => ?_)
  rcases Nat.eq_zero_or_pos n0 with z | z
  · subst z
    refine xw_cyc0 ?_
    unfold wpY_period
    exact yw_st g3.2 hs hh (br_t rfl (yw_slot (n := 0) (by omega) (by omega) q2 ⟨1, br_t (nI_lt (a := 0) (b := 1) (by omega) (by omega)) ⟨rfl, rl_in G⟩⟩))
  · obtain ⟨p, hp, hpn⟩ := ro_pex x0 z
    refine xw_cyc (p := p) (by omega) (ro_wlt z) hl hpn hp.1 (fun s h1 h2 => ro_cyc z hp (ro_colC n0 x0) h1 h2) ?_
    unfold wpY_period
    exact yw_st g3.2 hs hh (br_t rfl (yw_slot (by omega) (by omega) q2 ⟨p, yw_pe19 z (by omega) hp hpn hy ⟨rfl, rl_in G⟩ (p - 1) 1 _ (by have := hp.1; omega) (by omega) (by have := hp.1; omega)⟩))
theorem i_vc_frontAt {k : Nat} {u : SX} {v : SY} (I : i_Rel k u v) (hk : k + 3 ≤ 1540) (v1 : Int32) (v2 : Int32) : wpX_frontAt (fun r u' => wpY_frontAt (fun r' v' => r' = r ∧ i_Rel (k + 3) u' v') v v1 v2) u v1 v2 := by
  refine rl_el (P := fun u v => wpX_frontAt (fun r u' => wpY_frontAt (fun r' v' => r' = r ∧ i_Rel (k + 3) u' v') v v1 v2) u v1 v2) ?_ I
  intro C A S T n m xi xo f_blockLength f_columnIndex f_symbolCount f_groupCount f_tableCount f_bitBase f_bitPlace g_n a_input a_output a_held a_checks a_packed a_block a_column a_ranks a_otherRanks a_links a_starts a_order a_shifted a_classes a_nextClasses a_buckets a_list a_symbols a_selectors a_lengths a_codes a_lengthCounts a_sorted a_weights a_parents a_depths b_input b_output b_held b_heldLen b_x b_col b_table b_sorted b_order G
  obtain ⟨g1, g2, g3, g4, g5, g6, g7, g8, g9, g10, g11⟩ := id G
  unfold wpX_frontAt
  rcases rl_range (v1 := v1) g3.2 with h | ⟨h, h'⟩ | ⟨s, hs, rfl⟩
  · refine br_t h (br_f (by decide) ?_)
    unfold wpY_frontAt
    exact br_t h (br_f (by decide) ⟨rfl, rl_in G⟩)
  · refine br_f h (br_f h' (br_f (by decide) ?_))
    unfold wpY_frontAt
    exact br_f h (br_f h' (br_f (by decide) ⟨rfl, rl_in G⟩))
  by_cases hh : a_held s = 0
  · refine xw_st0 g3.2 hs hh (br_f (by decide) ?_)
    unfold wpY_frontAt
    exact yw_st0 g3.2 hs hh (br_f (by decide) ⟨rfl, rl_in G⟩)
  obtain ⟨n0, x0, q1, q2, q3, B, q4, q5⟩ := g11 s (by omega) hh
  refine xw_st g3.2 hs hh (br_t rfl ?_)
  refine xw_ranks (by omega) q4 g2.2 (by omega) q5 (fun bb bp sc gc tc l' le' co' lc' so' sy' se' rk' rk hM hr => ?_)
  have hy : ∀ j, j < n0 → wk_ov n0 (fun i => b_held (s * 48 + i)) b_x j = nI (x0 j) ∧ x0 j < 16 := fun i hi => ⟨by rw [wk_ovl hi]; exact (q3 i hi).1, by have := (q3 i hi).2; omega⟩
  by_cases h0 : v2 < 0
  · refine br_t h0 ?_
    unfold wpY_frontAt
    exact yw_st g3.2 hs hh (br_t rfl (yw_slot (by omega) (by omega) q2 (br_t h0 ⟨rfl, rl_in G⟩)))
  by_cases h1 : v2 < nI n0
  · obtain ⟨i, hi, rfl⟩ := nI_of h0
    have h2 := h1
    rw [nI_ltI hi (by omega)] at h2
    refine br_f h0 (br_t h1 ⟨vp_in_nI (by omega) (by omega), ?_⟩)
    rw [wk_c hi, hr i h2, mt_rank hM h2]
    unfold wpY_frontAt
    refine yw_st g3.2 hs hh (br_t rfl (yw_slot (by omega) (by omega) q2 (br_f h0 (br_t h1 (yw_col (x := x0) (by omega) hy (fun c' hc' => ⟨i + 1, ?_⟩))))))
    exact yw_fr42 (A := A) (c := ro_col n0 x0) (by omega) g2.2 (fun j hj => ⟨hc' j (by omega), ro_collt (fun i hi => (q3 i hi).2) (by omega)⟩) ⟨rfl, rl_in G⟩ i 0 _ _ (by omega) (by omega) (show (-1 : Int32) = nI 0 - 1 by decide)
  · refine br_f h0 (br_f h1 ?_)
    unfold wpY_frontAt
    exact yw_st g3.2 hs hh (br_t rfl (yw_slot (by omega) (by omega) q2 (br_f h0 (br_f h1 ⟨rfl, rl_in G⟩))))
end
section
/-! sameCycle, occurrences -/
section
variable {f_capacity f_alphabet f_slots f_tables f_codeCount f_inputSize f_outputSize f_blockLength f_columnIndex f_symbolCount f_groupCount f_tableCount f_bitBase f_bitPlace : Int32} {a_input a_output a_held a_checks a_packed a_block a_column a_ranks a_otherRanks a_links a_starts a_order a_shifted a_classes a_nextClasses a_buckets a_list a_symbols a_selectors a_lengths a_codes a_lengthCounts a_sorted a_weights a_parents a_depths : Nat → Int32}
variable {g_capacity g_alphabet g_slots g_tables g_inLen g_outLen g_n : Int32} {b_input b_output b_holds b_held b_heldLen b_checks b_x b_col b_table b_sorted b_order : Nat → Int32}
theorem xw_sc105 {post : Int32 → SX → Prop} {n : Nat} {r1 r2 : Nat → Nat} (hn : n ≤ 48) (h1 : ∀ i, i < n → a_otherRanks i = nI (r1 i) ∧ r1 i < 16) (h2 : ∀ i, i < n → a_ranks i = nI (r2 i) ∧ r2 i < 16)
    (K1 : (∀ i, i < n → r1 i = r2 i) → post 1 (f_capacity, f_alphabet, f_slots, f_tables, f_codeCount, f_inputSize, f_outputSize, f_blockLength, f_columnIndex, f_symbolCount, f_groupCount, f_tableCount, f_bitBase, f_bitPlace, a_input, a_output, a_held, a_checks, a_packed, a_block, a_column, a_ranks, a_otherRanks, a_links, a_starts, a_order, a_shifted, a_classes, a_nextClasses, a_buckets, a_list, a_symbols, a_selectors, a_lengths, a_codes, a_lengthCounts, a_sorted, a_weights, a_parents, a_depths)) (K0 : (¬ ∀ i, i < n → r1 i = r2 i) → post 0 (f_capacity, f_alphabet, f_slots, f_tables, f_codeCount, f_inputSize, f_outputSize, f_blockLength, f_columnIndex, f_symbolCount, f_groupCount, f_tableCount, f_bitBase, f_bitPlace, a_input, a_output, a_held, a_checks, a_packed, a_block, a_column, a_ranks, a_otherRanks, a_links, a_starts, a_order, a_shifted, a_classes, a_nextClasses, a_buckets, a_list, a_symbols, a_selectors, a_lengths, a_codes, a_lengthCounts, a_sorted, a_weights, a_parents, a_depths)) :
    ∀ d i q, i + d = n → d < q → (∀ m, m < i → r1 m = r2 m) → wX_sameCycle_105 post (nI n) f_capacity f_alphabet f_slots f_tables f_codeCount f_inputSize f_outputSize f_blockLength f_columnIndex f_symbolCount f_groupCount f_tableCount f_bitBase f_bitPlace a_input a_output a_held a_checks a_packed a_block a_column a_ranks a_otherRanks a_links a_starts a_order a_shifted a_classes a_nextClasses a_buckets a_list a_symbols a_selectors a_lengths a_codes a_lengthCounts a_sorted a_weights a_parents a_depths q (nI i) := by
  intro d
  induction d with
  | zero =>
    intro i q hd hq h
    obtain ⟨q, rfl⟩ : ∃ r, q = r + 1 := ⟨q - 1, by omega⟩
    have e : i = n := by omega
    subst e
    exact br_t (nI_le (Nat.le_refl i) (by omega)) (K1 h)
  | succ d ih =>
    intro i q hd hq h
    obtain ⟨q, rfl⟩ : ∃ r, q = r + 1 := ⟨q - 1, by omega⟩
    have a := h1 i (by omega)
    have b := h2 i (by omega)
    refine br_f (nI_ge (by omega) (by omega)) ?_
    rw [wk_c (i := i) (by omega), a.1, b.1]
    refine ⟨vp_in_nI (by omega) (by omega), vp_in_nI (by omega) (by omega), pk_eq (r1 i) (r2 i) (fun z => nm_r (nI_1 i) (ih (i + 1) q (by omega) (by omega) (fun m hm => ?_))) (fun z => K0 (fun y => z (y i (by omega))))⟩
    by_cases y : m = i
    · subst y; exact z
    · exact h m (by omega)
theorem yw_sc87 {post : Int32 → SY → Prop} {J : Int32 → Prop} {n s t : Nat} {x y : Nat → Nat} (h0 : 0 < n) (hn : n ≤ 48) (ht : t < 4) (hs : s ≤ 48) (hx : ∀ j, j < n → b_x j = nI (x j) ∧ x j < 16) (hy : ∀ j, j < n → b_held (t * 48 + j) = nI (y j) ∧ y j < 16)
    (K1 : (∀ m, m < n → y m = ro_a n x (m + s)) → post 1 (g_capacity, g_alphabet, g_slots, g_tables, g_inLen, g_outLen, nI n, b_input, b_output, b_holds, b_held, b_heldLen, b_checks, b_x, b_col, b_table, b_sorted, b_order)) (K0 : (¬ ∀ m, m < n → y m = ro_a n x (m + s)) → J (nI (s + 1))) :
    ∀ e i q f, i + e = n → e < q → ((f = 1 ∧ ∀ m, m < i → y m = ro_a n x (m + s)) ∨ (f = 0 ∧ ¬ ∀ m, m < n → y m = ro_a n x (m + s))) → wY_sameCycle_87 post J (nI t) (nI s) g_capacity g_alphabet g_slots g_tables g_inLen g_outLen (nI n) b_input b_output b_holds b_held b_heldLen b_checks b_x b_col b_table b_sorted b_order q f (nI i) := by
  have hx1 : ∀ j, j < n → b_x j = nI (x j) := fun j hj => (hx j hj).1
  intro e
  induction e with
  | zero =>
    intro i q f he hq hf
    obtain ⟨q, rfl⟩ : ∃ r, q = r + 1 := ⟨q - 1, by omega⟩
    have ei : i = n := by omega
    subst ei
    refine br_t (nI_le (Nat.le_refl i) (by omega)) ?_
    rcases hf with ⟨rfl, h⟩ | ⟨rfl, h⟩
    · exact br_f (by decide) (K1 h)
    · exact br_t rfl (nm_r (nI_1 s) (K0 h))
  | succ e ih =>
    intro i q f he hq hf
    obtain ⟨q, rfl⟩ : ∃ r, q = r + 1 := ⟨q - 1, by omega⟩
    have l1 := ro_alt2 h0 (fun j hj => (hx j hj).2) (i + s)
    have l2 := hy i (by omega)
    refine br_f (nI_ge (by omega) (by omega)) ?_
    rw [wk_t48, nI_add, wk_c (i := t * 48 + i) (by omega), l2.1]
    refine ⟨vp_in_nI (by omega) (by omega), yw_at h0 hn (by omega) hx1 (pk_eq (y i) (ro_a n x (i + s)) (fun z => nm_r (nI_1 i) (ih (i + 1) q f (by omega) (by omega) ?_)) (fun z => nm_r (nI_1 i) (ih (i + 1) q 0 (by omega) (by omega) (Or.inr ⟨rfl, fun y => z (y i (by omega))⟩))))⟩
    rcases hf with ⟨h1, h⟩ | h
    · refine Or.inl ⟨h1, fun m hm => ?_⟩
      by_cases y : m = i
      · subst y; exact z
      · exact h m (by omega)
    · exact Or.inr h
theorem yw_sc73 {post : Int32 → SY → Prop} {n t : Nat} {x y : Nat → Nat} (h0 : 0 < n) (hn : n ≤ 48) (ht : t < 4) (hx : ∀ j, j < n → b_x j = nI (x j) ∧ x j < 16) (hy : ∀ j, j < n → b_held (t * 48 + j) = nI (y j) ∧ y j < 16)
    (K1 : (∃ s, s < n ∧ ∀ m, m < n → y m = ro_a n x (m + s)) → post 1 (g_capacity, g_alphabet, g_slots, g_tables, g_inLen, g_outLen, nI n, b_input, b_output, b_holds, b_held, b_heldLen, b_checks, b_x, b_col, b_table, b_sorted, b_order)) (K0 : (¬ ∃ s, s < n ∧ ∀ m, m < n → y m = ro_a n x (m + s)) → post 0 (g_capacity, g_alphabet, g_slots, g_tables, g_inLen, g_outLen, nI n, b_input, b_output, b_holds, b_held, b_heldLen, b_checks, b_x, b_col, b_table, b_sorted, b_order)) :
    ∀ e s q, s + e = n → e < q → (∀ u, u < s → ¬ ∀ m, m < n → y m = ro_a n x (m + u)) → wY_sameCycle_73 post (nI t) g_capacity g_alphabet g_slots g_tables g_inLen g_outLen (nI n) b_input b_output b_holds b_held b_heldLen b_checks b_x b_col b_table b_sorted b_order q (nI s) := by
  intro e
  induction e with
  | zero =>
    intro s q he hq h
    obtain ⟨q, rfl⟩ : ∃ r, q = r + 1 := ⟨q - 1, by omega⟩
    have ei : s = n := by omega
    subst ei
    exact br_t (nI_le (Nat.le_refl s) (by omega)) (K0 (fun ⟨u, h1, h2⟩ => h u h1 h2))
  | succ e ih =>
    intro s q he hq h
    obtain ⟨q, rfl⟩ : ∃ r, q = r + 1 := ⟨q - 1, by omega⟩
    refine br_f (nI_ge (by omega) (by omega)) ⟨n + 1, yw_sc87 h0 hn ht (by omega) hx hy (fun z => K1 ⟨s, by omega, z⟩) (fun z => ih (s + 1) q (by omega) (by omega) (fun u hu => ?_)) n 0 _ 1 (by omega) (by omega) (Or.inl ⟨rfl, fun m hm => by omega⟩)⟩
    by_cases y : u = s
    · subst y; exact z
    · exact h u (by omega)
end
theorem i_vc_sameCycle {k : Nat} {u : SX} {v : SY} (I : i_Rel k u v) (hk : k + 3 ≤ 1540) (v1 : Int32) (v2 : Int32) : wpX_sameCycle (fun r u' => wpY_sameCycle (fun r' v' => r' = r ∧ i_Rel (k + 3) u' v') v v1 v2) u v1 v2 := by
  refine rl_el (P := fun u v => wpX_sameCycle (fun r u' => wpY_sameCycle (fun r' v' => r' = r ∧ i_Rel (k + 3) u' v') v v1 v2) u v1 v2) ?_ I
  intro C A S T n m xi xo f_blockLength f_columnIndex f_symbolCount f_groupCount f_tableCount f_bitBase f_bitPlace g_n a_input a_output a_held a_checks a_packed a_block a_column a_ranks a_otherRanks a_links a_starts a_order a_shifted a_classes a_nextClasses a_buckets a_list a_symbols a_selectors a_lengths a_codes a_lengthCounts a_sorted a_weights a_parents a_depths b_input b_output b_held b_heldLen b_x b_col b_table b_sorted b_order G
  obtain ⟨g1, g2, g3, g4, g5, g6, g7, g8, g9, g10, g11⟩ := id G
  rcases rl_range (v1 := v1) g3.2 with h | ⟨h, h'⟩ | ⟨s, hs, rfl⟩
  · refine br_t h ?_
    unfold wpY_sameCycle
    exact br_t h (br_f (by decide) ⟨rfl, rl_in G⟩)
  · refine br_f h (br_t (Int32.not_lt.mp h') ?_)
    unfold wpY_sameCycle
    exact br_f h (br_f h' (br_f (by decide) ⟨rfl, rl_in G⟩))
  have a1 : ¬ nI s < 0 := nI_pos (by omega)
  have a2 : nI s < nI S := nI_lt hs (by omega)
  have a3 : ¬ nI S ≤ nI s := nI_ge hs (by omega)
  rcases rl_range (v1 := v2) g3.2 with h | ⟨h, h'⟩ | ⟨t, ht, rfl⟩
  · refine br_f a1 (br_f a3 (br_t h ?_))
    unfold wpY_sameCycle
    exact br_f a1 (br_t a2 (br_t rfl (br_t h (br_f (by decide) ⟨rfl, rl_in G⟩))))
  · refine br_f a1 (br_f a3 (br_f h (br_f h' ?_)))
    unfold wpY_sameCycle
    exact br_f a1 (br_t a2 (br_t rfl (br_f h (br_f h' (br_f (by decide) ⟨rfl, rl_in G⟩)))))
  have b1 : ¬ nI t < 0 := nI_pos (by omega)
  have b2 : nI t < nI S := nI_lt ht (by omega)
  refine br_f a1 (br_f a3 (br_f b1 (br_t b2 ⟨vp_in_nI (by omega) (by omega), ?_⟩)))
  rw [wk_c (i := s) (by omega), wk_c (i := t) (by omega)]
  by_cases hh : a_held s = 0
  · refine br_t hh ?_
    unfold wpY_sameCycle
    refine br_f a1 (br_t a2 (br_t rfl (br_f b1 (br_t b2 (br_t rfl ⟨vp_in_nI (by omega) (by omega), ?_⟩)))))
    rw [wk_c (i := s) (by omega)]
    exact br_t hh ⟨rfl, rl_in G⟩
  by_cases hh2 : a_held t = 0
  · refine br_f hh ⟨vp_in_nI (by omega) (by omega), br_t hh2 ?_⟩
    unfold wpY_sameCycle
    refine br_f a1 (br_t a2 (br_t rfl (br_f b1 (br_t b2 (br_t rfl ⟨vp_in_nI (by omega) (by omega), ?_⟩)))))
    rw [wk_c (i := s) (by omega), wk_c (i := t) (by omega)]
    exact br_f hh ⟨vp_in_nI (by omega) (by omega), br_t hh2 ⟨rfl, rl_in G⟩⟩
  obtain ⟨n1, x1, q1, q2, q3, B, q4, q5⟩ := g11 s (by omega) hh
  obtain ⟨n2, x2, p1, p2, p3, D, p4, p5⟩ := g11 t (by omega) hh2
  refine br_f hh ⟨vp_in_nI (by omega) (by omega), br_f hh2 ?_⟩
  refine xw_ranks (by omega) q4 g2.2 (by omega) q5 (fun bb bp sc gc tc l' le' co' lc' so' sy' se' rk' r1 hM1 hr1 => ?_)
  refine wk_cp (fun k i b => wX_sameCycle_61 _ (nI t) (nI n1) (nI C) (nI A) (nI S) (nI T) (nI (A + 1)) (nI n) (nI m) (nI n1) (nI (ro_w n1 x1 0)) sc gc tc bb bp k (nI i) a_input a_output a_held a_checks a_packed a_block a_column rk' b a_links a_starts a_order a_shifted a_classes a_nextClasses a_buckets l' sy' se' le' co' lc' so' a_weights a_parents a_depths) rk' a_otherRanks n1 ?_ ?_
  · intro q
    refine br_t (nI_le (Nat.le_refl n1) (by omega)) (xw_ranks (by omega) p4 g2.2 (by omega) p5 (fun bb bp sc gc tc l2 le2 co2 lc2 so2 sy2 se2 rk2 r2 hM2 hr2 => ?_))
    refine pk_eq n2 n1 (fun z => ?_) (fun z => ?_)
    · subst z
      -- equal lengths: the ranks agree if and only if one block is a rotation of the other
      have hx : ∀ i, i < n2 → x1 i < A := fun i hi => (q3 i hi).2
      have hz : ∀ i, i < n2 → x2 i < A := fun i hi => (p3 i hi).2
      have key : 0 < n2 → ((∀ i, i < n2 → r1 i = r2 i) ↔ ∃ s, s < n2 ∧ ∀ m, m < n2 → x2 m = ro_a n2 x1 (m + s)) := by
        intro h0
        constructor
        · intro e
          exact ro_same2 h0 (ro_colC n2 x1) (ro_colC n2 x2) (mt_uniqc hM1 hM2 e)
        · rintro ⟨s, _, e⟩
          exact mt_uniq hM1 hM2 (ro_same1 e (ro_colC n2 x1) (ro_colC n2 x2))
      have hy : ∀ j, j < n2 → wk_ov n2 (fun i => b_held (s * 48 + i)) b_x j = nI (x1 j) ∧ x1 j < 16 := fun i hi => ⟨by rw [wk_ovl hi]; exact (q3 i hi).1, by have := (q3 i hi).2; omega⟩
      have goY : ∀ (r : Int32) (u' : SX), (∀ b_x' : Nat → Int32, ∀ g_n' : Int32, i_Rel (k + 3) u' (nI C, nI A, nI S, nI T, nI n, nI m, g_n', b_input, b_output, a_held, b_held, b_heldLen, a_checks, b_x', b_col, b_table, b_sorted, b_order)) → ((∀ i, i < n2 → r1 i = r2 i) → r = 1) → ((¬ ∀ i, i < n2 → r1 i = r2 i) → r = 0) →
          wpY_sameCycle (fun r' v' => r' = r ∧ i_Rel (k + 3) u' v') (nI C, nI A, nI S, nI T, nI n, nI m, g_n, b_input, b_output, a_held, b_held, b_heldLen, a_checks, b_x, b_col, b_table, b_sorted, b_order) (nI s) (nI t) := by
        intro r u' hu e1 e0
        unfold wpY_sameCycle
        refine br_f a1 (br_t a2 (br_t rfl (br_f b1 (br_t b2 (br_t rfl ⟨vp_in_nI (by omega) (by omega), ?_⟩)))))
        rw [wk_c (i := s) (by omega), wk_c (i := t) (by omega)]
        refine br_f hh ⟨vp_in_nI (by omega) (by omega), br_f hh2 ⟨vp_in_nI (by omega) (by omega), vp_in_nI (by omega) (by omega), br_t (by rw [q2, p2]) (yw_slot (by omega) (by omega) q2 ?_)⟩⟩
        rcases Nat.eq_zero_or_pos n2 with h0 | h0
        · subst h0
          exact br_t rfl ⟨(e1 (fun i hi => by omega)).symm, hu _ _⟩
        · refine br_f (nI_ne0 h0 (by omega)) ⟨n2 + 1, yw_sc73 h0 (by omega) (by omega) hy (fun j hj => ⟨(p3 j hj).1, by have := (p3 j hj).2; omega⟩) (fun e => ⟨(e1 ((key h0).mpr e)).symm, hu _ _⟩) (fun e => ⟨(e0 (fun y => e ((key h0).mp y))).symm, hu _ _⟩) n2 0 _ (by omega) (by omega) (fun u hu => by omega)⟩
      refine ⟨n2 + 1, xw_sc105 (r1 := r1) (r2 := r2) (by omega) (fun i hi => ⟨by rw [wk_ovl hi]; exact hr1 i hi, by have := (hM1 i hi).1; omega⟩) (fun i hi => ⟨hr2 i hi, by have := (hM2 i hi).1; omega⟩) (fun e => ?_) (fun e => ?_) n2 0 _ (by omega) (by omega) (fun m hm => by omega)⟩
      · exact goY 1 _ (fun _ _ => rl_in G) (fun _ => rfl) (fun z => absurd e z)
      · exact goY 0 _ (fun _ _ => rl_in G) (fun z => absurd z e) (fun _ => rfl)
    · unfold wpY_sameCycle
      refine br_f a1 (br_t a2 (br_t rfl (br_f b1 (br_t b2 (br_t rfl ⟨vp_in_nI (by omega) (by omega), ?_⟩)))))
      rw [wk_c (i := s) (by omega), wk_c (i := t) (by omega)]
      refine br_f hh ⟨vp_in_nI (by omega) (by omega), br_f hh2 ⟨vp_in_nI (by omega) (by omega), vp_in_nI (by omega) (by omega), br_f ?_ ⟨rfl, rl_in G⟩⟩⟩
      rw [q2, p2, nI_eq (by omega) (by omega)]
      exact fun y => z y.symm
  · intro q i hi ih
    exact br_f (nI_ge hi (by omega)) ⟨vp_in_nI (by omega) (by omega), vp_in_nI (by omega) (by omega), nm_r (by rw [wk_c (by omega)]; exact wk_ovs i rk' a_otherRanks) (nm_r (nI_1 i) ih)⟩
end
section
/-! occurrences: the search backwards -/
section
variable {f_capacity f_alphabet f_slots f_tables f_codeCount f_inputSize f_outputSize f_blockLength f_columnIndex f_symbolCount f_groupCount f_tableCount f_bitBase f_bitPlace : Int32} {a_input a_output a_held a_checks a_packed a_block a_column a_ranks a_otherRanks a_links a_starts a_order a_shifted a_classes a_nextClasses a_buckets a_list a_symbols a_selectors a_lengths a_codes a_lengthCounts a_sorted a_weights a_parents a_depths : Nat → Int32}
variable {g_capacity g_alphabet g_slots g_tables g_inLen g_outLen g_n : Int32} {b_input b_output b_holds b_held b_heldLen b_checks b_x b_col b_table b_sorted b_order : Nat → Int32}
theorem xw_oc57 {post : Int32 → SX → Prop} {J : Int32 → Int32 → Int32 → Prop} {n m kk lo hi : Nat} {x P : Nat → Nat} (hn : n ≤ 48) (hm : m ≤ 48) (hk : kk < m) (hlo : lo ≤ hi) (hhi : hi ≤ n)
    (hc : ∀ r, r < n → a_column r = nI (ro_col n x r) ∧ ro_col n x r < 16) (hP : a_input kk = nI (P kk) ∧ P kk < 16) (hl : ∀ r, r < n → a_links r = nI (ro_k n (ro_col n x) r)) (hO : ro_O n x P m (kk + 1) lo hi)
    (K : ∀ lo' hi', lo' ≤ hi' → hi' ≤ n → ro_O n x P m kk lo' hi' → J (nI lo') (nI hi') (nI kk - 1)) :
    ∀ d r q x6 x7, r + d = hi → lo ≤ r → d < q → ((x6 = -1 ∧ ∀ s, lo ≤ s → s < r → ro_col n x s ≠ P kk) ∨
      (∃ f l, x6 = nI f ∧ x7 = nI l ∧ lo ≤ f ∧ f ≤ l ∧ l < r ∧ ro_col n x f = P kk ∧ ro_col n x l = P kk ∧ (∀ s, lo ≤ s → s < f → ro_col n x s ≠ P kk) ∧ (∀ s, l < s → s < r → ro_col n x s ≠ P kk))) →
    wX_occurrences_57 post J (nI lo) (nI hi) (nI kk) f_capacity f_alphabet f_slots f_tables f_codeCount f_inputSize f_outputSize f_blockLength f_columnIndex f_symbolCount f_groupCount f_tableCount f_bitBase f_bitPlace a_input a_output a_held a_checks a_packed a_block a_column a_ranks a_otherRanks a_links a_starts a_order a_shifted a_classes a_nextClasses a_buckets a_list a_symbols a_selectors a_lengths a_codes a_lengthCounts a_sorted a_weights a_parents a_depths q x6 x7 (nI r) := by
  intro d
  induction d with
  | zero =>
    intro r q x6 x7 hd hr hq hI
    obtain ⟨q, rfl⟩ : ∃ r, q = r + 1 := ⟨q - 1, by omega⟩
    have e : r = hi := by omega
    subst e
    refine br_t (nI_le (Nat.le_refl r) (by omega)) ?_
    rcases hI with ⟨h1, h2⟩ | ⟨f, l, h1, h2, h3, h4, h5, h6, h7, h8, h9⟩
    · subst h1
      refine br_f (by decide) (nm_r (wk_m1 kk) ?_)
      exact K lo lo (Nat.le_refl lo) (by omega) (ro_Ono (ro_colC n x) hk hO (fun s g1 g2 _ => h2 s g1 g2))
    · subst h1
      subst h2
      refine br_t (nI_pos' (by omega)) ⟨vp_in_nI (by omega) (by omega), ?_⟩
      rw [wk_c (i := f) (by omega), wk_c (i := l) (by omega), hl f (by omega), hl l (by omega)]
      refine nm_e ⟨vp_in_nI (by omega) (by omega), nm_r (nI_1 _) (nm_r (wk_m1 kk) ?_)⟩
      have k1 := (ro_kP n (ro_col n x)).1 l (by omega)
      have k2 : ro_k n (ro_col n x) f ≤ ro_k n (ro_col n x) l := by
        rcases Nat.lt_or_eq_of_le h4 with c | c
        · exact Nat.le_of_lt (ca_rmono (ca_XT n (ro_col n x)) (by omega) (by omega) (Or.inr ⟨h6.trans h7.symm, c⟩))
        · subst c; exact Nat.le_refl _
      exact K _ _ (by omega) (by omega) (ro_Ost (ro_colC n x) hk hO h3 h5 h4 (by omega) h6 h7 h8 (fun s g1 g2 _ => h9 s g1 g2))
  | succ d ih =>
    intro r q x6 x7 hd hr hq hI
    obtain ⟨q, rfl⟩ : ∃ r, q = r + 1 := ⟨q - 1, by omega⟩
    have hcr := hc r (by omega)
    refine br_f (nI_ge (by omega) (by omega)) ?_
    rw [wk_c (i := r) (by omega), wk_c (i := kk) (by omega), hcr.1, hP.1]
    refine ⟨vp_in_nI (by omega) (by omega), vp_in_nI (by omega) (by omega), pk_eq (ro_col n x r) (P kk) (fun z => ?_) (fun z => nm_r (nI_1 r) (ih (r + 1) q _ _ (by omega) (by omega) (by omega) ?_))⟩
    · rcases hI with ⟨h1, h2⟩ | ⟨f, l, h1, h2, h3, h4, h5, h6, h7, h8, h9⟩
      · subst h1
        exact br_f (by decide) (nm_r (nI_1 r) (ih (r + 1) q _ _ (by omega) (by omega) (by omega) (Or.inr ⟨r, r, rfl, rfl, hr, Nat.le_refl r, by omega, z, z, h2, fun s g1 g2 => by omega⟩)))
      · subst h1
        exact br_t (nI_pos' (by omega)) (nm_r (nI_1 r) (ih (r + 1) q _ _ (by omega) (by omega) (by omega) (Or.inr ⟨f, r, rfl, rfl, h3, by omega, by omega, h6, z, h8, fun s g1 g2 => by omega⟩)))
    · rcases hI with ⟨h1, h2⟩ | ⟨f, l, h1, h2, h3, h4, h5, h6, h7, h8, h9⟩
      · refine Or.inl ⟨h1, fun s g1 g2 => ?_⟩
        by_cases y : s = r
        · subst y; exact z
        · exact h2 s g1 (by omega)
      · refine Or.inr ⟨f, l, h1, h2, h3, h4, by omega, h6, h7, h8, fun s g1 g2 => ?_⟩
        by_cases y : s = r
        · subst y; exact z
        · exact h9 s g1 (by omega)
theorem xw_oc37 {post : Int32 → SX → Prop} {n m : Nat} {x P : Nat → Nat} (hn : n ≤ 48) (hm : m ≤ 48)
    (hc : ∀ r, r < n → a_column r = nI (ro_col n x r) ∧ ro_col n x r < 16) (hP : ∀ k, k < m → a_input k = nI (P k) ∧ P k < 16) (hl : ∀ r, r < n → a_links r = nI (ro_k n (ro_col n x) r))
    (K : post (nI (ca_c (fun i => ro_m n x P m 0 i) n)) (f_capacity, f_alphabet, f_slots, f_tables, f_codeCount, f_inputSize, f_outputSize, f_blockLength, f_columnIndex, f_symbolCount, f_groupCount, f_tableCount, f_bitBase, f_bitPlace, a_input, a_output, a_held, a_checks, a_packed, a_block, a_column, a_ranks, a_otherRanks, a_links, a_starts, a_order, a_shifted, a_classes, a_nextClasses, a_buckets, a_list, a_symbols, a_selectors, a_lengths, a_codes, a_lengthCounts, a_sorted, a_weights, a_parents, a_depths)) :
    ∀ k q x5 lo hi, k ≤ m → k < q → x5 = nI k - 1 → lo ≤ hi → hi ≤ n → ro_O n x P m k lo hi → wX_occurrences_37 post f_capacity f_alphabet f_slots f_tables f_codeCount f_inputSize f_outputSize f_blockLength f_columnIndex f_symbolCount f_groupCount f_tableCount f_bitBase f_bitPlace a_input a_output a_held a_checks a_packed a_block a_column a_ranks a_otherRanks a_links a_starts a_order a_shifted a_classes a_nextClasses a_buckets a_list a_symbols a_selectors a_lengths a_codes a_lengthCounts a_sorted a_weights a_parents a_depths q (nI lo) (nI hi) x5 := by
  intro k
  induction k with
  | zero =>
    intro q x5 lo hi hk hq hx h1 h2 hO
    obtain ⟨q, rfl⟩ : ∃ r, q = r + 1 := ⟨q - 1, by omega⟩
    subst hx
    refine br_t wk_neg ?_
    rw [pk_sub h1, ← ro_Ocount hO h1 h2]
    exact K
  | succ k ih =>
    intro q x5 lo hi hk hq hx h1 h2 hO
    obtain ⟨q, rfl⟩ : ∃ r, q = r + 1 := ⟨q - 1, by omega⟩
    rw [nI_pred] at hx
    subst hx
    refine br_f (nI_pos (by omega)) (pk_le hi lo (fun z => ?_) (fun z => ⟨hi - lo + 1, ?_⟩))
    · have e : hi = lo := by omega
      subst e
      rw [ro_Onone hO] at K
      rw [pk_sub (Nat.le_refl hi), Nat.sub_self]
      exact K
    · exact xw_oc57 hn hm (by omega) h1 h2 hc (hP k (by omega)) hl hO (fun lo' hi' e1 e2 e3 => ih q _ lo' hi' (by omega) (by omega) rfl e1 e2 e3) (hi - lo) lo _ _ _ (by omega) (by omega) (by omega) (Or.inl ⟨rfl, fun s g1 g2 => by omega⟩)
theorem yw_oc37 {post : Int32 → SY → Prop} {J : Int32 → Int32 → Prop} {n m i cn : Nat} {x P : Nat → Nat} (h0 : 0 < n) (hn : n ≤ 48) (hm : m ≤ 48) (hi : i < 1000) (hx : ∀ j, j < n → b_x j = nI (x j) ∧ x j < 16) (hP : ∀ k, k < m → b_input k = nI (P k) ∧ P k < 16)
    (K1 : ro_m n x P m 0 i → J (nI (cn + 1)) (nI (i + 1))) (K0 : ¬ ro_m n x P m 0 i → J (nI cn) (nI (i + 1))) :
    ∀ e k q f, k + e = m → e < q → ((f = 1 ∧ ∀ j, j < k → ro_a n x (i + j) = P j) ∨ (f = 0 ∧ ¬ ro_m n x P m 0 i)) → wY_occurrences_37 post J (nI cn) (nI i) g_capacity g_alphabet g_slots g_tables (nI m) g_outLen (nI n) b_input b_output b_holds b_held b_heldLen b_checks b_x b_col b_table b_sorted b_order q f (nI k) := by
  have hx1 : ∀ j, j < n → b_x j = nI (x j) := fun j hj => (hx j hj).1
  intro e
  induction e with
  | zero =>
    intro k q f he hq hf
    obtain ⟨q, rfl⟩ : ∃ r, q = r + 1 := ⟨q - 1, by omega⟩
    have ek : k = m := by omega
    subst ek
    refine br_t (nI_le (Nat.le_refl k) (by omega)) ?_
    rcases hf with ⟨rfl, h⟩ | ⟨rfl, h⟩
    · exact br_f (by decide) (nm_r (nI_1 cn) (nm_r (nI_1 i) (K1 (fun r _ g2 => h r g2))))
    · exact br_t rfl (nm_r (nI_1 i) (K0 h))
  | succ e ih =>
    intro k q f he hq hf
    obtain ⟨q, rfl⟩ : ∃ r, q = r + 1 := ⟨q - 1, by omega⟩
    have l1 := ro_alt2 h0 (fun j hj => (hx j hj).2) (i + k)
    have l2 := hP k (by omega)
    refine br_f (nI_ge (by omega) (by omega)) ?_
    rw [nI_add, wk_c (i := k) (by omega), l2.1]
    refine yw_at h0 hn (by omega) hx1 ⟨vp_in_nI (by omega) (by omega), pk_eq (ro_a n x (i + k)) (P k) (fun z => nm_r (nI_1 k) (ih (k + 1) q f (by omega) (by omega) ?_)) (fun z => nm_r (nI_1 k) (ih (k + 1) q 0 (by omega) (by omega) (Or.inr ⟨rfl, fun y => z (y k (by omega) (by omega))⟩)))⟩
    rcases hf with ⟨h1, h⟩ | h
    · refine Or.inl ⟨h1, fun j hj => ?_⟩
      by_cases y : j = k
      · subst y; exact z
      · exact h j (by omega)
    · exact Or.inr h
theorem yw_oc22 {post : Int32 → SY → Prop} {n m : Nat} {x P : Nat → Nat} (hn : n ≤ 48) (hm : m ≤ 48) (hx : ∀ j, j < n → b_x j = nI (x j) ∧ x j < 16) (hP : ∀ k, k < m → b_input k = nI (P k) ∧ P k < 16)
    (K : post (nI (ca_c (fun i => ro_m n x P m 0 i) n)) (g_capacity, g_alphabet, g_slots, g_tables, nI m, g_outLen, nI n, b_input, b_output, b_holds, b_held, b_heldLen, b_checks, b_x, b_col, b_table, b_sorted, b_order)) :
    ∀ e i q, i + e = n → e < q → wY_occurrences_22 post g_capacity g_alphabet g_slots g_tables (nI m) g_outLen (nI n) b_input b_output b_holds b_held b_heldLen b_checks b_x b_col b_table b_sorted b_order q (nI (ca_c (fun i => ro_m n x P m 0 i) i)) (nI i) := by
  intro e
  induction e with
  | zero =>
    intro i q he hq
    obtain ⟨q, rfl⟩ : ∃ r, q = r + 1 := ⟨q - 1, by omega⟩
    have ei : i = n := by omega
    subst ei
    exact br_t (nI_le (Nat.le_refl i) (by omega)) K
  | succ e ih =>
    intro i q he hq
    obtain ⟨q, rfl⟩ : ∃ r, q = r + 1 := ⟨q - 1, by omega⟩
    have go := ih (i + 1) q (by omega) (by omega)
    refine br_f (nI_ge (by omega) (by omega)) ⟨m + 1, yw_oc37 (by omega) hn hm (by omega) hx hP (fun z => ?_) (fun z => ?_) m 0 _ 1 (by omega) (by omega) (Or.inl ⟨rfl, fun j hj => by omega⟩)⟩
    · rw [ca_cst (p := fun i => ro_m n x P m 0 i) z] at go; exact go
    · rw [ca_csf (p := fun i => ro_m n x P m 0 i) z] at go; exact go
end
theorem i_vc_occurrences {k : Nat} {u : SX} {v : SY} (I : i_Rel k u v) (hk : k + 3 ≤ 1540) (v1 : Int32) : wpX_occurrences (fun r u' => wpY_occurrences (fun r' v' => r' = r ∧ i_Rel (k + 3) u' v') v v1) u v1 := by
  refine rl_el (P := fun u v => wpX_occurrences (fun r u' => wpY_occurrences (fun r' v' => r' = r ∧ i_Rel (k + 3) u' v') v v1) u v1) ?_ I
  intro C A S T n m xi xo f_blockLength f_columnIndex f_symbolCount f_groupCount f_tableCount f_bitBase f_bitPlace g_n a_input a_output a_held a_checks a_packed a_block a_column a_ranks a_otherRanks a_links a_starts a_order a_shifted a_classes a_nextClasses a_buckets a_list a_symbols a_selectors a_lengths a_codes a_lengthCounts a_sorted a_weights a_parents a_depths b_input b_output b_held b_heldLen b_x b_col b_table b_sorted b_order G
  obtain ⟨g1, g2, g3, g4, g5, g6, g7, g8, g9, g10, g11⟩ := id G
  unfold wpX_occurrences
  rcases rl_range (v1 := v1) g3.2 with h | ⟨h, h'⟩ | ⟨s, hs, rfl⟩
  · refine br_t h (br_f (by decide) ?_)
    unfold wpY_occurrences
    exact br_t h (br_f (by decide) ⟨rfl, rl_in G⟩)
  · refine br_f h (br_f h' (br_f (by decide) ?_))
    unfold wpY_occurrences
    exact br_f h (br_f h' (br_f (by decide) ⟨rfl, rl_in G⟩))
  by_cases hh : a_held s = 0
  · refine xw_st0 g3.2 hs hh (br_f (by decide) ?_)
    unfold wpY_occurrences
    exact yw_st0 g3.2 hs hh (br_f (by decide) ⟨rfl, rl_in G⟩)
  obtain ⟨n0, x0, q1, q2, q3, B, q4, q5⟩ := g11 s (by omega) hh
  refine xw_st g3.2 hs hh (br_t rfl ?_)
  refine xw_column (by omega) q4 g2.2 (by omega) q5 (fun bb bp sc gc tc l' le' co' lc' so' sy' se' rk' cl' hc => ?_)
  have hc2 : ∀ r, r < n0 → cl' r = nI (ro_col n0 x0 r) ∧ ro_col n0 x0 r < 16 := fun r hr => ⟨hc r hr, by have := ro_collt (fun i hi => (q3 i hi).2) hr; omega⟩
  have hy : ∀ j, j < n0 → wk_ov n0 (fun i => b_held (s * 48 + i)) b_x j = nI (x0 j) ∧ x0 j < 16 := fun i hi => ⟨by rw [wk_ovl hi]; exact (q3 i hi).1, by have := (q3 i hi).2; omega⟩
  refine xw_links (c := ro_col n0 x0) (by omega) hc2 (fun li' st' hl => nm_e ⟨n + 1, ?_⟩)
  refine xw_oc37 (x := x0) (P := xi) (m := n) (by omega) (by omega) hc2 (fun j hj => ⟨(g7 j hj).1, by have := (g7 j hj).2; omega⟩) hl ?_ n _ _ 0 n0 (Nat.le_refl n) (by omega) rfl (by omega) (Nat.le_refl n0) (ro_O0 n0 x0 xi n)
  unfold wpY_occurrences
  exact yw_st g3.2 hs hh (br_t rfl (yw_slot (by omega) (by omega) q2 ⟨n0 + 1, yw_oc22 (x := x0) (P := xi) (by omega) (by omega) hy (fun j hj => ⟨(g8 j hj).1, by have := (g8 j hj).2; omega⟩) ⟨rfl, rl_in G⟩ n0 0 _ (by omega) (by omega)⟩))
end
section
/-! restore -/
/-- what the links of column c spell from row r -/
noncomputable def re_y (n : Nat) (c : Nat → Nat) (r m : Nat) : Nat := c (ro_i (ro_k n c) (n - 1 - m) r)
/-- the block z is one whose column is c and whose row is r -/
def re_ok (n : Nat) (c : Nat → Nat) (r : Nat) (z : Nat → Nat) : Prop := ro_w n z 0 = r ∧ ∀ i, i < n → ro_col n z i = c i
theorem re_C {n r : Nat} {c z : Nat → Nat} (h : re_ok n c r z) : ro_C n z c := ro_Ccong (fun _ _ => rfl) (ro_colC n z) h.2
theorem re_okc {n r : Nat} {c z y : Nat → Nat} (h : re_ok n c r z) (e : ∀ i, i < n → z i = y i) : re_ok n c r y := by
  have hC : ro_C n y c := ro_Ccong e (re_C h) (fun _ _ => rfl)
  exact ⟨by rw [← ro_wcong e]; exact h.1, ro_Cu (ro_colC n y) hC⟩
/-- the links spell any such block -/
theorem re_x {n r : Nat} {c z : Nat → Nat} (h : re_ok n c r z) : ∀ m, m < n → re_y n c r m = z m := by
  intro m hm
  unfold re_y
  rw [← h.1, ro_unw (re_C h) (by omega) (by omega), Nat.zero_add]
  have e : n - 1 - (n - 1 - m) = m := by omega
  rw [e, ro_alt hm]
/-- the table holds any such block in its row -/
theorem re_t {n r : Nat} {c z : Nat → Nat} {T : Nat → Nat → Nat} (I : tb_I n c 0 T) (h : re_ok n c r z) : ∀ m, m < n → T r m = z m := by
  intro m hm
  have hr : r < n := by rw [← h.1]; exact ro_wlt (by omega)
  have e := I.2 z (re_C h) r m hr (by omega)
  rw [Nat.zero_add] at e
  rw [e, ← h.1, ca_vf (ro_wP n z) (by omega), Nat.zero_add, ro_alt hm]
theorem re_iff {n r : Nat} {c : Nat → Nat} {T : Nat → Nat → Nat} (I : tb_I n c 0 T) : re_ok n c r (re_y n c r) ↔ re_ok n c r (T r) :=
  ⟨fun h => re_okc h (fun m hm => (re_t I h m hm).symm), fun h => re_okc h (fun m hm => (re_x h m hm).symm)⟩
section
variable {f_capacity f_alphabet f_slots f_tables f_codeCount f_inputSize f_outputSize f_blockLength f_columnIndex f_symbolCount f_groupCount f_tableCount f_bitBase f_bitPlace : Int32} {a_input a_output a_held a_checks a_packed a_block a_column a_ranks a_otherRanks a_links a_starts a_order a_shifted a_classes a_nextClasses a_buckets a_list a_symbols a_selectors a_lengths a_codes a_lengthCounts a_sorted a_weights a_parents a_depths : Nat → Int32}
variable {g_capacity g_alphabet g_slots g_tables g_inLen g_outLen g_n : Int32} {b_input b_output b_holds b_held b_heldLen b_checks b_x b_col b_table b_sorted b_order : Nat → Int32}
theorem xw_re91 {post : Int32 → SX → Prop} {n : Nat} {x2 : Int32} {c d y : Nat → Nat} (hn : n ≤ 48) (hc : ∀ i, i < n → a_input i = nI (c i) ∧ c i < 16) (hd : ∀ i, i < n → a_column i = nI (d i) ∧ d i < 16) (hy : ∀ i, i < n → a_block i = nI (y i))
    (K0 : (¬ ∀ i, i < n → d i = c i) → post 108 (f_capacity, f_alphabet, f_slots, f_tables, f_codeCount, nI n, f_outputSize, nI n, f_columnIndex, f_symbolCount, f_groupCount, f_tableCount, f_bitBase, f_bitPlace, a_input, a_output, a_held, a_checks, a_packed, a_block, a_column, a_ranks, a_otherRanks, a_links, a_starts, a_order, a_shifted, a_classes, a_nextClasses, a_buckets, a_list, a_symbols, a_selectors, a_lengths, a_codes, a_lengthCounts, a_sorted, a_weights, a_parents, a_depths)) (K1 : (∀ i, i < n → d i = c i) → wk_crc0 (fun i => nI (y i)) n ≠ x2 → post 107 (f_capacity, f_alphabet, f_slots, f_tables, f_codeCount, nI n, f_outputSize, nI n, f_columnIndex, f_symbolCount, f_groupCount, f_tableCount, f_bitBase, f_bitPlace, a_input, a_output, a_held, a_checks, a_packed, a_block, a_column, a_ranks, a_otherRanks, a_links, a_starts, a_order, a_shifted, a_classes, a_nextClasses, a_buckets, a_list, a_symbols, a_selectors, a_lengths, a_codes, a_lengthCounts, a_sorted, a_weights, a_parents, a_depths)) (K2 : (∀ i, i < n → d i = c i) → wk_crc0 (fun i => nI (y i)) n = x2 → post (nI n) (f_capacity, f_alphabet, f_slots, f_tables, f_codeCount, nI n, nI n, nI n, f_columnIndex, f_symbolCount, f_groupCount, f_tableCount, f_bitBase, f_bitPlace, a_input, wk_ov n a_block a_output, a_held, a_checks, a_packed, a_block, a_column, a_ranks, a_otherRanks, a_links, a_starts, a_order, a_shifted, a_classes, a_nextClasses, a_buckets, a_list, a_symbols, a_selectors, a_lengths, a_codes, a_lengthCounts, a_sorted, a_weights, a_parents, a_depths)) :
    ∀ e i q, i + e = n → e < q → (∀ m, m < i → d m = c m) → wX_restore_91 post x2 f_capacity f_alphabet f_slots f_tables f_codeCount (nI n) f_outputSize (nI n) f_columnIndex f_symbolCount f_groupCount f_tableCount f_bitBase f_bitPlace a_input a_output a_held a_checks a_packed a_block a_column a_ranks a_otherRanks a_links a_starts a_order a_shifted a_classes a_nextClasses a_buckets a_list a_symbols a_selectors a_lengths a_codes a_lengthCounts a_sorted a_weights a_parents a_depths q (nI i) := by
  intro e
  induction e with
  | zero =>
    intro i q he hq h
    obtain ⟨q, rfl⟩ : ∃ r, q = r + 1 := ⟨q - 1, by omega⟩
    have ei : i = n := by omega
    subst ei
    refine br_t (nI_le (Nat.le_refl i) (by omega)) (xw_crc hn ?_)
    have ec : wk_crc0 a_block i = wk_crc0 (fun j => nI (y j)) i := wk_crceq hy
    rw [ec]
    by_cases z : wk_crc0 (fun j => nI (y j)) i = x2
    · exact br_t z (xw_out hn (K2 h z))
    · exact br_f z (K1 h z)
  | succ e ih =>
    intro i q he hq h
    obtain ⟨q, rfl⟩ : ∃ r, q = r + 1 := ⟨q - 1, by omega⟩
    have l1 := hc i (by omega)
    have l2 := hd i (by omega)
    refine br_f (nI_ge (by omega) (by omega)) ?_
    rw [wk_c (i := i) (by omega), l1.1, l2.1]
    refine ⟨vp_in_nI (by omega) (by omega), vp_in_nI (by omega) (by omega), pk_eq (d i) (c i) (fun z => nm_r (nI_1 i) (ih (i + 1) q (by omega) (by omega) (fun m hm => ?_))) (fun z => K0 (fun y => z (y i (by omega))))⟩
    by_cases y : m = i
    · subst y; exact z
    · exact h m (by omega)
theorem xw_re39 {post : Int32 → SX → Prop} {n r : Nat} {x2 : Int32} {c : Nat → Nat} (hn : n ≤ 48) (hr : r < n ∨ (n = 0 ∧ r = 0)) (hc : ∀ i, i < n → a_input i = nI (c i) ∧ c i < 16)
    (K0 : ∀ (ci : Int32) (bk' cl' li' st' or' sh' cs' nc' bu' : Nat → Int32), ¬ re_ok n c r (re_y n c r) → post 108 (f_capacity, f_alphabet, f_slots, f_tables, f_codeCount, nI n, f_outputSize, nI n, ci, f_symbolCount, f_groupCount, f_tableCount, f_bitBase, f_bitPlace, a_input, a_output, a_held, a_checks, a_packed, bk', cl', a_ranks, a_otherRanks, li', st', or', sh', cs', nc', bu', a_list, a_symbols, a_selectors, a_lengths, a_codes, a_lengthCounts, a_sorted, a_weights, a_parents, a_depths))
    (K1 : ∀ (ci : Int32) (bk' cl' li' st' or' sh' cs' nc' bu' : Nat → Int32), re_ok n c r (re_y n c r) → wk_crc0 (fun i => nI (re_y n c r i)) n ≠ x2 → post 107 (f_capacity, f_alphabet, f_slots, f_tables, f_codeCount, nI n, f_outputSize, nI n, ci, f_symbolCount, f_groupCount, f_tableCount, f_bitBase, f_bitPlace, a_input, a_output, a_held, a_checks, a_packed, bk', cl', a_ranks, a_otherRanks, li', st', or', sh', cs', nc', bu', a_list, a_symbols, a_selectors, a_lengths, a_codes, a_lengthCounts, a_sorted, a_weights, a_parents, a_depths))
    (K2 : ∀ (ci : Int32) (bk' cl' li' st' or' sh' cs' nc' bu' : Nat → Int32), re_ok n c r (re_y n c r) → wk_crc0 (fun i => nI (re_y n c r i)) n = x2 → (∀ i, i < n → bk' i = nI (re_y n c r i)) → post (nI n) (f_capacity, f_alphabet, f_slots, f_tables, f_codeCount, nI n, nI n, nI n, ci, f_symbolCount, f_groupCount, f_tableCount, f_bitBase, f_bitPlace, a_input, wk_ov n bk' a_output, a_held, a_checks, a_packed, bk', cl', a_ranks, a_otherRanks, li', st', or', sh', cs', nc', bu', a_list, a_symbols, a_selectors, a_lengths, a_codes, a_lengthCounts, a_sorted, a_weights, a_parents, a_depths)) :
    ∃ q, wX_restore_39 post (nI r) x2 f_capacity f_alphabet f_slots f_tables f_codeCount (nI n) f_outputSize (nI n) f_columnIndex f_symbolCount f_groupCount f_tableCount f_bitBase f_bitPlace q 0 a_input a_output a_held a_checks a_packed a_block a_column a_ranks a_otherRanks a_links a_starts a_order a_shifted a_classes a_nextClasses a_buckets a_list a_symbols a_selectors a_lengths a_codes a_lengthCounts a_sorted a_weights a_parents a_depths := by
  have hy16 : ∀ i, i < n → re_y n c r i < 16 := by
    intro i hi
    exact (hc _ (ro_iP (ro_kP n c) (by omega) _)).2
  refine wk_cp (fun k i b => wX_restore_39 post (nI r) x2 f_capacity f_alphabet f_slots f_tables f_codeCount (nI n) f_outputSize (nI n) f_columnIndex f_symbolCount f_groupCount f_tableCount f_bitBase f_bitPlace k (nI i) a_input a_output a_held a_checks a_packed a_block b a_ranks a_otherRanks a_links a_starts a_order a_shifted a_classes a_nextClasses a_buckets a_list a_symbols a_selectors a_lengths a_codes a_lengthCounts a_sorted a_weights a_parents a_depths) a_input a_column n ?_ ?_
  · intro q
    refine br_t (nI_le (Nat.le_refl n) (by omega)) (xw_links (c := c) hn (fun i hi => ⟨by rw [wk_ovl hi]; exact (hc i hi).1, (hc i hi).2⟩) (fun li' st' hl => ?_))
    refine xw_unwind (c := c) hn (by omega) (fun i hi => by rw [wk_ovl hi]; exact (hc i hi).1) hl (fun bk' hb => ?_)
    have hy : ∀ i, i < n → bk' i = nI (re_y n c r i) := by
      intro i hi
      have h1 := hb (n - 1 - i) (by omega)
      have e : n - 1 - (n - 1 - i) = i := by omega
      rw [e] at h1; exact h1
    refine xw_sort (x := re_y n c r) hn (fun i hi => ⟨hy i hi, hy16 i hi⟩) (fun or' sh' cs' nc' bu' cl' hcl => ?_)
    have hw : ro_w n (re_y n c r) 0 < 2 ^ 31 := by
      rcases Nat.eq_zero_or_pos n with z | z
      · subst z; rw [ro_w0]; omega
      · have := ro_wlt (x := re_y n c r) z; omega
    refine pk_eq (ro_w n (re_y n c r) 0) r (fun z => ⟨n + 1, ?_⟩) (fun z => K0 _ _ _ _ _ _ _ _ _ _ (fun y => z y.1)) rfl rfl hw (by omega)
    exact xw_re91 (c := c) (d := ro_col n (re_y n c r)) (y := re_y n c r) hn hc (fun i hi => ⟨hcl i hi, ro_collt hy16 hi⟩) hy (fun y => K0 _ _ _ _ _ _ _ _ _ _ (fun w => y w.2)) (fun y w => K1 _ _ _ _ _ _ _ _ _ _ ⟨z, y⟩ w) (fun y w => K2 _ _ _ _ _ _ _ _ _ _ ⟨z, y⟩ w hy) n 0 _ (by omega) (by omega) (fun m hm => by omega)
  · intro q i hi ih
    exact br_f (nI_ge hi (by omega)) ⟨vp_in_nI (by omega) (by omega), vp_in_nI (by omega) (by omega), nm_r (by rw [wk_c (by omega)]; exact wk_ovs i a_input a_column) (nm_r (nI_1 i) ih)⟩
theorem yw_re88 {post : Int32 → SY → Prop} {n r : Nat} {x2 : Int32} {c y : Nat → Nat} (hn : n ≤ 48) (hr : r < n ∨ (n = 0 ∧ r = 0)) (hc : ∀ i, i < n → b_input i = nI (c i) ∧ c i < 16) (hx : ∀ i, i < n → b_x i = nI (y i) ∧ y i < 16) (hd : ∀ i, i < n → b_col i = nI (ro_col n y i))
    (K0 : ¬ re_ok n c r y → post 108 (g_capacity, g_alphabet, g_slots, g_tables, nI n, g_outLen, nI n, b_input, b_output, b_holds, b_held, b_heldLen, b_checks, b_x, b_col, b_table, b_sorted, b_order)) (K1 : re_ok n c r y → wk_crc0 (fun i => nI (y i)) n ≠ x2 → post 107 (g_capacity, g_alphabet, g_slots, g_tables, nI n, g_outLen, nI n, b_input, b_output, b_holds, b_held, b_heldLen, b_checks, b_x, b_col, b_table, b_sorted, b_order)) (K2 : re_ok n c r y → wk_crc0 (fun i => nI (y i)) n = x2 → post (nI n) (g_capacity, g_alphabet, g_slots, g_tables, nI n, nI n, nI n, b_input, wk_ov n b_x b_output, b_holds, b_held, b_heldLen, b_checks, b_x, b_col, b_table, b_sorted, b_order)) :
    ∀ e i q, i + e = n → e < q → (∀ m, m < i → ro_col n y m = c m) → wY_restore_88 post (nI r) x2 g_capacity g_alphabet g_slots g_tables (nI n) g_outLen (nI n) b_input b_output b_holds b_held b_heldLen b_checks b_x b_col b_table b_sorted b_order q (nI i) := by
  have fin : re_ok n c r y → wY_restore_142 post x2 g_capacity g_alphabet g_slots g_tables (nI n) g_outLen (nI n) b_input b_output b_holds b_held b_heldLen b_checks b_x b_col b_table b_sorted b_order := by
    intro h
    refine yw_crc hn ?_
    have ec : wk_crc0 b_x n = wk_crc0 (fun j => nI (y j)) n := wk_crceq (fun j hj => (hx j hj).1)
    rw [ec]
    by_cases z : wk_crc0 (fun j => nI (y j)) n = x2
    · exact br_t z (yw_out hn (K2 h z))
    · exact br_f z (K1 h z)
  intro e
  induction e with
  | zero =>
    intro i q he hq h
    obtain ⟨q, rfl⟩ : ∃ r, q = r + 1 := ⟨q - 1, by omega⟩
    have ei : i = n := by omega
    subst ei
    refine br_t (nI_le (Nat.le_refl i) (by omega)) ?_
    rcases Nat.eq_zero_or_pos i with z | z
    · subst z
      refine br_t (by decide) (fin ⟨?_, h⟩)
      rw [ro_w0]; omega
    · have hw := ro_wlt (x := y) z
      refine br_f (nI_nlt (a := i) (b := 1) (by omega) (by omega)) (yw_row (i := 0) (x := y) hn (by omega) hx (pk_eq (ro_w i y 0) r (fun w => fin ⟨w, h⟩) (fun w => K0 (fun v => w v.1))))
  | succ e ih =>
    intro i q he hq h
    obtain ⟨q, rfl⟩ : ∃ r, q = r + 1 := ⟨q - 1, by omega⟩
    have l1 := hc i (by omega)
    have l2 := ro_collt (A := 16) (fun i hi => (hx i hi).2) (show i < n by omega)
    refine br_f (nI_ge (by omega) (by omega)) ?_
    rw [wk_c (i := i) (by omega), l1.1, hd i (by omega)]
    refine ⟨vp_in_nI (by omega) (by omega), vp_in_nI (by omega) (by omega), pk_eq (ro_col n y i) (c i) (fun z => nm_r (nI_1 i) (ih (i + 1) q (by omega) (by omega) (fun m hm => ?_))) (fun z => K0 (fun w => z (w.2 i (by omega))))⟩
    by_cases w : m = i
    · subst w; exact z
    · exact h m (by omega)
theorem yw_re37 {post : Int32 → SY → Prop} {n r : Nat} {x2 : Int32} {c : Nat → Nat} (hn : n ≤ 48) (hr : r < n ∨ (n = 0 ∧ r = 0)) (hc : ∀ i, i < n → b_input i = nI (c i) ∧ c i < 16)
    (K0 : ∀ (x' c' t' s' o' : Nat → Int32) (y : Nat → Nat), (re_ok n c r (re_y n c r) ↔ re_ok n c r y) → ¬ re_ok n c r y → post 108 (g_capacity, g_alphabet, g_slots, g_tables, nI n, g_outLen, nI n, b_input, b_output, b_holds, b_held, b_heldLen, b_checks, x', c', t', s', o'))
    (K1 : ∀ (x' c' t' s' o' : Nat → Int32) (y : Nat → Nat), (re_ok n c r (re_y n c r) ↔ re_ok n c r y) → re_ok n c r y → wk_crc0 (fun i => nI (y i)) n ≠ x2 → post 107 (g_capacity, g_alphabet, g_slots, g_tables, nI n, g_outLen, nI n, b_input, b_output, b_holds, b_held, b_heldLen, b_checks, x', c', t', s', o'))
    (K2 : ∀ (x' c' t' s' o' : Nat → Int32) (y : Nat → Nat), (re_ok n c r (re_y n c r) ↔ re_ok n c r y) → re_ok n c r y → wk_crc0 (fun i => nI (y i)) n = x2 → (∀ i, i < n → x' i = nI (y i)) → post (nI n) (g_capacity, g_alphabet, g_slots, g_tables, nI n, nI n, nI n, b_input, wk_ov n x' b_output, b_holds, b_held, b_heldLen, b_checks, x', c', t', s', o')) : wY_restore_37 post (nI r) x2 g_capacity g_alphabet g_slots g_tables (nI n) g_outLen g_n b_input b_output b_holds b_held b_heldLen b_checks b_x b_col b_table b_sorted b_order := by
  refine yw_mt (c := c) hn hc (fun t' s' o' T hT hI => ?_)
  refine wk_cp (fun k i b => wY_restore_51 post (nI r) x2 g_capacity g_alphabet g_slots g_tables (nI n) g_outLen (nI n) k (nI i) b_input b_output b_holds b_held b_heldLen b_checks b b_col t' s' o') (fun i => t' (r * 48 + i)) b_x n ?_ ?_
  · intro q
    have hx : ∀ i, i < n → wk_ov n (fun i => t' (r * 48 + i)) b_x i = nI (T r i) ∧ T r i < 16 := by
      intro i hi
      obtain ⟨j, hj, e⟩ := hI.1 r i (by omega) (by omega) hi
      exact ⟨by rw [wk_ovl hi]; exact hT r i (by omega) hi, by rw [e]; exact (hc j hj).2⟩
    refine br_t (nI_le (Nat.le_refl n) (by omega)) (yw_col (x := T r) hn hx (fun c' hc' => ⟨n + 1, ?_⟩))
    exact yw_re88 (c := c) (y := T r) hn hr hc hx hc' (fun z => K0 _ _ _ _ _ (T r) (re_iff hI) z) (fun z w => K1 _ _ _ _ _ (T r) (re_iff hI) z w) (fun z w => K2 _ _ _ _ _ (T r) (re_iff hI) z w (fun i hi => (hx i hi).1)) n 0 _ (by omega) (by omega) (fun m hm => by omega)
  · intro q i hi ih
    refine br_f (nI_ge hi (by omega)) ?_
    rw [wk_t48, wk_c (i := r * 48 + i) (by omega), wk_c (i := i) (by omega)]
    exact ⟨vp_in_nI (by omega) (by omega), vp_in_nI (by omega) (by omega), nm_r (wk_ovs i (fun i => t' (r * 48 + i)) b_x) (nm_r (nI_1 i) ih)⟩
theorem yw_re0 {post : Int32 → SY → Prop} {n r : Nat} {x2 : Int32} (hn : n ≤ 48) (hr : r < n ∨ (n = 0 ∧ r = 0)) (K : wY_restore_37 post (nI r) x2 g_capacity g_alphabet g_slots g_tables (nI n) g_outLen g_n b_input b_output b_holds b_held b_heldLen b_checks b_x b_col b_table b_sorted b_order) : wpY_restore post (g_capacity, g_alphabet, g_slots, g_tables, nI n, g_outLen, g_n, b_input, b_output, b_holds, b_held, b_heldLen, b_checks, b_x, b_col, b_table, b_sorted, b_order) (nI r) x2 := by
  have h23 : wY_restore_23 post (nI r) x2 g_capacity g_alphabet g_slots g_tables (nI n) g_outLen g_n b_input b_output b_holds b_held b_heldLen b_checks b_x b_col b_table b_sorted b_order := by
    rcases Nat.eq_zero_or_pos n with z | z
    · subst z
      have e : r = 0 := by omega
      subst e
      exact br_t rfl (br_t rfl K)
    · exact br_f (nI_ne0 z (by omega)) K
  rcases Nat.eq_zero_or_pos n with z | z
  · subst z
    exact br_t (by decide) h23
  · exact br_f (nI_nlt (a := n) (b := 1) (by omega) (by omega)) (br_f (nI_pos (by omega)) (br_t (nI_lt (by omega) (by omega)) h23))
end
theorem i_vc_restore {k : Nat} {u : SX} {v : SY} (I : i_Rel k u v) (hk : k + 3 ≤ 1540) (v1 : Int32) (v2 : Int32) : wpX_restore (fun r u' => wpY_restore (fun r' v' => r' = r ∧ i_Rel (k + 3) u' v') v v1 v2) u v1 v2 := by
  refine rl_el (P := fun u v => wpX_restore (fun r u' => wpY_restore (fun r' v' => r' = r ∧ i_Rel (k + 3) u' v') v v1 v2) u v1 v2) ?_ I
  intro C A S T n m xi xo f_blockLength f_columnIndex f_symbolCount f_groupCount f_tableCount f_bitBase f_bitPlace g_n a_input a_output a_held a_checks a_packed a_block a_column a_ranks a_otherRanks a_links a_starts a_order a_shifted a_classes a_nextClasses a_buckets a_list a_symbols a_selectors a_lengths a_codes a_lengthCounts a_sorted a_weights a_parents a_depths b_input b_output b_held b_heldLen b_x b_col b_table b_sorted b_order G
  obtain ⟨g1, g2, g3, g4, g5, g6, g7, g8, g9, g10, g11⟩ := id G
  have hcX : ∀ i, i < n → a_input i = nI (xi i) ∧ xi i < 16 := fun j hj => ⟨(g7 j hj).1, by have := (g7 j hj).2; omega⟩
  have hcY : ∀ i, i < n → b_input i = nI (xi i) ∧ xi i < 16 := fun j hj => ⟨(g8 j hj).1, by have := (g8 j hj).2; omega⟩
  have go : ∀ r, (r < n ∨ (n = 0 ∧ r = 0)) → ∃ q, wX_restore_39 (fun r' u' => wpY_restore (fun r'' v' => r'' = r' ∧ i_Rel (k + 3) u' v') (nI C, nI A, nI S, nI T, nI n, nI m, g_n, b_input, b_output, a_held, b_held, b_heldLen, a_checks, b_x, b_col, b_table, b_sorted, b_order) (nI r) v2) (nI r) v2 (nI C) (nI A) (nI S) (nI T) (nI (A + 1)) (nI n) (nI m) (nI n) f_columnIndex f_symbolCount f_groupCount f_tableCount f_bitBase f_bitPlace q 0 a_input a_output a_held a_checks a_packed a_block a_column a_ranks a_otherRanks a_links a_starts a_order a_shifted a_classes a_nextClasses a_buckets a_list a_symbols a_selectors a_lengths a_codes a_lengthCounts a_sorted a_weights a_parents a_depths := by
    intro r hr
    have hA : ∀ i, i < n → re_y n xi r i < A := fun i hi => (g7 _ (ro_iP (ro_kP n xi) (by omega) _)).2
    refine xw_re39 (c := xi) (by omega) hr hcX (fun ci bk' cl' li' st' or' sh' cs' nc' bu' h => ?_) (fun ci bk' cl' li' st' or' sh' cs' nc' bu' h w => ?_) (fun ci bk' cl' li' st' or' sh' cs' nc' bu' h w hb => ?_)
    · exact yw_re0 (by omega) hr (yw_re37 (c := xi) (by omega) hr hcY (fun _ _ _ _ _ y _ _ => ⟨rfl, rl_in G⟩) (fun _ _ _ _ _ y e h' _ => absurd (e.mpr h') h) (fun _ _ _ _ _ y e h' _ _ => absurd (e.mpr h') h))
    · refine yw_re0 (by omega) hr (yw_re37 (c := xi) (by omega) hr hcY (fun _ _ _ _ _ y e h' => absurd (e.mp h) h') (fun _ _ _ _ _ y _ _ _ => ⟨rfl, rl_in G⟩) (fun _ _ _ _ _ y e h' w' _ => absurd ?_ w))
      rw [← w']
      exact wk_crceq (fun j hj => by rw [re_x h' j hj])
    · refine yw_re0 (by omega) hr (yw_re37 (c := xi) (by omega) hr hcY (fun _ _ _ _ _ y e h' => absurd (e.mp h) h') (fun _ _ _ _ _ y e h' w' => absurd ?_ w') (fun x' _ _ _ _ y e h' w' hx => ⟨rfl, ?_⟩))
      · rw [← w]
        exact wk_crceq (fun j hj => by rw [re_x h' j hj])
      · refine rl_in ⟨g1, g2, g3, g4, g5, g5, g7, g8, rl_Aof (x := re_y n xi r) hb hA, rl_Aof (x := re_y n xi r) (fun i hi => ?_) hA, g11⟩
        rw [hx i hi, re_x h' i hi]
  rcases Nat.eq_zero_or_pos n with z | z
  · subst z
    by_cases h0 : v1 = 0
    · subst h0
      exact br_t rfl (br_t rfl (go 0 (Or.inr ⟨rfl, rfl⟩)))
    · refine br_t rfl (br_f h0 ?_)
      exact br_t (by decide) (br_t rfl (br_f h0 ⟨rfl, rl_in G⟩))
  · have hz : ¬ nI n = 0 := nI_ne0 z (by omega)
    have h1 : ¬ nI n < 1 := nI_nlt (a := n) (b := 1) (by omega) (by omega)
    by_cases h0 : v1 < 0
    · exact br_f hz (br_t h0 (br_f h1 (br_t h0 ⟨rfl, rl_in G⟩)))
    by_cases h2 : v1 < nI n
    · obtain ⟨r, hr, rfl⟩ := nI_of h0
      have h3 := h2
      rw [nI_ltI hr (by omega)] at h3
      exact br_f hz (br_f h0 (br_t h2 (go r (Or.inl h3))))
    · exact br_f hz (br_f h0 (br_f h2 (br_f h1 (br_f h0 (br_f h2 ⟨rfl, rl_in G⟩)))))
end
