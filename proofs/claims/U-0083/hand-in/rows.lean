section
-- rows of kit/rows (a starting text), as they stand
theorem pk_us {f : Nat → Int32} {k : Nat} {x : Int32} : upd f k x k = x := if_pos rfl
theorem pk_un {f : Nat → Int32} {k j : Nat} {x : Int32} (h : j ≠ k) : upd f k x j = f j := if_neg h
theorem pk_sub {a b : Nat} (h : b ≤ a) : nI a - nI b = nI (a - b) := by
  obtain ⟨c, rfl⟩ : ∃ c, a = c + b := ⟨a - b, by omega⟩
  rw [← nI_add, Int32.add_sub_cancel, Nat.add_sub_cancel]
theorem pk_m1 (n : Nat) : nI (n + 1) + (-1) = nI n := by
  rw [← nI_1, Int32.add_assoc, show (1 : Int32) + (-1) = 0 from rfl, Int32.add_zero]
theorem pk_mul (a b : Nat) : nI a * nI b = nI (a * b) := (Int32.ofNat_mul a b).symm
theorem pk_div {a d : Nat} (ha : a < 2 ^ 31) (h0 : 0 < d) (hd : d < 2 ^ 31) : nI a / nI d = nI (a / d) := by
  apply Int32.toInt_inj.mp
  rw [lg_idiv_nonneg (by rw [nI_toInt ha]; omega) (by rw [nI_toInt hd]; omega), nI_toInt ha, nI_toInt hd, nI_toInt (Nat.lt_of_le_of_lt (Nat.div_le_self a d) ha)]
  first | rfl | exact (Int.natCast_ediv _ _).symm
theorem pk_rem {a d : Nat} (ha : a < 2 ^ 31) (h0 : 0 < d) (hd : d < 2 ^ 31) : nI a - nI a / nI d * nI d = nI (a % d) := by
  rw [pk_div ha h0 hd, pk_mul, pk_sub (Nat.div_mul_le_self a d)]
  exact congrArg nI (by have := Nat.div_add_mod' a d; omega)
theorem pk_sub_toInt {a b : Nat} (ha : a < 2 ^ 30) (hb : b < 2 ^ 30) : (nI a - nI b).toInt = (a : Int) - b := by
  rw [Int32.toInt_sub, nI_toInt (by omega), nI_toInt (by omega)]
  exact Int.bmod_eq_of_le (by omega) (by omega)
theorem pk_sneg {a b : Nat} (hb : b < 2 ^ 30) (h : a < b) : nI a - nI b < 0 := by
  rw [Int32.lt_iff_toInt_lt, pk_sub_toInt (by omega) hb, show (0 : Int32).toInt = 0 from by decide]
  omega
theorem pk_ix (x : Int32) {n : Nat} (hn : n < 2 ^ 31) : x < 0 ∨ nI n ≤ x ∨ ∃ j : Nat, j < n ∧ x = nI j := by
  by_cases h : x < 0
  · exact Or.inl h
  · obtain ⟨j, hj, rfl⟩ := nI_of h
    by_cases h2 : j < n
    · exact Or.inr (Or.inr ⟨j, h2, rfl⟩)
    · exact Or.inr (Or.inl (nI_le (by omega) hj))
theorem pk_le {x y : Int32} {A B : Prop} (a b : Nat) (f : a ≤ b → A) (g : b < a → B) (hx : x = nI a := by rfl) (hy : y = nI b := by rfl) (ha : a < 2 ^ 31 := by omega) (hb : b < 2 ^ 31 := by omega) : (x ≤ y → A) ∧ (¬ x ≤ y → B) := by
  subst hx hy
  rw [nI_leI ha hb]
  exact ⟨f, fun z => g (by omega)⟩
theorem pk_lt {x y : Int32} {A B : Prop} (a b : Nat) (f : a < b → A) (g : b ≤ a → B) (hx : x = nI a := by rfl) (hy : y = nI b := by rfl) (ha : a < 2 ^ 31 := by omega) (hb : b < 2 ^ 31 := by omega) : (x < y → A) ∧ (¬ x < y → B) := by
  subst hx hy
  rw [nI_ltI ha hb]
  exact ⟨f, fun z => g (by omega)⟩
theorem pk_eq {x y : Int32} {A B : Prop} (a b : Nat) (f : a = b → A) (g : a ≠ b → B) (hx : x = nI a := by rfl) (hy : y = nI b := by rfl) (ha : a < 2 ^ 31 := by omega) (hb : b < 2 ^ 31 := by omega) : (x = y → A) ∧ (¬ x = y → B) := by
  subst hx hy
  rw [nI_eq ha hb]
  exact ⟨f, g⟩
theorem pk_in {x : Int32} (n N : Nat) (h : n < N) (hx : x = nI n := by rfl) (hN : N < 2 ^ 31 := by omega) : vp_in x N := by
  subst hx
  exact vp_in_nI h hN
theorem pk_cl {x : Int32} (n : Nat) (hx : x = nI n := by rfl) (h : n < 2 ^ 31 := by omega) : x.toNatClampNeg = n := by
  subst hx
  exact nI_clamp h
theorem pk_tn {n : Nat} (h : n < 2 ^ 32) : (nI n).toBitVec.toNat = n := Nat.mod_eq_of_lt h
theorem pk_and (x : Int32) {m : Int32} (k : Nat) (hm : m.toBitVec.toNat = 2 ^ k - 1) : x &&& m = nI (x.toBitVec.toNat % 2 ^ k) := by
  apply Int32.toBitVec_inj.mp
  apply BitVec.eq_of_toNat_eq
  rw [Int32.toBitVec_and, BitVec.toNat_and, hm, Nat.and_two_pow_sub_one_eq_mod]
  show _ = (BitVec.ofNat 32 _).toNat
  rw [BitVec.toNat_ofNat]
  exact (Nat.mod_eq_of_lt (Nat.lt_of_le_of_lt (Nat.mod_le _ _) x.toBitVec.isLt)).symm
theorem pk_andN {n : Nat} (h : n < 2 ^ 32) {m : Int32} (k : Nat) (hm : m.toBitVec.toNat = 2 ^ k - 1) : nI n &&& m = nI (n % 2 ^ k) := by
  rw [pk_and _ k hm, pk_tn h]
theorem pk_andE (x : Int32) {m : Int32} (k : Nat) (hm : m.toBitVec.toNat = 2 ^ k - 1) : ∃ j : Nat, j < 2 ^ k ∧ x &&& m = nI j := ⟨_, Nat.mod_lt _ (Nat.two_pow_pos k), pk_and x k hm⟩
theorem pk_shl (a s : Int32) (k : Nat) (hs : (s.toBitVec.smod 32).toNat = k) : (a <<< s).toBitVec.toNat = a.toBitVec.toNat * 2 ^ k % 2 ^ 32 := by
  show (a.toBitVec <<< (s.toBitVec.smod 32).toNat).toNat = _
  rw [hs, BitVec.toNat_shiftLeft, Nat.shiftLeft_eq]
theorem pk_shlN {n : Nat} (s : Int32) (k : Nat) (hs : (s.toBitVec.smod 32).toNat = k) (h : n * 2 ^ k < 2 ^ 32) : nI n <<< s = nI (n * 2 ^ k) := by
  apply Int32.toBitVec_inj.mp
  apply BitVec.eq_of_toNat_eq
  have hn : n < 2 ^ 32 := Nat.lt_of_le_of_lt (Nat.le_mul_of_pos_right n (Nat.two_pow_pos k)) h
  rw [pk_shl _ _ k hs, pk_tn hn, pk_tn h, Nat.mod_eq_of_lt h]
theorem pk_shr (a s : Int32) (k : Nat) (hs : (s.toBitVec.smod 32).toNat = k) : (a >>> s).toInt = a.toInt >>> k := by
  show (a.toBitVec.sshiftRight (s.toBitVec.smod 32).toNat).toInt = _
  rw [hs, BitVec.toInt_sshiftRight]
  rfl
theorem pk_shrN {n : Nat} (h : n < 2 ^ 31) (s : Int32) (k : Nat) (hs : (s.toBitVec.smod 32).toNat = k) : nI n >>> s = nI (n / 2 ^ k) := by
  apply Int32.toInt_inj.mp
  have h2 : n / 2 ^ k ≤ n := Nat.div_le_self _ _
  rw [pk_shr _ _ k hs, nI_toInt h, nI_toInt (by omega), Int.shiftRight_eq_div_pow]
  rfl
theorem pk_loop {σ : Type} (W : Nat → Nat → σ → Prop) (I : Nat → σ → Prop) (e i0 : Nat) (s : σ) (hi : i0 ≤ e) (h0 : I i0 s) (hx : ∀ n s, I e s → W (n + 1) e s)
    (hs : ∀ n i s, i < e → I i s → (∀ s', I (i + 1) s' → W n (i + 1) s') → W (n + 1) i s) : ∃ n, W n i0 s :=
  ⟨e + 1, loop_i W I e hx hs (e + 1) i0 s hi (by omega) h0⟩
theorem pk_loopD {σ : Type} (W : Nat → Nat → σ → Prop) (I : Nat → σ → Prop) (hx : ∀ n s, I 0 s → W (n + 1) 0 s)
    (hs : ∀ n i s, I (i + 1) s → (∀ s', I i s' → W n i s') → W (n + 1) (i + 1) s) : ∀ (e : Nat) (s : σ), I e s → W (e + 1) e s := by
  intro e
  induction e with
  | zero => exact fun s h => hx 0 s h
  | succ e ih => exact fun s h => hs (e + 1) e s h (fun s' h' => ih s' h')
theorem pk_least (P : Nat → Prop) (h : ∃ k, P k) : ∃ k, P k ∧ ∀ j, j < k → ¬ P j := by
  obtain ⟨k, hk⟩ := h
  induction k using Nat.strongRecOn with
  | ind k ih =>
    by_cases e : ∃ j, j < k ∧ P j
    · obtain ⟨j, hj, pj⟩ := e
      exact ih j hj pj
    · exact ⟨k, hk, fun j hj pj => e ⟨j, hj, pj⟩⟩
theorem s_l : ∀ n, n < 32 → ((nI n &&& 31).toBitVec.smod 32).toNat = n := by decide +kernel
theorem nx_and (a b : Nat) : nI a &&& nI b = nI (a &&& b) := by
  apply Int32.toBitVec_inj.1
  show BitVec.ofNat 32 a &&& BitVec.ofNat 32 b = BitVec.ofNat 32 (a &&& b)
  apply BitVec.eq_of_getLsbD_eq
  intro i hi
  simp [hi]
theorem zz_lit2 : (2 : Int32) = nI 2 := rfl
theorem zz_lit3 : (3 : Int32) = nI 3 := rfl
theorem zz_lit5 : (5 : Int32) = nI 5 := rfl
theorem zz_lit8 : (8 : Int32) = nI 8 := rfl
theorem zz_lit16 : (16 : Int32) = nI 16 := rfl
theorem zz_lit64 : (64 : Int32) = nI 64 := rfl
theorem zz_lit100 : (100 : Int32) = nI 100 := rfl
theorem zz_lit512 : (512 : Int32) = nI 512 := rfl
theorem zz_in {x : Int32} {n N : Nat} (hx : x = nI n) (h : n < N) (hN : N < 2147483648) : vp_in x N := by
  subst hx
  exact vp_in_nI h (by omega)
theorem zz_cl {x : Int32} {n : Nat} (hx : x = nI n) (h : n < 2147483648) : x.toNatClampNeg = n := by
  subst hx
  exact nI_clamp (by omega)
theorem zz_not0 {x : Int32} (h : x < 0) {n : Nat} (hn : n < 2147483648) : ¬ x = nI n := by
  intro e
  subst e
  exact nI_pos (by omega) h
end
section
/-! the tree of a query in prefix order, as functions of the time e (how many nodes are placed): the height of the stack of open places, and for each place its level, its tables, its owner -/
def sq_ch (x : Int32) : Nat := if x = 1 then 2 else if x = 2 then 2 else if x = 3 then 0 else if x = 4 then 0 else 1
def sq_h (K : Nat → Int32) : Nat → Nat
  | 0 => 1
  | e + 1 => sq_h K e - 1 + sq_ch (K e)
def sq_L (K : Nat → Int32) : Nat → Nat → Nat
  | 0 => fun _ => 0
  | e + 1 => fun p => if p + 1 < sq_h K e then sq_L K e p else sq_L K e (sq_h K e - 1) + (if K e < 5 then 0 else 1)
def sq_S (K Y : Nat → Int32) (o : Nat) : Nat → Nat → Nat → Nat
  | 0 => fun _ k => if k = 0 then o else 0
  | e + 1 => fun p k => if p + 1 < sq_h K e then sq_S K Y o e p k else if ¬ K e < 5 ∧ k = sq_L K e (sq_h K e - 1) + 1 then (Y e).toNatClampNeg / 2 else sq_S K Y o e (sq_h K e - 1) k
def sq_O (K : Nat → Int32) : Nat → Nat → Int32
  | 0 => fun _ => -1
  | e + 1 => fun p => if p + 1 < sq_h K e then sq_O K e p else if (K e = 1 ∨ K e = 2) ∧ p + 1 = sq_h K e then nI e else -1
def sq_Lv (K : Nat → Int32) (j : Nat) : Nat := sq_L K j (sq_h K j - 1)
def sq_Sc (K Y : Nat → Int32) (o j k : Nat) : Nat := sq_S K Y o j (sq_h K j - 1) k
theorem sq_hS (K : Nat → Int32) (e : Nat) : sq_h K (e + 1) = sq_h K e - 1 + sq_ch (K e) := rfl
theorem sq_h_c {K K' : Nat → Int32} : ∀ e : Nat, (∀ k, k < e → K' k = K k) → sq_h K' e = sq_h K e := by
  intro e
  induction e with
  | zero => intro _; rfl
  | succ e ih =>
    intro H
    rw [sq_hS, sq_hS, ih (fun k hk => H k (by omega)), H e (by omega)]
theorem sq_L_c {K K' : Nat → Int32} : ∀ e : Nat, (∀ k, k < e → K' k = K k) → ∀ p, sq_L K' e p = sq_L K e p := by
  intro e
  induction e with
  | zero => intro _ p; rfl
  | succ e ih =>
    intro H p
    have h1 := sq_h_c (K := K) (K' := K') e (fun k hk => H k (by omega))
    have h2 := ih (fun k hk => H k (by omega))
    have h3 := H e (by omega)
    simp only [sq_L, h1, h2, h3]
theorem sq_S_c {K K' Y Y' : Nat → Int32} {o : Nat} : ∀ e : Nat, (∀ k, k < e → K' k = K k) → (∀ k, k < e → Y' k = Y k) → ∀ p k, sq_S K' Y' o e p k = sq_S K Y o e p k := by
  intro e
  induction e with
  | zero => intro _ _ p k; rfl
  | succ e ih =>
    intro H G p k
    have h1 := sq_h_c (K := K) (K' := K') e (fun k hk => H k (by omega))
    have h2 := ih (fun k hk => H k (by omega)) (fun k hk => G k (by omega))
    have h3 := H e (by omega)
    have h4 := G e (by omega)
    have h5 := sq_L_c (K := K) (K' := K') e (fun k hk => H k (by omega))
    simp only [sq_S, h1, h2, h3, h4, h5]
theorem sq_O_c {K K' : Nat → Int32} : ∀ e : Nat, (∀ k, k < e → K' k = K k) → ∀ p, sq_O K' e p = sq_O K e p := by
  intro e
  induction e with
  | zero => intro _ p; rfl
  | succ e ih =>
    intro H p
    have h1 := sq_h_c (K := K) (K' := K') e (fun k hk => H k (by omega))
    have h2 := ih (fun k hk => H k (by omega))
    have h3 := H e (by omega)
    simp only [sq_O, h1, h2, h3]
theorem sq_Lv_c {K K' : Nat → Int32} (e : Nat) (H : ∀ k, k < e → K' k = K k) : sq_Lv K' e = sq_Lv K e := by
  unfold sq_Lv
  rw [sq_h_c e H, sq_L_c e H]
theorem sq_Sc_c {K K' Y Y' : Nat → Int32} {o : Nat} (e : Nat) (H : ∀ k, k < e → K' k = K k) (G : ∀ k, k < e → Y' k = Y k) (k : Nat) : sq_Sc K' Y' o e k = sq_Sc K Y o e k := by
  unfold sq_Sc
  rw [sq_h_c e H, sq_S_c e H G]
def sq_OpOK (q : Int32) (l : Nat) : Prop := ¬ 100 ≤ q ∨ ∃ m, q = nI m ∧ 100 ≤ m ∧ m ≤ 101 + 2 * l
def sq_Nd (K xs ys : Nat → Int32) (j : Nat) : Prop :=
  ¬ K j < 0 ∧ sq_OpOK (xs j) (sq_Lv K j) ∧ (K j = 3 → sq_OpOK (ys j) (sq_Lv K j)) ∧ (¬ K j < 5 → sq_Lv K j ≤ 1 ∧ ∃ y, y ≤ 5 ∧ ys j = nI y)
def sq_T (K xs ys : Nat → Int32) (N : Nat) : Prop := (∀ e, e < N → 0 < sq_h K e) ∧ (∀ j, j < N → sq_Nd K xs ys j)
theorem sq_L_le {K xs ys : Nat → Int32} {N : Nat} (T : sq_T K xs ys N) : ∀ e, e ≤ N → ∀ p, sq_L K e p ≤ 2 := by
  intro e
  induction e with
  | zero => intro _ p; exact Nat.zero_le 2
  | succ e ih =>
    intro he p
    have ih' := ih (by omega)
    have N1 := T.2 e (by omega)
    simp only [sq_L]
    split
    · exact ih' p
    · split
      · have := ih' (sq_h K e - 1)
        omega
      · rename_i h5
        have := (N1.2.2.2 h5).1
        unfold sq_Lv at this
        omega
theorem sq_Lv_le {K xs ys : Nat → Int32} {N : Nat} (T : sq_T K xs ys N) {j : Nat} (hj : j ≤ N) : sq_Lv K j ≤ 2 := sq_L_le T j hj _
theorem sq_S_lt {K xs ys : Nat → Int32} {N o : Nat} (T : sq_T K xs ys N) (ho : o < 3) : ∀ e, e ≤ N → ∀ p k, sq_S K ys o e p k < 3 := by
  intro e
  induction e with
  | zero =>
    intro _ p k
    simp only [sq_S]
    split <;> omega
  | succ e ih =>
    intro he p k
    have ih' := ih (by omega)
    have N1 := T.2 e (by omega)
    simp only [sq_S]
    split
    · exact ih' p k
    · split
      · rename_i h5
        obtain ⟨y, hy, e1⟩ := (N1.2.2.2 h5.1).2
        rw [e1, nI_clamp (by omega)]
        omega
      · exact ih' _ k
theorem sq_Sc_lt {K xs ys : Nat → Int32} {N o : Nat} (T : sq_T K xs ys N) (ho : o < 3) {j : Nat} (hj : j ≤ N) (k : Nat) : sq_Sc K ys o j k < 3 := sq_S_lt T ho j hj _ k
/-! counting, and the ancestor lemma: the level of a place is the number of subquery nodes still open around it -/
def sq_cn (P : Nat → Bool) : Nat → Nat
  | 0 => 0
  | n + 1 => sq_cn P n + (if P n = true then 1 else 0)
theorem sq_cn_c {P Q : Nat → Bool} : ∀ n, (∀ k, k < n → P k = Q k) → sq_cn P n = sq_cn Q n := by
  intro n
  induction n with
  | zero => intro _; rfl
  | succ n ih =>
    intro H
    have h1 := ih (fun k hk => H k (by omega))
    have h2 := H n (by omega)
    simp only [sq_cn, h1, h2]
theorem sq_cn_le {P : Nat → Bool} : ∀ {a b : Nat}, a ≤ b → sq_cn P a ≤ sq_cn P b := by
  intro a b h
  induction b with
  | zero =>
    have : a = 0 := by omega
    subst this
    exact Nat.le_refl _
  | succ b ih =>
    by_cases e : a = b + 1
    · subst e; exact Nat.le_refl _
    · exact Nat.le_trans (ih (by omega)) (Nat.le_add_right _ _)
def sq_op (K : Nat → Int32) (i e : Nat) : Bool := decide (∀ m, m < e + 1 → i ≤ m → sq_h K i ≤ sq_h K m)
theorem sq_op_iff {K : Nat → Int32} {i e : Nat} : sq_op K i e = true ↔ ∀ m, i ≤ m → m ≤ e → sq_h K i ≤ sq_h K m := by
  unfold sq_op
  rw [decide_eq_true_iff]
  constructor
  · intro H m a b
    exact H m (by omega) a
  · intro H m a b
    exact H m b (by omega)
def sq_A (K : Nat → Int32) (e p k : Nat) : Bool := decide (¬ K k < 5) && (sq_op K k e && decide (sq_h K k ≤ p + 1))
theorem sq_A_iff {K : Nat → Int32} {e p k : Nat} : sq_A K e p k = true ↔ (¬ K k < 5) ∧ (∀ m, k ≤ m → m ≤ e → sq_h K k ≤ sq_h K m) ∧ sq_h K k ≤ p + 1 := by
  unfold sq_A
  rw [Bool.and_eq_true, Bool.and_eq_true, sq_op_iff, decide_eq_true_iff, decide_eq_true_iff]
theorem sq_anc {K xs ys : Nat → Int32} {N o : Nat} (T : sq_T K xs ys N) : ∀ e, e ≤ N → ∀ p, p < sq_h K e →
    sq_L K e p = sq_cn (sq_A K e p) e ∧ (∀ k, k < e → sq_A K e p k = true → sq_S K ys o e p (sq_cn (sq_A K e p) k + 1) = (ys k).toNatClampNeg / 2) ∧ sq_S K ys o e p 0 = o := by
  intro e
  induction e with
  | zero =>
    intro _ p _
    exact ⟨rfl, fun k hk => absurd hk (by omega), by simp [sq_S]⟩
  | succ e ih =>
    intro he p hp
    have h0 : 0 < sq_h K e := T.1 e (by omega)
    have hs : sq_h K (e + 1) = sq_h K e - 1 + sq_ch (K e) := rfl
    by_cases c : p + 1 < sq_h K e
    · obtain ⟨i1, i2, i3⟩ := ih (by omega) p (by omega)
      have hA : ∀ k, k < e → sq_A K (e + 1) p k = sq_A K e p k := by
        intro k hk
        rw [Bool.eq_iff_iff, sq_A_iff, sq_A_iff]
        constructor
        · intro h
          exact ⟨h.1, fun m m1 m2 => h.2.1 m m1 (by omega), h.2.2⟩
        · intro h
          refine ⟨h.1, fun m m1 m2 => ?_, h.2.2⟩
          by_cases em : m = e + 1
          · rw [em]
            have := h.2.2
            omega
          · exact h.2.1 m m1 (by omega)
      have hAe : sq_A K (e + 1) p e = false := by
        cases hh : sq_A K (e + 1) p e with
        | false => rfl
        | true =>
          have := (sq_A_iff.mp hh).2.2
          omega
      have hc : ∀ n, n ≤ e → sq_cn (sq_A K (e + 1) p) n = sq_cn (sq_A K e p) n := fun n hn => sq_cn_c n (fun k hk => hA k (by omega))
      refine ⟨?_, ?_, ?_⟩
      · simp only [sq_L, sq_cn]
        rw [if_pos c, hAe, hc e (Nat.le_refl e), i1]
        simp
      · intro k hk hk1
        have k1 : k < e := by
          by_cases ke : k = e
          · rw [ke, hAe] at hk1
            exact absurd hk1 (by decide)
          · omega
        rw [hA k k1] at hk1
        simp only [sq_S]
        rw [if_pos c, hc k (by omega)]
        exact i2 k k1 hk1
      · simp only [sq_S]
        rw [if_pos c]
        exact i3
    · obtain ⟨i1, i2, i3⟩ := ih (by omega) (sq_h K e - 1) (by omega)
      have hch : sq_h K e ≤ sq_h K (e + 1) := by omega
      have hA : ∀ k, k < e → sq_A K (e + 1) p k = sq_A K e (sq_h K e - 1) k := by
        intro k hk
        rw [Bool.eq_iff_iff, sq_A_iff, sq_A_iff]
        constructor
        · intro h
          refine ⟨h.1, fun m m1 m2 => h.2.1 m m1 (by omega), ?_⟩
          have := h.2.1 e (by omega) (by omega)
          omega
        · intro h
          have h3 := h.2.1 e (by omega) (by omega)
          refine ⟨h.1, fun m m1 m2 => ?_, by omega⟩
          by_cases em : m = e + 1
          · rw [em]
            omega
          · exact h.2.1 m m1 (by omega)
      have hAe : sq_A K (e + 1) p e = decide (¬ K e < 5) := by
        rw [Bool.eq_iff_iff, sq_A_iff, decide_eq_true_iff]
        constructor
        · intro h
          exact h.1
        · intro a
          refine ⟨a, fun m m1 m2 => ?_, by omega⟩
          by_cases em : m = e + 1
          · rw [em]
            exact hch
          · have : m = e := by omega
            rw [this]
            exact Nat.le_refl _
      have hc : ∀ n, n ≤ e → sq_cn (sq_A K (e + 1) p) n = sq_cn (sq_A K e (sq_h K e - 1)) n := fun n hn => sq_cn_c n (fun k hk => hA k (by omega))
      refine ⟨?_, ?_, ?_⟩
      · simp only [sq_L, sq_cn]
        rw [if_neg c, hAe, hc e (Nat.le_refl e), ← i1]
        by_cases h5 : K e < 5
        · simp [h5]
        · simp [h5]
      · intro k hk hk1
        simp only [sq_S]
        rw [if_neg c]
        by_cases ke : k = e
        · rw [ke] at hk1 ⊢
          have h5 : ¬ K e < 5 := by
            rw [hAe] at hk1
            exact of_decide_eq_true hk1
          rw [hc e (Nat.le_refl e), ← i1, if_pos ⟨h5, rfl⟩]
        · have k1 : k < e := by omega
          rw [hA k k1] at hk1
          rw [hc k (by omega)]
          have h7 : sq_cn (sq_A K e (sq_h K e - 1)) (k + 1) ≤ sq_cn (sq_A K e (sq_h K e - 1)) e := sq_cn_le (by omega)
          have h8 : sq_cn (sq_A K e (sq_h K e - 1)) (k + 1) = sq_cn (sq_A K e (sq_h K e - 1)) k + 1 := by
            simp only [sq_cn]
            rw [if_pos hk1]
          rw [if_neg (fun hh => by have := hh.2; omega)]
          exact i2 k k1 hk1
      · simp only [sq_S]
        rw [if_neg c, if_neg (fun hh => by have := hh.2; omega)]
        exact i3
/-- at the top place of time j -/
theorem sq_Atop {K : Nat → Int32} {j k : Nat} (h0 : 0 < sq_h K j) (hk : k ≤ j) : sq_A K j (sq_h K j - 1) k = true ↔ ¬ K k < 5 ∧ sq_op K k j = true := by
  rw [sq_A_iff, sq_op_iff]
  constructor
  · intro h
    exact ⟨h.1, h.2.1⟩
  · intro h
    refine ⟨h.1, h.2, ?_⟩
    have := h.2 j hk (Nat.le_refl j)
    omega
/-- a place below the top keeps what it has -/
theorem sq_per {K : Nat → Int32} {p : Nat} (e : Nat) : ∀ d, (∀ m, e ≤ m → m < e + d → p + 1 < sq_h K m) →
    sq_L K (e + d) p = sq_L K e p ∧ (∀ Y o k, sq_S K Y o (e + d) p k = sq_S K Y o e p k) ∧ sq_O K (e + d) p = sq_O K e p := by
  intro d
  induction d with
  | zero => intro _; exact ⟨rfl, fun _ _ _ => rfl, rfl⟩
  | succ d ih =>
    intro H
    obtain ⟨i1, i2, i3⟩ := ih (fun m m1 m2 => H m m1 (by omega))
    have c := H (e + d) (by omega) (by omega)
    refine ⟨?_, fun Y o k => ?_, ?_⟩
    · rw [← i1]
      show sq_L K (e + d + 1) p = _
      simp only [sq_L]
      rw [if_pos c]
    · rw [← i2]
      show sq_S K Y o (e + d + 1) p k = _
      simp only [sq_S]
      rw [if_pos c]
    · rw [← i3]
      show sq_O K (e + d + 1) p = _
      simp only [sq_O]
      rw [if_pos c]
theorem sq_ch12 {x : Int32} (h : x = 1 ∨ x = 2) : sq_ch x = 2 := by
  rcases h with h | h <;> subst h <;> rfl
theorem sq_ch34 {x : Int32} (h : x = 3 ∨ x = 4) : sq_ch x = 0 := by
  rcases h with h | h <;> subst h <;> rfl
theorem sq_ch_le (x : Int32) : sq_ch x ≤ 2 := by
  unfold sq_ch
  repeat (first | omega | split)
theorem sq_ch1 {x : Int32} (h1 : ¬ x = 1) (h2 : ¬ x = 2) (h3 : ¬ x = 3) (h4 : ¬ x = 4) : sq_ch x = 1 := by
  unfold sq_ch
  rw [if_neg h1, if_neg h2, if_neg h3, if_neg h4]
theorem sq_chpos {x : Int32} (h3 : ¬ x = 3) (h4 : ¬ x = 4) : 0 < sq_ch x := by
  unfold sq_ch
  rw [if_neg h3, if_neg h4]
  repeat (first | omega | split)
theorem sq_ne5 {x y : Int32} (h : ¬ x < 5) (hy : y < 5) : ¬ x = y := fun e => h (e ▸ hy)
theorem sq_ch5 {x : Int32} (h : ¬ x < 5) : sq_ch x = 1 :=
  sq_ch1 (sq_ne5 h (by decide)) (sq_ne5 h (by decide)) (sq_ne5 h (by decide)) (sq_ne5 h (by decide))
def sq_Rt (K : Nat → Int32) (j r : Nat) : Prop := j < r ∧ sq_h K r = sq_h K j ∧ ∀ m, j < m → m < r → sq_h K j < sq_h K m
theorem sq_right {K xs ys : Nat → Int32} {N : Nat} (T : sq_T K xs ys N) (hN : sq_h K N = 0) {j : Nat} (hj : j < N) (k12 : K j = 1 ∨ K j = 2) :
    ∃ r, r < N ∧ sq_Rt K j r := by
  have h0 := T.1 j hj
  obtain ⟨r, ⟨r1, r2⟩, r3⟩ := pk_least (fun m => j < m ∧ sq_h K m ≤ sq_h K j) ⟨N, hj, by omega⟩
  have hb : ∀ m, j < m → m < r → sq_h K j < sq_h K m := by
    intro m m1 m2
    by_cases c : sq_h K m ≤ sq_h K j
    · exact absurd ⟨m1, c⟩ (r3 m m2)
    · omega
  have hrN : r ≤ N := by
    by_cases c : N < r
    · exact absurd ⟨hj, by omega⟩ (r3 N c)
    · omega
  obtain ⟨m, rfl⟩ : ∃ m, r = m + 1 := ⟨r - 1, by omega⟩
  have hs : sq_h K (m + 1) = sq_h K m - 1 + sq_ch (K m) := rfl
  have hm : m ≠ j := by
    intro e
    rw [e, sq_ch12 k12] at hs
    rw [e] at r2
    omega
  have hm2 := hb m (by omega) (by omega)
  have he : sq_h K (m + 1) = sq_h K j := by omega
  refine ⟨m + 1, ?_, r1, he, hb⟩
  by_cases c : m + 1 = N
  · rw [c] at he
    omega
  · omega
theorem sq_Rt_u {K : Nat → Int32} {j r r' : Nat} (h : sq_Rt K j r) (h' : sq_Rt K j r') : r = r' := by
  by_cases a : r < r'
  · have := h'.2.2 r h.1 a
    have := h.2.1
    omega
  · by_cases b : r' < r
    · have := h.2.2 r' h'.1 b
      have := h'.2.1
      omega
    · omega
theorem sq_kid {K xs ys : Nat → Int32} {N : Nat} (T : sq_T K xs ys N) (hN : sq_h K N = 0) {j : Nat} (hj : j < N) (hc : 0 < sq_ch (K j)) : j + 1 < N := by
  have h0 := T.1 j hj
  have hs := sq_hS K j
  by_cases c : j + 1 = N
  · rw [c] at hs
    omega
  · omega
theorem sq_kidL {K : Nat → Int32} {j : Nat} (h0 : 0 < sq_h K j) (hc : 0 < sq_ch (K j)) : sq_Lv K (j + 1) = sq_Lv K j + (if K j < 5 then 0 else 1) := by
  have hs := sq_hS K j
  unfold sq_Lv
  simp only [sq_L]
  rw [if_neg (by omega)]
theorem sq_kidS {K Y : Nat → Int32} {o j k : Nat} (h0 : 0 < sq_h K j) (hc : 0 < sq_ch (K j)) : sq_Sc K Y o (j + 1) k = if ¬ K j < 5 ∧ k = sq_Lv K j + 1 then (Y j).toNatClampNeg / 2 else sq_Sc K Y o j k := by
  have hs := sq_hS K j
  unfold sq_Sc sq_Lv
  simp only [sq_S]
  rw [if_neg (by omega)]
theorem sq_lt5 {x : Int32} (h : x = 1 ∨ x = 2) : x < 5 := by
  rcases h with h | h <;> subst h <;> decide
theorem sq_rtL {K : Nat → Int32} {j r : Nat} (h0 : 0 < sq_h K j) (k12 : K j = 1 ∨ K j = 2) (R : sq_Rt K j r) :
    sq_Lv K r = sq_Lv K j ∧ (∀ Y o k, sq_Sc K Y o r k = sq_Sc K Y o j k) ∧ sq_O K r (sq_h K r - 1) = nI j := by
  obtain ⟨r1, r2, r3⟩ := R
  obtain ⟨d, rfl⟩ : ∃ d, r = j + 1 + d := ⟨r - (j + 1), by omega⟩
  have h5 := sq_lt5 k12
  have P := sq_per (K := K) (p := sq_h K j - 1) (j + 1) d (fun m m1 m2 => by have := r3 m (by omega) m2; omega)
  refine ⟨?_, fun Y o k => ?_, ?_⟩
  · unfold sq_Lv
    rw [r2, P.1]
    simp only [sq_L]
    rw [if_neg (by omega), if_pos h5]
    rfl
  · unfold sq_Sc
    rw [r2, P.2.1]
    simp only [sq_S]
    rw [if_neg (by omega), if_neg (fun hh => hh.1 h5)]
  · rw [r2, P.2.2]
    simp only [sq_O]
    rw [if_neg (by omega), if_pos ⟨k12, by omega⟩]
/-- who owns an open place -/
theorem sq_own {K : Nat → Int32} {N : Nat} (T : ∀ e, e < N → 0 < sq_h K e) : ∀ e, e ≤ N → ∀ p, p < sq_h K e →
    sq_O K e p = -1 ∨ ∃ j, j < e ∧ (K j = 1 ∨ K j = 2) ∧ sq_O K e p = nI j ∧ p + 1 = sq_h K j ∧ (∀ m, j < m → m < e → sq_h K j < sq_h K m) := by
  intro e
  induction e with
  | zero => intro _ p _; exact Or.inl rfl
  | succ e ih =>
    intro he p hp
    have h0 := T e (by omega)
    have hs := sq_hS K e
    simp only [sq_O]
    by_cases c : p + 1 < sq_h K e
    · rw [if_pos c]
      rcases ih (by omega) p (by omega) with h | ⟨j, j1, j2, j3, j4, j5⟩
      · exact Or.inl h
      · refine Or.inr ⟨j, by omega, j2, j3, j4, fun m m1 m2 => ?_⟩
        by_cases em : m = e
        · rw [em]
          omega
        · exact j5 m m1 (by omega)
    · rw [if_neg c]
      by_cases d : (K e = 1 ∨ K e = 2) ∧ p + 1 = sq_h K e
      · rw [if_pos d]
        exact Or.inr ⟨e, by omega, d.1, rfl, d.2, fun m m1 m2 => absurd m1 (by omega)⟩
      · rw [if_neg d]
        exact Or.inl rfl
end
section
/-! one pure value of a node, for both sides -/
def sq_cmp (op u v : Int32) : Int32 :=
  if u = -1 then 1 else if v = -1 then 1 else if op = 0 then (if u = v then 2 else 0) else if op = 1 then (if u = v then 0 else 2) else if op = 2 then (if v ≤ u then 0 else 2) else if op = 3 then (if v < u then 0 else 2) else if op = 4 then (if u ≤ v then 0 else 2) else (if u < v then 0 else 2)
def sq_v3 (x : Int32) : Prop := x = 0 ∨ x = 1 ∨ x = 2
theorem sq_v30 : sq_v3 0 := Or.inl rfl
theorem sq_v31 : sq_v3 1 := Or.inr (Or.inl rfl)
theorem sq_v32 : sq_v3 2 := Or.inr (Or.inr rfl)
theorem sq_v3_if {c : Prop} [Decidable c] {a b : Int32} (ha : sq_v3 a) (hb : sq_v3 b) : sq_v3 (if c then a else b) := by
  by_cases h : c
  · rw [if_pos h]; exact ha
  · rw [if_neg h]; exact hb
theorem sq_v3_sub {a : Int32} (h : sq_v3 a) : sq_v3 (2 - a) := by
  rcases h with h | h | h <;> subst h
  · exact sq_v32
  · exact sq_v31
  · exact sq_v30
theorem sq_cmp3 (op u v : Int32) : sq_v3 (sq_cmp op u v) := by
  unfold sq_cmp
  exact sq_v3_if sq_v31 (sq_v3_if sq_v31 (sq_v3_if (sq_v3_if sq_v32 sq_v30) (sq_v3_if (sq_v3_if sq_v30 sq_v32) (sq_v3_if (sq_v3_if sq_v30 sq_v32) (sq_v3_if (sq_v3_if sq_v30 sq_v32) (sq_v3_if (sq_v3_if sq_v30 sq_v32) (sq_v3_if sq_v30 sq_v32)))))))
def sq_gf {σ : Type} (t : Nat → Bool) (f : Nat → σ → σ) (z : σ) : Nat → σ
  | 0 => z
  | n + 1 => if t n = true then f n (sq_gf t f z n) else sq_gf t f z n
theorem sq_gf_t {σ : Type} {t : Nat → Bool} {f : Nat → σ → σ} {z : σ} {n : Nat} (h : t n = true) : sq_gf t f z (n + 1) = f n (sq_gf t f z n) := if_pos h
theorem sq_gf_f {σ : Type} {t : Nat → Bool} {f : Nat → σ → σ} {z : σ} {n : Nat} (h : ¬ t n = true) : sq_gf t f z (n + 1) = sq_gf t f z n := if_neg h
theorem sq_gf_c {σ : Type} {t t' : Nat → Bool} {f f' : Nat → σ → σ} {z : σ} : ∀ n, (∀ k, k < n → t k = t' k) → (∀ k, k < n → f k = f' k) → sq_gf t f z n = sq_gf t' f' z n := by
  intro n
  induction n with
  | zero => intro _ _; rfl
  | succ n ih =>
    intro H G
    have h1 := ih (fun k hk => H k (by omega)) (fun k hk => G k (by omega))
    have h2 := H n (by omega)
    have h3 := G n (by omega)
    simp only [sq_gf, h1, h2, h3]
theorem sq_gf_x {σ : Type} {t : Nat → Bool} {f : Nat → σ → σ} {z : σ} {c : Nat} (H : ∀ k, c ≤ k → ¬ t k = true) : ∀ d, sq_gf t f z (c + d) = sq_gf t f z c := by
  intro d
  induction d with
  | zero => rfl
  | succ d ih =>
    rw [← ih]
    exact sq_gf_f (H (c + d) (by omega))
theorem sq_gf_p {σ : Type} {t : Nat → Bool} {f : Nat → σ → σ} {z : σ} (P : σ → Prop) (hz : P z) (hs : ∀ n a, P a → P (f n a)) : ∀ n, P (sq_gf t f z n) := by
  intro n
  induction n with
  | zero => exact hz
  | succ n ih =>
    by_cases h : t n = true
    · rw [sq_gf_t h]; exact hs n _ ih
    · rw [sq_gf_f h]; exact ih
def sq_sc (_ : Nat) (a : Nat) : Nat := a + 1
def sq_sf (s : Nat → Int32) (n : Nat) (a : Nat) : Nat := if s n = -1 then a else a + 1
def sq_sm (s : Nat → Int32) (n : Nat) (a : Int32) : Int32 := if s n ≤ a then a else s n
def sq_si (x : Int32) (s : Nat → Int32) (n : Nat) (a : Int32) : Int32 := if sq_cmp 0 x (s n) ≤ a then a else sq_cmp 0 x (s n)
def sq_sa (op x : Int32) (s : Nat → Int32) (n : Nat) (a : Int32) : Int32 := if a ≤ sq_cmp op x (s n) then a else sq_cmp op x (s n)
def sq_sb (n : Nat) (a : Nat) : Nat := a ||| 2 ^ n
def sq_fc (t : Nat → Bool) (n : Nat) : Nat := sq_gf t sq_sc 0 n
def sq_ff (t : Nat → Bool) (s : Nat → Int32) (n : Nat) : Nat := sq_gf t (sq_sf s) 0 n
def sq_fm (t : Nat → Bool) (s : Nat → Int32) (n : Nat) : Int32 := sq_gf t (sq_sm s) (-1) n
def sq_fi (x : Int32) (t : Nat → Bool) (s : Nat → Int32) (n : Nat) : Int32 := sq_gf t (sq_si x s) 0 n
def sq_fa (op x : Int32) (t : Nat → Bool) (s : Nat → Int32) (n : Nat) : Int32 := sq_gf t (sq_sa op x s) 2 n
def sq_mk (t : Nat → Bool) (n : Nat) : Nat := sq_gf t sq_sb 0 n
theorem sq_fc_le (t : Nat → Bool) : ∀ n, sq_fc t n ≤ n := by
  intro n
  induction n with
  | zero => exact Nat.le_refl 0
  | succ n ih =>
    by_cases h : t n = true
    · have e : sq_fc t (n + 1) = sq_fc t n + 1 := sq_gf_t h
      omega
    · have e : sq_fc t (n + 1) = sq_fc t n := sq_gf_f h
      omega
theorem sq_mk_t {t : Nat → Bool} {n : Nat} (h : t n = true) : sq_mk t (n + 1) = sq_mk t n ||| 2 ^ n := sq_gf_t h
theorem sq_mk_f {t : Nat → Bool} {n : Nat} (h : ¬ t n = true) : sq_mk t (n + 1) = sq_mk t n := sq_gf_f h
theorem sq_fc_t {t : Nat → Bool} {n : Nat} (h : t n = true) : sq_fc t (n + 1) = sq_fc t n + 1 := sq_gf_t h
theorem sq_fc_f {t : Nat → Bool} {n : Nat} (h : ¬ t n = true) : sq_fc t (n + 1) = sq_fc t n := sq_gf_f h
theorem sq_sf_t {s : Nat → Int32} {n a : Nat} (h : s n = -1) : sq_sf s n a = a := if_pos h
theorem sq_sf_f {s : Nat → Int32} {n a : Nat} (h : ¬ s n = -1) : sq_sf s n a = a + 1 := if_neg h
theorem sq_sm_t {s : Nat → Int32} {n : Nat} {a : Int32} (h : s n ≤ a) : sq_sm s n a = a := if_pos h
theorem sq_sm_f {s : Nat → Int32} {n : Nat} {a : Int32} (h : ¬ s n ≤ a) : sq_sm s n a = s n := if_neg h
theorem sq_si_t {x : Int32} {s : Nat → Int32} {n : Nat} {a : Int32} (h : sq_cmp 0 x (s n) ≤ a) : sq_si x s n a = a := if_pos h
theorem sq_si_f {x : Int32} {s : Nat → Int32} {n : Nat} {a : Int32} (h : ¬ sq_cmp 0 x (s n) ≤ a) : sq_si x s n a = sq_cmp 0 x (s n) := if_neg h
theorem sq_sa_t {p x : Int32} {s : Nat → Int32} {n : Nat} {a : Int32} (h : a ≤ sq_cmp p x (s n)) : sq_sa p x s n a = a := if_pos h
theorem sq_sa_f {p x : Int32} {s : Nat → Int32} {n : Nat} {a : Int32} (h : ¬ a ≤ sq_cmp p x (s n)) : sq_sa p x s n a = sq_cmp p x (s n) := if_neg h
theorem sq_mk_bit (t : Nat → Bool) (k : Nat) : ∀ n, (sq_mk t n).testBit k = (decide (k < n) && t k) := by
  intro n
  induction n with
  | zero =>
    show Nat.testBit 0 k = _
    rw [Nat.zero_testBit]
    simp
  | succ n ih =>
    by_cases h : t n = true
    · rw [sq_mk_t h, Nat.testBit_or, ih, Nat.testBit_two_pow]
      by_cases e : n = k
      · subst e
        simp [h]
      · by_cases l : k < n
        · have l' : k < n + 1 := by omega
          simp [l, l', e]
        · have l' : ¬ k < n + 1 := by omega
          simp [l, l', e]
    · rw [sq_mk_f h, ih]
      by_cases e : n = k
      · subst e
        simp [h]
      · by_cases l : k < n
        · have l' : k < n + 1 := by omega
          simp [l, l']
        · have l' : ¬ k < n + 1 := by omega
          simp [l, l']
theorem sq_mk_lt (t : Nat → Bool) : ∀ n, sq_mk t n < 2 ^ n := by
  intro n
  induction n with
  | zero => exact Nat.lt_succ_self 0
  | succ n ih =>
    have h2 : 2 ^ n < 2 ^ (n + 1) := by rw [Nat.pow_succ]; have := Nat.two_pow_pos n; omega
    by_cases h : t n = true
    · rw [sq_mk_t h]
      exact Nat.or_lt_two_pow (Nat.lt_trans ih h2) h2
    · rw [sq_mk_f h]
      exact Nat.lt_trans ih h2
theorem sq_mk_256 (t : Nat → Bool) {n : Nat} (h : n ≤ 8) : sq_mk t n < 256 :=
  Nat.lt_of_lt_of_le (sq_mk_lt t n) (Nat.pow_le_pow_right (by decide) h)
theorem sq_mk_0 (t : Nat → Bool) : ∀ n, sq_mk t n = 0 ↔ sq_fc t n = 0 := by
  intro n
  induction n with
  | zero => exact ⟨fun _ => rfl, fun _ => rfl⟩
  | succ n ih =>
    by_cases h : t n = true
    · rw [sq_mk_t h, sq_fc_t h]
      constructor
      · intro e
        have := congrArg (fun z => Nat.testBit z n) e
        simp only [Nat.testBit_or, Nat.testBit_two_pow, Nat.zero_testBit] at this
        simp at this
      · intro e
        omega
    · rw [sq_mk_f h, sq_fc_f h]
      exact ih
def sq_sub (k op x : Int32) (t : Nat → Bool) (s : Nat → Int32) (c : Nat) : Int32 :=
  if k = 5 then (if sq_fc t c = 0 then 0 else 2) else if k = 6 then sq_fi x t s c else if k = 7 then 2 - sq_fi x t s c else if k = 8 then sq_fa op x t s c else if k = 9 then sq_cmp op x (nI (sq_fc t c)) else if k = 10 then sq_cmp op x (nI (sq_ff t s c)) else sq_cmp op x (sq_fm t s c)
def sq_nv (k op xv yv a b : Int32) (t : Nat → Bool) (s : Nat → Int32) (c : Nat) : Int32 :=
  if k = 0 then 2 - a else if k = 3 then sq_cmp op xv yv else if k = 4 then (if xv = -1 then 2 else 0) else if k = 1 then (if b ≤ a then b else a) else if k = 2 then (if a ≤ b then b else a) else sq_sub k op xv t s c
theorem sq_sub_c {k op x : Int32} {t t' : Nat → Bool} {s s' : Nat → Int32} {c : Nat} (ht : ∀ r, r < c → t r = t' r) (hs : ∀ r, r < c → s r = s' r) : sq_sub k op x t s c = sq_sub k op x t' s' c := by
  have e1 : sq_fc t c = sq_fc t' c := sq_gf_c c ht (fun _ _ => rfl)
  have e2 : sq_ff t s c = sq_ff t' s' c := sq_gf_c c ht (fun r hr => by funext a; unfold sq_sf; rw [hs r hr])
  have e3 : sq_fm t s c = sq_fm t' s' c := sq_gf_c c ht (fun r hr => by funext a; unfold sq_sm; rw [hs r hr])
  have e4 : sq_fi x t s c = sq_fi x t' s' c := sq_gf_c c ht (fun r hr => by funext a; unfold sq_si; rw [hs r hr])
  have e5 : sq_fa op x t s c = sq_fa op x t' s' c := sq_gf_c c ht (fun r hr => by funext a; unfold sq_sa; rw [hs r hr])
  unfold sq_sub
  rw [e1, e2, e3, e4, e5]
theorem sq_ge5 {k : Int32} (h : ¬ k < 0) (n0 : ¬ k = 0) (n1 : ¬ k = 1) (n2 : ¬ k = 2) (n3 : ¬ k = 3) (n4 : ¬ k = 4) : ¬ k < 5 := by
  obtain ⟨m, hm, rfl⟩ := nI_of h
  intro l
  have l5 : m < 5 := (nI_ltI (b := 5) hm (by omega)).mp l
  rcases (by omega : m = 0 ∨ m = 1 ∨ m = 2 ∨ m = 3 ∨ m = 4) with e | e | e | e | e <;> subst e
  · exact n0 rfl
  · exact n1 rfl
  · exact n2 rfl
  · exact n3 rfl
  · exact n4 rfl
theorem sq_nv_c {k op xv yv yv' a a' b b' : Int32} {t t' : Nat → Bool} {s s' : Nat → Int32} {c : Nat} (hk : ¬ k < 0)
    (hy : k = 3 → yv = yv') (ha : ¬ k = 3 → ¬ k = 4 → k < 5 → a = a') (hb : (k = 1 ∨ k = 2) → b = b')
    (h5 : ¬ k < 5 → (∀ r, r < c → t r = t' r) ∧ (∀ r, r < c → s r = s' r)) : sq_nv k op xv yv a b t s c = sq_nv k op xv yv' a' b' t' s' c := by
  unfold sq_nv
  by_cases n0 : k = 0
  · rw [if_pos n0, if_pos n0, ha (by rw [n0]; decide) (by rw [n0]; decide) (by rw [n0]; decide)]
  · rw [if_neg n0, if_neg n0]
    by_cases n3 : k = 3
    · rw [if_pos n3, if_pos n3, hy n3]
    · rw [if_neg n3, if_neg n3]
      by_cases n4 : k = 4
      · rw [if_pos n4, if_pos n4]
      · rw [if_neg n4, if_neg n4]
        by_cases n1 : k = 1
        · rw [if_pos n1, if_pos n1, ha n3 n4 (by rw [n1]; decide), hb (Or.inl n1)]
        · rw [if_neg n1, if_neg n1]
          by_cases n2 : k = 2
          · rw [if_pos n2, if_pos n2, ha n3 n4 (by rw [n2]; decide), hb (Or.inr n2)]
          · rw [if_neg n2, if_neg n2]
            have h := h5 (sq_ge5 hk n0 n1 n2 n3 n4)
            exact sq_sub_c h.1 h.2
theorem sq_nv3 {k op xv yv a b : Int32} {t : Nat → Bool} {s : Nat → Int32} {c : Nat} (hk : ¬ k < 0) (ha : ¬ k = 3 → ¬ k = 4 → k < 5 → sq_v3 a) (hb : (k = 1 ∨ k = 2) → sq_v3 b) : sq_v3 (sq_nv k op xv yv a b t s c) := by
  have fi3 : sq_v3 (sq_fi xv t s c) := sq_gf_p sq_v3 sq_v30 (fun n a h => sq_v3_if h (sq_cmp3 _ _ _)) c
  have fa3 : sq_v3 (sq_fa op xv t s c) := sq_gf_p sq_v3 sq_v32 (fun n a h => sq_v3_if h (sq_cmp3 _ _ _)) c
  unfold sq_nv
  by_cases n0 : k = 0
  · rw [if_pos n0]
    exact sq_v3_sub (ha (by rw [n0]; decide) (by rw [n0]; decide) (by rw [n0]; decide))
  · rw [if_neg n0]
    by_cases n3 : k = 3
    · rw [if_pos n3]
      exact sq_cmp3 _ _ _
    · rw [if_neg n3]
      by_cases n4 : k = 4
      · rw [if_pos n4]
        exact sq_v3_if sq_v32 sq_v30
      · rw [if_neg n4]
        by_cases n1 : k = 1
        · rw [if_pos n1]
          exact sq_v3_if (hb (Or.inl n1)) (ha n3 n4 (by rw [n1]; decide))
        · rw [if_neg n1]
          by_cases n2 : k = 2
          · rw [if_pos n2]
            exact sq_v3_if (hb (Or.inr n2)) (ha n3 n4 (by rw [n2]; decide))
          · rw [if_neg n2]
            unfold sq_sub
            exact sq_v3_if (sq_v3_if sq_v30 sq_v32) (sq_v3_if fi3 (sq_v3_if (sq_v3_sub fi3) (sq_v3_if fa3 (sq_v3_if (sq_cmp3 _ _ _) (sq_v3_if (sq_cmp3 _ _ _) (sq_cmp3 _ _ _))))))
/-! the value of an operand; contexts -/
def sq_ov (c : Nat → Int32) (s r : Nat → Nat) (q : Int32) : Int32 :=
  if 100 ≤ q then c (s ((q.toNatClampNeg - 100) / 2) * 16 + r ((q.toNatClampNeg - 100) / 2) * 2 + q.toNatClampNeg % 2) else q
def sq_r3 (r0 r1 r2 k : Nat) : Nat := if k = 0 then r0 else if k = 1 then r1 else r2
theorem sq_shr7 {c k e : Nat} {s : Int32} (hc : c < 512) (hs : (s.toBitVec.smod 32).toNat = k) (he : c / 2 ^ k % 8 = e) : (nI c >>> s) &&& 7 = nI e := by
  rw [pk_shrN (by omega) s k hs, pk_andN (k := 3) (Nat.lt_of_le_of_lt (Nat.div_le_self _ _) (by omega)) (by decide), ← he]
theorem sq_ctx {r0 r1 r2 k : Nat} (h0 : r0 < 8) (h1 : r1 < 8) (h2 : r2 < 8) (hk : k ≤ 2) : (nI (r0 * 64 + r1 * 8 + r2) >>> ((6 - (3 * nI k)) &&& 31)) &&& 7 = nI (sq_r3 r0 r1 r2 k) := by
  rcases (by omega : k = 0 ∨ k = 1 ∨ k = 2) with e | e | e <;> subst e
  · exact sq_shr7 (k := 6) (by omega) (by decide) (by show _ = r0; omega)
  · exact sq_shr7 (k := 3) (by omega) (by decide) (by show _ = r1; omega)
  · exact sq_shr7 (k := 0) (by omega) (by decide) (by show _ = r2; omega)
theorem sq_or (a b : Nat) : nI a ||| nI b = nI (a ||| b) := by
  apply Int32.toBitVec_inj.1
  show BitVec.ofNat 32 a ||| BitVec.ofNat 32 b = BitVec.ofNat 32 (a ||| b)
  apply BitVec.eq_of_getLsbD_eq
  intro i hi
  simp [hi]
theorem sq_one {r : Nat} (h : r < 8) : (1 : Int32) <<< (nI r &&& 31) = nI (2 ^ r) := by
  have h2 : 1 * 2 ^ r < 2 ^ 32 := by
    have : 2 ^ r < 2 ^ 8 := Nat.pow_lt_pow_right (by decide) h
    omega
  have e := pk_shlN (n := 1) (nI r &&& 31) r (s_l r (by omega)) h2
  rw [Nat.one_mul] at e
  exact e
theorem sq_bit {m r : Nat} (hm : m < 256) (hr : r < 8) : ((nI m >>> (nI r &&& 31)) &&& 1) = 1 ↔ m.testBit r = true := by
  have h : m / 2 ^ r % 2 < 2147483648 := by omega
  rw [pk_shrN (by omega) (nI r &&& 31) r (s_l r (by omega)), pk_andN (k := 1) (Nat.lt_of_le_of_lt (Nat.div_le_self _ _) (by omega)) (by decide)]
  show nI (m / 2 ^ r % 2) = nI 1 ↔ _
  rw [nI_eq (by omega) (by omega), Nat.testBit_eq_decide_div_mod_eq, decide_eq_true_iff]
/-! the columns of X -/
def sq_ix (j r0 r1 r2 : Nat) : Nat := j * 512 + (r0 * 64 + r1 * 8 + r2)
def sq_st (l : Nat) : Nat := if l = 0 then 8 else 1
def sq_sv (c : Nat → Int32) (y r : Nat) : Int32 := c (y / 2 * 16 + r * 2 + y % 2)
def sq_NX (cx sz ks os xs ys rt tr : Nat → Int32) (o j r0 r1 r2 : Nat) : Int32 :=
  sq_nv (ks j) (os j) (sq_ov cx (sq_Sc ks ys o j) (sq_r3 r0 r1 r2) (xs j)) (sq_ov cx (sq_Sc ks ys o j) (sq_r3 r0 r1 r2) (ys j))
    (tr (sq_ix (j + 1) r0 r1 r2)) (tr (sq_ix (rt j).toNatClampNeg r0 r1 r2))
    (fun r => decide (tr (sq_ix (j + 1) r0 r1 r2 + r * sq_st (sq_Lv ks j)) = 2)) (sq_sv cx (ys j).toNatClampNeg) (sz ((ys j).toNatClampNeg / 2)).toNatClampNeg
def sq_ct (sz ks ys : Nat → Int32) (o j k : Nat) : Nat := if k ≤ sq_Lv ks j then (sz (sq_Sc ks ys o j k)).toNatClampNeg else 1
end
section
/-! X: the value of a node in a context -/
section
variable {rc nc bg ou q0 q1 nn op : Int32} {cx sz rs tl ks os xs ys lv rt sc pL pO pS tr : Nat → Int32}
theorem xw_compare {post : Int32 → Prop} {p u v : Int32} (hp : post (sq_cmp p u v)) : wpX_compare post (rc, nc, bg, ou, q0, q1, nn, op, cx, sz, rs, tl, ks, os, xs, ys, lv, rt, sc, pL, pO, pS, tr) p u v := by
  unfold sq_cmp at hp
  refine br_c (fun h1 => ?_) (fun h1 => br_c (fun h2 => ?_) (fun h2 => ?_))
  · rw [if_pos h1] at hp
    exact hp
  · rw [if_neg h1, if_pos h2] at hp
    exact hp
  · rw [if_neg h1, if_neg h2] at hp
    refine br_c (fun a => ?_) (fun a => br_c (fun a => ?_) (fun b => br_c (fun e => ?_) (fun n0 => br_c (fun e => ?_) (fun n1 => br_c (fun e => ?_) (fun n2 => br_c (fun e => ?_) (fun n3 => br_c (fun e => ?_) (fun n4 => trivial)))))))
    · have n0 : ¬ p = 0 := fun e => by rw [e] at a; exact absurd a (by decide)
      have n1 : ¬ p = 1 := fun e => by rw [e] at a; exact absurd a (by decide)
      have n2 : ¬ p = 2 := fun e => by rw [e] at a; exact absurd a (by decide)
      have n3 : ¬ p = 3 := fun e => by rw [e] at a; exact absurd a (by decide)
      have n4 : ¬ p = 4 := fun e => by rw [e] at a; exact absurd a (by decide)
      rw [if_neg n0, if_neg n1, if_neg n2, if_neg n3, if_neg n4] at hp
      refine br_c (fun c => ?_) (fun c => ?_)
      · rw [if_pos c] at hp
        exact br_t rfl hp
      · rw [if_neg c] at hp
        exact br_f (by decide) hp
    · have n0 : ¬ p = 0 := fun e => by rw [e] at a; exact absurd a (by decide)
      have n1 : ¬ p = 1 := fun e => by rw [e] at a; exact absurd a (by decide)
      have n2 : ¬ p = 2 := fun e => by rw [e] at a; exact absurd a (by decide)
      have n3 : ¬ p = 3 := fun e => by rw [e] at a; exact absurd a (by decide)
      have n4 : ¬ p = 4 := fun e => by rw [e] at a; exact absurd a (by decide)
      rw [if_neg n0, if_neg n1, if_neg n2, if_neg n3, if_neg n4] at hp
      refine br_c (fun c => ?_) (fun c => ?_)
      · rw [if_pos c] at hp
        exact br_t rfl hp
      · rw [if_neg c] at hp
        exact br_f (by decide) hp
    · rw [if_pos e] at hp
      refine br_c (fun c => ?_) (fun c => ?_)
      · rw [if_pos c] at hp
        exact br_f (by decide) hp
      · rw [if_neg c] at hp
        exact br_t rfl hp
    · rw [if_neg n0, if_pos e] at hp
      refine br_c (fun c => ?_) (fun c => ?_)
      · rw [if_pos c] at hp
        exact br_t rfl hp
      · rw [if_neg c] at hp
        exact br_f (by decide) hp
    · rw [if_neg n0, if_neg n1, if_pos e] at hp
      refine br_c (fun c => ?_) (fun c => ?_)
      · rw [if_pos c] at hp
        exact br_t rfl hp
      · rw [if_neg c] at hp
        exact br_f (by decide) hp
    · rw [if_neg n0, if_neg n1, if_neg n2, if_pos e] at hp
      refine br_c (fun c => ?_) (fun c => ?_)
      · rw [if_pos c] at hp
        exact br_t rfl hp
      · rw [if_neg c] at hp
        exact br_f (by decide) hp
    · rw [if_neg n0, if_neg n1, if_neg n2, if_neg n3, if_pos e] at hp
      refine br_c (fun c => ?_) (fun c => ?_)
      · rw [if_pos c] at hp
        exact br_t rfl hp
      · rw [if_neg c] at hp
        exact br_f (by decide) hp
theorem sq_half {m : Nat} (h : m < 2147483648) : nI m / 2 = nI (m / 2) := pk_div (d := 2) (by omega) (by omega) (by omega)
theorem sq_odd {m : Nat} (h : m < 2147483648) : nI m - nI m / 2 * 2 = nI (m % 2) := pk_rem (d := 2) (by omega) (by omega) (by omega)
theorem sq_k100 {m : Nat} (h : m < 2147483648) (h1 : 100 ≤ m) : (nI m - 100) / 2 = nI ((m - 100) / 2) := by
  have e : nI m - 100 = nI (m - 100) := pk_sub (b := 100) h1
  rw [e]
  exact sq_half (by omega)
theorem sq_j3 (j k : Nat) : nI j * 3 + nI k = nI (j * 3 + k) := by
  rw [zz_lit3, pk_mul, nI_add]
theorem sq_cell (t r b : Nat) : nI t * 16 + nI r * 2 + nI b = nI (t * 16 + r * 2 + b) := by
  rw [zz_lit16, zz_lit2, pk_mul, pk_mul, nI_add, nI_add]
theorem xw_source {post : Int32 → Prop} {y r : Nat} (hy : y ≤ 5) (hr : r < 8) (hp : post (sq_sv cx y r)) : wpX_sourceValue post (rc, nc, bg, ou, q0, q1, nn, op, cx, sz, rs, tl, ks, os, xs, ys, lv, rt, sc, pL, pO, pS, tr) (nI y) (nI r) := by
  have e : nI y / 2 * 16 + nI r * 2 + (nI y - nI y / 2 * 2) = nI (y / 2 * 16 + r * 2 + y % 2) := by
    rw [sq_odd (by omega), sq_half (by omega), sq_cell]
  refine ⟨by decide, by decide, zz_in e (by omega) (by omega), ?_⟩
  rw [zz_cl e (by omega)]
  exact hp
theorem xw_operand {post : Int32 → Prop} {j l r0 r1 r2 : Nat} {q : Int32} {s : Nat → Nat} (hj : j < 16) (hl : l ≤ 2) (hq : sq_OpOK q l)
    (hs : ∀ k, k ≤ l → sc (j * 3 + k) = nI (s k)) (hs3 : ∀ k, k ≤ l → s k < 3) (h0 : r0 < 8) (h1 : r1 < 8) (h2 : r2 < 8)
    (hp : post (sq_ov cx s (sq_r3 r0 r1 r2) q)) : wpX_operandValue post (rc, nc, bg, ou, q0, q1, nn, op, cx, sz, rs, tl, ks, os, xs, ys, lv, rt, sc, pL, pO, pS, tr) (nI j) q (nI (r0 * 64 + r1 * 8 + r2)) := by
  unfold sq_ov at hp
  rcases hq with hq | ⟨m, rfl, m1, m2⟩
  · rw [if_neg hq] at hp
    exact br_f hq hp
  · have hm : (100 : Int32) ≤ nI m := nI_le (a := 100) m1 (by omega)
    rw [if_pos hm, nI_clamp (by omega)] at hp
    have hk : (m - 100) / 2 ≤ l := by omega
    have e4 := sq_k100 (m := m) (by omega) m1
    generalize (m - 100) / 2 = k at hp hk e4
    refine br_t hm ⟨by decide, nm_r e4 (nm_r (sq_ctx h0 h1 h2 (by omega)) ?_)⟩
    have hs1 := hs k hk
    have hs2 := hs3 k hk
    have hr : sq_r3 r0 r1 r2 k < 8 := by
      unfold sq_r3
      repeat (first | omega | split)
    generalize sq_r3 r0 r1 r2 k = rk at hp hr
    have e6 := sq_j3 j k
    have e7 : sc (nI j * 3 + nI k).toNatClampNeg = nI (s k) := by rw [e6, nI_clamp (by omega), hs1]
    have e8 : sc (nI j * 3 + nI k).toNatClampNeg * 16 + nI rk * 2 + (nI m - nI m / 2 * 2) = nI (s k * 16 + rk * 2 + m % 2) := by
      rw [e7, sq_odd (by omega), sq_cell]
    refine ⟨zz_in e6 (by omega) (by omega), by decide, zz_in e8 (by omega) (by omega), ?_⟩
    rw [zz_cl e8 (by omega)]
    exact hp
theorem xw_taken48 {post : Int32 → Prop} {b st c : Nat} {t : Nat → Bool} (hb : b < 16384) (hst : st ≤ 8) (hc : c ≤ 8) (hi : ∀ r, r < c → b + r * st < 8192) (ht : ∀ r, r < c → (t r = true ↔ tr (b + r * st) = 2))
    (hp : post (nI (sq_mk t c))) : ∀ d r n, r + d = c → d < n → wX_takenRows_48 post (nI b) (nI st) (nI c) rc nc bg ou q0 q1 nn op cx sz rs tl ks os xs ys lv rt sc pL pO pS tr n (nI (sq_mk t r)) (nI r) := by
  intro d
  induction d with
  | zero =>
    intro r n hr hn
    obtain ⟨n, rfl⟩ : ∃ m, n = m + 1 := ⟨n - 1, by omega⟩
    have : r = c := by omega
    subst this
    exact br_t (nI_le (Nat.le_refl _) (by omega)) hp
  | succ d ih =>
    intro r n hr hn
    obtain ⟨n, rfl⟩ : ∃ m, n = m + 1 := ⟨n - 1, by omega⟩
    have e : nI b + nI r * nI st = nI (b + r * st) := by rw [pk_mul, nI_add]
    have hir := hi r (by omega)
    refine br_f (nI_ge (by omega) (by omega)) ⟨zz_in e hir (by omega), ?_⟩
    rw [zz_cl e (by omega)]
    by_cases z : tr (b + r * st) = 2
    · have tz := (ht r (by omega)).mpr z
      have e1 : nI (sq_mk t r) ||| ((1 : Int32) <<< (nI r &&& 31)) = nI (sq_mk t (r + 1)) := by
        rw [sq_one (by omega), sq_or, sq_mk_t tz]
      exact br_t z (nm_r e1 (nm_r (nI_1 r) (ih (r + 1) n (by omega) (by omega))))
    · have tz : ¬ t r = true := fun h => z ((ht r (by omega)).mp h)
      have e1 : sq_mk t (r + 1) = sq_mk t r := sq_gf_f tz
      have := ih (r + 1) n (by omega) (by omega)
      rw [e1] at this
      exact br_f z (nm_r (nI_1 r) this)
theorem sq_b8 {t : Nat → Bool} {m c r : Nat} (hm : m = sq_mk t c) (hc : c ≤ 8) (hr : r < 8) : ((nI m >>> (nI r &&& 31)) &&& 1) = 1 ↔ (decide (r < c) && t r) = true := by
  subst hm
  rw [sq_bit (sq_mk_256 t hc) hr, sq_mk_bit]
theorem sq_t8 {σ : Type} {t : Nat → Bool} {f : Nat → σ → σ} {z : σ} {c : Nat} (hc : c ≤ 8) : sq_gf (fun r => decide (r < c) && t r) f z 8 = sq_gf t f z c := by
  obtain ⟨d, hd⟩ : ∃ d, 8 = c + d := ⟨8 - c, by omega⟩
  rw [hd, sq_gf_x (fun k hk => ?_) d]
  · exact sq_gf_c c (fun k hk => by simp [hk]) (fun _ _ => rfl)
  · have : ¬ k < c := by omega
    simp [this]
theorem xw_in6 {post : Int32 → Prop} {x : Int32} {y m c : Nat} {t : Nat → Bool} (hm : m = sq_mk t c) (hc : c ≤ 8) (hy : y ≤ 5)
    (hp : post (sq_fi x t (sq_sv cx y) c)) : ∀ d r n, r + d = 8 → d < n → wX_inTruth_6 post x (nI y) (nI m) rc nc bg ou q0 q1 nn op cx sz rs tl ks os xs ys lv rt sc pL pO pS tr n (sq_gf (fun r => decide (r < c) && t r) (sq_si x (sq_sv cx y)) 0 r) (nI r) := by
  intro d
  induction d with
  | zero =>
    intro r n hr hn
    obtain ⟨n, rfl⟩ : ∃ m, n = m + 1 := ⟨n - 1, by omega⟩
    have : r = 8 := by omega
    subst this
    rw [sq_t8 hc]
    exact br_t (by decide) hp
  | succ d ih =>
    intro r n hr hn
    obtain ⟨n, rfl⟩ : ∃ m, n = m + 1 := ⟨n - 1, by omega⟩
    have ih' := ih (r + 1) n (by omega) (by omega)
    refine br_f (nI_ge (b := 8) (by omega) (by omega)) ?_
    by_cases z : (decide (r < c) && t r) = true
    · rw [sq_gf_t (t := fun r => decide (r < c) && t r) z] at ih'
      refine br_t ((sq_b8 hm hc (by omega)).mpr z) (xw_source hy (by omega) (xw_compare ?_))
      refine br_c (fun a => nm_r (nI_1 r) ?_) (fun a => nm_r (nI_1 r) ?_)
      · rw [sq_si_t a] at ih'
        exact ih'
      · rw [sq_si_f a] at ih'
        exact ih'
    · rw [sq_gf_f (t := fun r => decide (r < c) && t r) z] at ih'
      exact br_f (fun h => z ((sq_b8 hm hc (by omega)).mp h)) (nm_r (nI_1 r) ih')
theorem xw_all6 {post : Int32 → Prop} {p x : Int32} {y m c : Nat} {t : Nat → Bool} (hm : m = sq_mk t c) (hc : c ≤ 8) (hy : y ≤ 5)
    (hp : post (sq_fa p x t (sq_sv cx y) c)) : ∀ d r n, r + d = 8 → d < n → wX_allTruth_6 post p x (nI y) (nI m) rc nc bg ou q0 q1 nn op cx sz rs tl ks os xs ys lv rt sc pL pO pS tr n (sq_gf (fun r => decide (r < c) && t r) (sq_sa p x (sq_sv cx y)) 2 r) (nI r) := by
  intro d
  induction d with
  | zero =>
    intro r n hr hn
    obtain ⟨n, rfl⟩ : ∃ m, n = m + 1 := ⟨n - 1, by omega⟩
    have : r = 8 := by omega
    subst this
    rw [sq_t8 hc]
    exact br_t (by decide) hp
  | succ d ih =>
    intro r n hr hn
    obtain ⟨n, rfl⟩ : ∃ m, n = m + 1 := ⟨n - 1, by omega⟩
    have ih' := ih (r + 1) n (by omega) (by omega)
    refine br_f (nI_ge (b := 8) (by omega) (by omega)) ?_
    by_cases z : (decide (r < c) && t r) = true
    · rw [sq_gf_t (t := fun r => decide (r < c) && t r) z] at ih'
      refine br_t ((sq_b8 hm hc (by omega)).mpr z) (xw_source hy (by omega) (xw_compare ?_))
      refine br_c (fun a => nm_r (nI_1 r) ?_) (fun a => nm_r (nI_1 r) ?_)
      · rw [sq_sa_t a] at ih'
        exact ih'
      · rw [sq_sa_f a] at ih'
        exact ih'
    · rw [sq_gf_f (t := fun r => decide (r < c) && t r) z] at ih'
      exact br_f (fun h => z ((sq_b8 hm hc (by omega)).mp h)) (nm_r (nI_1 r) ih')
def sq_agg (k : Int32) (t : Nat → Bool) (s : Nat → Int32) (c : Nat) : Int32 := if k = 9 then nI (sq_fc t c) else if k = 10 then nI (sq_ff t s c) else sq_fm t s c
theorem xw_agg12 {post : Int32 → Prop} {k : Int32} {y m c : Nat} {t : Nat → Bool} (hm : m = sq_mk t c) (hc : c ≤ 8) (hy : y ≤ 5)
    (hp : post (sq_agg k t (sq_sv cx y) c)) : ∀ d r n, r + d = 8 → d < n → wX_aggregate_12 post k (nI y) (nI m) rc nc bg ou q0 q1 nn op cx sz rs tl ks os xs ys lv rt sc pL pO pS tr n
      (nI (sq_gf (fun r => decide (r < c) && t r) sq_sc 0 r)) (nI (sq_gf (fun r => decide (r < c) && t r) (sq_sf (sq_sv cx y)) 0 r)) (sq_gf (fun r => decide (r < c) && t r) (sq_sm (sq_sv cx y)) (-1) r) (nI r) := by
  intro d
  induction d with
  | zero =>
    intro r n hr hn
    obtain ⟨n, rfl⟩ : ∃ m, n = m + 1 := ⟨n - 1, by omega⟩
    have : r = 8 := by omega
    subst this
    rw [sq_t8 hc, sq_t8 hc, sq_t8 hc]
    unfold sq_agg at hp
    refine br_t (by decide) (br_c (fun a => ?_) (fun a => br_c (fun b => ?_) (fun b => ?_)))
    · rw [if_pos a] at hp
      exact hp
    · rw [if_neg a, if_pos b] at hp
      exact hp
    · rw [if_neg a, if_neg b] at hp
      exact hp
  | succ d ih =>
    intro r n hr hn
    obtain ⟨n, rfl⟩ : ∃ m, n = m + 1 := ⟨n - 1, by omega⟩
    have ih' := ih (r + 1) n (by omega) (by omega)
    refine br_f (nI_ge (b := 8) (by omega) (by omega)) ?_
    by_cases z : (decide (r < c) && t r) = true
    · rw [sq_gf_t (t := fun r => decide (r < c) && t r) z, sq_gf_t (t := fun r => decide (r < c) && t r) z, sq_gf_t (t := fun r => decide (r < c) && t r) z] at ih'
      refine br_t ((sq_b8 hm hc (by omega)).mpr z) (xw_source hy (by omega) (nm_r (nI_1 _) ?_))
      refine br_c (fun a => ?_) (fun a => ?_)
      · rw [sq_sf_t a] at ih'
        refine nm_r (Int32.add_zero _) (br_c (fun b => nm_r (nI_1 r) ?_) (fun b => nm_r (nI_1 r) ?_))
        · rw [sq_sm_t b] at ih'
          exact ih'
        · rw [sq_sm_f b] at ih'
          exact ih'
      · rw [sq_sf_f a] at ih'
        refine nm_r (nI_1 _) (br_c (fun b => nm_r (nI_1 r) ?_) (fun b => nm_r (nI_1 r) ?_))
        · rw [sq_sm_t b] at ih'
          exact ih'
        · rw [sq_sm_f b] at ih'
          exact ih'
    · rw [sq_gf_f (t := fun r => decide (r < c) && t r) z, sq_gf_f (t := fun r => decide (r < c) && t r) z, sq_gf_f (t := fun r => decide (r < c) && t r) z] at ih'
      exact br_f (fun h => z ((sq_b8 hm hc (by omega)).mp h)) (nm_r (nI_1 r) ih')
end
end
section
/-! X: truthOf -/
def sq_XA (ks ys lv rt sc : Nat → Int32) (o N : Nat) : Prop :=
  (∀ j, j < N → lv j = nI (sq_Lv ks j)) ∧ (∀ j k, j < N → k < 3 → sc (j * 3 + k) = nI (sq_Sc ks ys o j k)) ∧ (∀ j r, r < N → (ks j = 1 ∨ ks j = 2) → sq_Rt ks j r → rt j = nI r)
def sq_SZ (sz : Nat → Int32) (c : Nat) : Prop := ∀ t, t < 3 → ∃ s, s ≤ c ∧ sz t = nI s
def sq_XC (sz ks xs ys lv rt sc : Nat → Int32) (o N : Nat) : Prop :=
  sq_T ks xs ys N ∧ sq_h ks N = 0 ∧ N ≤ 16 ∧ o < 3 ∧ sq_XA ks ys lv rt sc o N ∧ sq_SZ sz 8
def sq_V3 (ks : Nat → Int32) (j r0 r1 r2 : Nat) : Prop := r0 < 8 ∧ r1 < 8 ∧ r2 < 8 ∧ (sq_Lv ks j = 0 → r1 = 0) ∧ (sq_Lv ks j ≤ 1 → r2 = 0)
section
variable {rc nc bg ou q0 q1 nn op : Int32} {cx sz rs tl ks os xs ys lv rt sc pL pO pS tr : Nat → Int32}
theorem sq_ixI (j r0 r1 r2 : Nat) : nI j * 512 + nI (r0 * 64 + r1 * 8 + r2) = nI (sq_ix j r0 r1 r2) := by
  rw [zz_lit512, pk_mul, nI_add]
  rfl
theorem sq_ix_lt {j r0 r1 r2 : Nat} (hj : j < 16) (h0 : r0 < 8) (h1 : r1 < 8) (h2 : r2 < 8) : sq_ix j r0 r1 r2 < 8192 := by
  unfold sq_ix
  omega
theorem xw_taken {post : Int32 → Prop} {o N j r0 r1 r2 : Nat} (C : sq_XC sz ks xs ys lv rt sc o N) (hj : j < N) (V : sq_V3 ks j r0 r1 r2) (h5 : ¬ ks j < 5)
    (hp : post (nI (sq_mk (fun r => decide (tr (sq_ix (j + 1) r0 r1 r2 + r * sq_st (sq_Lv ks j)) = 2)) (sz ((ys j).toNatClampNeg / 2)).toNatClampNeg))) :
    wpX_takenRows post (rc, nc, bg, ou, q0, q1, nn, op, cx, sz, rs, tl, ks, os, xs, ys, lv, rt, sc, pL, pO, pS, tr) (nI j) (nI (r0 * 64 + r1 * 8 + r2)) := by
  obtain ⟨T, hN, h16, ho, XA, SZ⟩ := C
  obtain ⟨v0, v1, v2, v3, v4⟩ := V
  have hjc : (nI j).toNatClampNeg = j := nI_clamp (by omega)
  have hin : vp_in (nI j) 16 := vp_in_nI (by omega) (by omega)
  have hk := sq_kid T hN hj (by rw [sq_ch5 h5]; omega)
  obtain ⟨hl, y, hy, ey⟩ := (T.2 j hj).2.2.2 h5
  have hyc : (ys j).toNatClampNeg = y := by rw [ey]; exact nI_clamp (by omega)
  rw [hyc] at hp
  obtain ⟨c, hc, ec⟩ := SZ (y / 2) (by omega)
  have hcc : (sz (y / 2)).toNatClampNeg = c := by rw [ec]; exact nI_clamp (by omega)
  rw [hcc] at hp
  have e1 : (nI j + 1) * 512 + nI (r0 * 64 + r1 * 8 + r2) = nI (sq_ix (j + 1) r0 r1 r2) := by rw [nI_1, sq_ixI]
  have e2 : ys j / 2 = nI (y / 2) := by rw [ey]; exact sq_half (by omega)
  have e3 : sz (ys j / 2).toNatClampNeg = nI c := by rw [zz_cl e2 (by omega), ec]
  have hix := sq_ix_lt (j := j + 1) (by omega) v0 v1 v2
  unfold wpX_takenRows
  dsimp only
  rw [hjc]
  refine nm_r e1 ⟨hin, ?_⟩
  rw [XA.1 j hj]
  by_cases l0 : sq_Lv ks j = 0
  · refine br_t (by rw [l0]; rfl) ?_
    unfold wX_takenRows_25
    rw [hjc]
    have hst : sq_st (sq_Lv ks j) = 8 := by rw [l0]; rfl
    rw [hst] at hp
    have r10 := v3 l0
    have r20 := v4 (by omega)
    refine ⟨hin, by decide, zz_in e2 (by omega) (by omega), nm_r e3 ⟨9, ?_⟩⟩
    exact xw_taken48 (b := sq_ix (j + 1) r0 r1 r2) (st := 8) (c := c) (t := fun r => decide (tr (sq_ix (j + 1) r0 r1 r2 + r * 8) = 2)) (by omega) (by omega) hc
      (fun r hr => by unfold sq_ix; omega) (fun r hr => decide_eq_true_iff) hp c 0 9 (by omega) (by omega)
  · refine br_f (nI_ne0 (by omega) (by omega)) ?_
    unfold wX_takenRows_25
    rw [hjc]
    have hst : sq_st (sq_Lv ks j) = 1 := by unfold sq_st; rw [if_neg l0]
    rw [hst] at hp
    have r20 := v4 (by omega)
    refine ⟨hin, by decide, zz_in e2 (by omega) (by omega), nm_r e3 ⟨9, ?_⟩⟩
    exact xw_taken48 (b := sq_ix (j + 1) r0 r1 r2) (st := 1) (c := c) (t := fun r => decide (tr (sq_ix (j + 1) r0 r1 r2 + r * 1) = 2)) (by omega) (by omega) hc
      (fun r hr => by unfold sq_ix; omega) (fun r hr => decide_eq_true_iff) hp c 0 9 (by omega) (by omega)
theorem xw_op {post : Int32 → Prop} {q : Int32} {o N j r0 r1 r2 : Nat} (C : sq_XC sz ks xs ys lv rt sc o N) (hj : j < N) (hq : sq_OpOK q (sq_Lv ks j)) (V : sq_V3 ks j r0 r1 r2)
    (hp : post (sq_ov cx (sq_Sc ks ys o j) (sq_r3 r0 r1 r2) q)) : wpX_operandValue post (rc, nc, bg, ou, q0, q1, nn, op, cx, sz, rs, tl, ks, os, xs, ys, lv, rt, sc, pL, pO, pS, tr) (nI j) q (nI (r0 * 64 + r1 * 8 + r2)) := by
  obtain ⟨T, hN, h16, ho, XA, SZ⟩ := C
  obtain ⟨v0, v1, v2, v3, v4⟩ := V
  have hl := sq_Lv_le T (Nat.le_of_lt hj)
  exact xw_operand (s := sq_Sc ks ys o j) (by omega) hl hq (fun k hk => XA.2.1 j k hj (by omega)) (fun k _ => sq_Sc_lt T ho (Nat.le_of_lt hj) k) v0 v1 v2 hp
theorem xw_sub {post : Int32 → Prop} {o N j r0 r1 r2 : Nat} (C : sq_XC sz ks xs ys lv rt sc o N) (hj : j < N) (V : sq_V3 ks j r0 r1 r2) (h5 : ¬ ks j < 5)
    (hp : post (sq_sub (ks j) (os j) (sq_ov cx (sq_Sc ks ys o j) (sq_r3 r0 r1 r2) (xs j)) (fun r => decide (tr (sq_ix (j + 1) r0 r1 r2 + r * sq_st (sq_Lv ks j)) = 2)) (sq_sv cx (ys j).toNatClampNeg) (sz ((ys j).toNatClampNeg / 2)).toNatClampNeg)) :
    wpX_subqueryTruth post (rc, nc, bg, ou, q0, q1, nn, op, cx, sz, rs, tl, ks, os, xs, ys, lv, rt, sc, pL, pO, pS, tr) (nI j) (nI (r0 * 64 + r1 * 8 + r2)) := by
  have hjc : (nI j).toNatClampNeg = j := nI_clamp (by have := C.2.2.1; omega)
  have hin : vp_in (nI j) 16 := vp_in_nI (by have := C.2.2.1; omega) (by omega)
  obtain ⟨hl, y, hy, ey⟩ := (C.1.2 j hj).2.2.2 h5
  have hyc : (ys j).toNatClampNeg = y := by rw [ey]; exact nI_clamp (by omega)
  obtain ⟨c, hc, ec⟩ := C.2.2.2.2.2 (y / 2) (by omega)
  have hcc : (sz (y / 2)).toNatClampNeg = c := by rw [ec]; exact nI_clamp (by omega)
  unfold wpX_subqueryTruth
  dsimp only
  rw [hjc]
  refine ⟨hin, nm_e (xw_taken C hj V h5 ?_)⟩
  rw [hyc, hcc] at hp ⊢
  generalize (fun r => decide (tr (sq_ix (j + 1) r0 r1 r2 + r * sq_st (sq_Lv ks j)) = 2)) = t at hp ⊢
  unfold sq_sub at hp
  refine br_c (fun k5 => ?_) (fun k5 => ⟨hin, xw_op C hj (C.1.2 j hj).2.1 V ?_⟩)
  · rw [if_pos k5] at hp
    by_cases z : sq_fc t c = 0
    · rw [if_pos z] at hp
      exact br_t (by rw [(sq_mk_0 t c).mpr z]; rfl) hp
    · rw [if_neg z] at hp
      exact br_f (nI_ne0 (Nat.pos_of_ne_zero (fun e => z ((sq_mk_0 t c).mp e))) (by have := sq_mk_256 t hc; omega)) hp
  · rw [if_neg k5] at hp
    rw [ey]
    refine br_c (fun k6 => ?_) (fun k6 => br_c (fun k7 => ?_) (fun k7 => br_c (fun k8 => ?_) (fun k8 => ?_)))
    · rw [if_pos k6] at hp
      exact ⟨hin, 9, xw_in6 rfl hc hy hp 8 0 9 (by omega) (by omega)⟩
    · rw [if_neg k6, if_pos k7] at hp
      exact ⟨hin, 9, xw_in6 (post := fun r => post (2 - r)) rfl hc hy hp 8 0 9 (by omega) (by omega)⟩
    · rw [if_neg k6, if_neg k7, if_pos k8] at hp
      exact ⟨hin, hin, 9, xw_all6 rfl hc hy hp 8 0 9 (by omega) (by omega)⟩
    · rw [if_neg k6, if_neg k7, if_neg k8] at hp
      refine ⟨hin, 9, xw_agg12 rfl hc hy ?_ 8 0 9 (by omega) (by omega)⟩
      refine ⟨hin, xw_compare ?_⟩
      unfold sq_agg
      by_cases k9 : ks j = 9
      · rw [if_pos k9] at hp ⊢
        exact hp
      · rw [if_neg k9] at hp ⊢
        by_cases k10 : ks j = 10
        · rw [if_pos k10] at hp ⊢
          exact hp
        · rw [if_neg k10] at hp ⊢
          exact hp
theorem xw_leaf {post : Int32 → Prop} {o N j r0 r1 r2 : Nat} (C : sq_XC sz ks xs ys lv rt sc o N) (hj : j < N) (V : sq_V3 ks j r0 r1 r2) (h34 : ks j = 3 ∨ ks j = 4)
    (hp : post (sq_NX cx sz ks os xs ys rt tr o j r0 r1 r2)) : wpX_leafTruth post (rc, nc, bg, ou, q0, q1, nn, op, cx, sz, rs, tl, ks, os, xs, ys, lv, rt, sc, pL, pO, pS, tr) (nI j) (nI (r0 * 64 + r1 * 8 + r2)) := by
  have hjc : (nI j).toNatClampNeg = j := nI_clamp (by have := C.2.2.1; omega)
  have hin : vp_in (nI j) 16 := vp_in_nI (by have := C.2.2.1; omega) (by omega)
  unfold sq_NX sq_nv at hp
  have n0 : ¬ ks j = 0 := by
    rcases h34 with h | h <;> rw [h] <;> decide
  rw [if_neg n0] at hp
  unfold wpX_leafTruth
  dsimp only
  rw [hjc]
  refine ⟨hin, xw_op C hj (C.1.2 j hj).2.1 V ⟨hin, br_c (fun k4 => ?_) (fun k4 => ?_)⟩⟩
  · have n3 : ¬ ks j = 3 := by rw [k4]; decide
    rw [if_neg n3, if_pos k4] at hp
    refine br_c (fun a => ?_) (fun a => ?_)
    · rw [if_pos a] at hp
      exact hp
    · rw [if_neg a] at hp
      exact hp
  · have k3 : ks j = 3 := by
      rcases h34 with h | h
      · exact h
      · exact absurd h k4
    rw [if_pos k3] at hp
    exact ⟨hin, xw_op C hj ((C.1.2 j hj).2.2.1 k3) V ⟨hin, xw_compare hp⟩⟩
theorem xw_truthOf {post : Int32 → Prop} {o N j r0 r1 r2 : Nat} (C : sq_XC sz ks xs ys lv rt sc o N) (hj : j < N) (V : sq_V3 ks j r0 r1 r2)
    (hp : post (sq_NX cx sz ks os xs ys rt tr o j r0 r1 r2)) : wpX_truthOf post (rc, nc, bg, ou, q0, q1, nn, op, cx, sz, rs, tl, ks, os, xs, ys, lv, rt, sc, pL, pO, pS, tr) (nI j) (nI (r0 * 64 + r1 * 8 + r2)) := by
  have h16 := C.2.2.1
  have hjc : (nI j).toNatClampNeg = j := nI_clamp (by omega)
  have hin : vp_in (nI j) 16 := vp_in_nI (by omega) (by omega)
  have hk0 := (C.1.2 j hj).1
  unfold wpX_truthOf
  dsimp only
  rw [hjc]
  refine ⟨hin, nm_e (br_c (fun l5 => br_c (fun k3 => xw_leaf C hj V (Or.inl k3) hp) (fun n3 => br_c (fun k4 => xw_leaf C hj V (Or.inr k4) hp) (fun n4 => ?_))) (fun g5 => xw_sub C hj V g5 ?_))⟩
  · have hk := sq_kid C.1 C.2.1 hj (sq_chpos n3 n4)
    have e1 : (nI j + 1) * 512 + nI (r0 * 64 + r1 * 8 + r2) = nI (sq_ix (j + 1) r0 r1 r2) := by rw [nI_1, sq_ixI]
    have hix := sq_ix_lt (j := j + 1) (by omega) V.1 V.2.1 V.2.2.1
    refine ⟨zz_in e1 hix (by omega), ?_⟩
    rw [zz_cl e1 (by omega)]
    unfold sq_NX sq_nv at hp
    refine nm_e (br_c (fun k0 => ?_) (fun n0 => ⟨hin, ?_⟩))
    · rw [if_pos k0] at hp
      exact hp
    · rw [if_neg n0, if_neg n3, if_neg n4] at hp
      have k12 : ks j = 1 ∨ ks j = 2 := by
        by_cases a : ks j = 1
        · exact Or.inl a
        · by_cases b : ks j = 2
          · exact Or.inr b
          · exact absurd l5 (sq_ge5 hk0 n0 a b n3 n4)
      obtain ⟨r, hr, hR⟩ := sq_right C.1 C.2.1 hj k12
      have er := C.2.2.2.2.1.2.2 j r hr k12 hR
      rw [er, nI_clamp (by omega)] at hp
      rw [er]
      have e2 := sq_ixI r r0 r1 r2
      have hir := sq_ix_lt (j := r) (by omega) V.1 V.2.1 V.2.2.1
      refine ⟨zz_in e2 hir (by omega), ?_⟩
      rw [zz_cl e2 (by omega)]
      refine nm_e (br_c (fun k1 => ?_) (fun n1 => ?_))
      · rw [if_pos k1] at hp
        refine br_c (fun a => ?_) (fun a => ?_)
        · rw [if_pos a] at hp
          exact hp
        · rw [if_neg a] at hp
          exact hp
      · have k2 : ks j = 2 := by
          rcases k12 with h | h
          · exact absurd h n1
          · exact h
        rw [if_neg n1, if_pos k2] at hp
        refine br_c (fun a => ?_) (fun a => ?_)
        · rw [if_pos a] at hp
          exact hp
        · rw [if_neg a] at hp
          exact hp
  · unfold sq_NX sq_nv at hp
    rw [if_neg (sq_ne5 g5 (by decide)), if_neg (sq_ne5 g5 (by decide)), if_neg (sq_ne5 g5 (by decide)), if_neg (sq_ne5 g5 (by decide)), if_neg (sq_ne5 g5 (by decide))] at hp
    exact hp
end
end
section
/-! X: the columns -/
theorem sq_ct_le {sz ks xs ys lv rt sc : Nat → Int32} {o N j : Nat} (C : sq_XC sz ks xs ys lv rt sc o N) (hj : j < N) (k : Nat) : sq_ct sz ks ys o j k ≤ 8 := by
  unfold sq_ct
  split
  · obtain ⟨s, hs, es⟩ := C.2.2.2.2.2 _ (sq_Sc_lt C.1 C.2.2.2.1 (Nat.le_of_lt hj) k)
    rw [es, nI_clamp (by omega)]
    exact hs
  · omega
theorem sq_V3_of {sz ks xs ys lv rt sc : Nat → Int32} {o N j r0 r1 r2 : Nat} (C : sq_XC sz ks xs ys lv rt sc o N) (hj : j < N) (h0 : r0 < 8) (h1 : r1 < sq_ct sz ks ys o j 1) (h2 : r2 < sq_ct sz ks ys o j 2) : sq_V3 ks j r0 r1 r2 := by
  have a := sq_ct_le C hj 1
  have b := sq_ct_le C hj 2
  refine ⟨h0, by omega, by omega, fun l => ?_, fun l => ?_⟩
  · unfold sq_ct at h1
    rw [if_neg (by omega)] at h1
    omega
  · unfold sq_ct at h2
    rw [if_neg (by omega)] at h2
    omega
theorem sq_NX_c {cx sz ks os xs ys lv rt sc tr tr' : Nat → Int32} {o N j r0 r1 r2 : Nat} (C : sq_XC sz ks xs ys lv rt sc o N) (hj : j < N) (H : ∀ q, (j + 1) * 512 ≤ q → tr q = tr' q) :
    sq_NX cx sz ks os xs ys rt tr o j r0 r1 r2 = sq_NX cx sz ks os xs ys rt tr' o j r0 r1 r2 := by
  unfold sq_NX
  refine sq_nv_c (C.1.2 j hj).1 (fun _ => rfl) (fun _ _ _ => H _ ?_) (fun k12 => ?_) (fun g5 => ⟨fun r hr => ?_, fun _ _ => rfl⟩)
  · unfold sq_ix; omega
  · obtain ⟨r, hr, hR⟩ := sq_right C.1 C.2.1 hj k12
    have er := C.2.2.2.2.1.2.2 j r hr k12 hR
    have h16 := C.2.2.1
    have := hR.1
    rw [er, nI_clamp (by omega)]
    refine H _ ?_
    unfold sq_ix
    omega
  · have : tr (sq_ix (j + 1) r0 r1 r2 + r * sq_st (sq_Lv ks j)) = tr' (sq_ix (j + 1) r0 r1 r2 + r * sq_st (sq_Lv ks j)) := by
      refine H _ (Nat.le_trans ?_ (Nat.le_add_right _ _))
      unfold sq_ix
      omega
    rw [this]
def sq_FL (NV : Nat → Nat → Nat → Int32) (m : Nat) (tr0 tr : Nat → Int32) (f c1 c2 a b c : Nat) : Prop :=
  (∀ q, (q < m * 512 ∨ (m + 1) * 512 ≤ q) → tr q = tr0 q) ∧
  (∀ r0 r1 r2, f ≤ r0 → r1 < c1 → r2 < c2 → (r0 < a ∨ (r0 = a ∧ (r1 < b ∨ (r1 = b ∧ r2 < c)))) → tr (sq_ix m r0 r1 r2) = NV r0 r1 r2)
theorem sq_FL_s {NV : Nat → Nat → Nat → Int32} {m : Nat} {tr0 tr : Nat → Int32} {f c1 c2 a b c : Nat} {v : Int32} (F : sq_FL NV m tr0 tr f c1 c2 a b c) (h1 : c1 ≤ 8) (h2 : c2 ≤ 8) (ha : a < 8) (hb : b < c1) (hc : c < c2) (hv : v = NV a b c) :
    sq_FL NV m tr0 (upd tr (sq_ix m a b c) v) f c1 c2 a b (c + 1) := by
  constructor
  · intro q hq
    rw [pk_un (by unfold sq_ix; omega)]
    exact F.1 q hq
  · intro r0 r1 r2 g0 g1 g2 g
    by_cases e : r0 = a ∧ r1 = b ∧ r2 = c
    · obtain ⟨e0, e1, e2⟩ := e
      rw [e0, e1, e2, pk_us, hv]
    · have gg : r0 < a ∨ (r0 = a ∧ (r1 < b ∨ (r1 = b ∧ r2 < c))) := by omega
      rw [pk_un (by unfold sq_ix; omega)]
      exact F.2 r0 r1 r2 g0 g1 g2 gg
section
variable {rc nc bg ou q0 q1 nn op : Int32} {cx sz rs tl ks os xs ys lv rt sc pL pO pS tr : Nat → Int32}
theorem sq_c3 (a b c : Nat) : nI a * 64 + nI b * 8 + nI c = nI (a * 64 + b * 8 + c) := by
  rw [zz_lit64, zz_lit8, pk_mul, pk_mul, nI_add, nI_add]
theorem xw_fill38 {post : SX → Prop} {J19 J28 : Int32 → (Nat → Int32) → (Nat → Int32) → (Nat → Int32) → (Nat → Int32) → (Nat → Int32) → (Nat → Int32) → (Nat → Int32) → (Nat → Int32) → (Nat → Int32) → (Nat → Int32) → (Nat → Int32) → (Nat → Int32) → (Nat → Int32) → (Nat → Int32) → (Nat → Int32) → Prop}
    {x3 x4 : Int32} {o N m f c1 c2 a b : Nat} (C : sq_XC sz ks xs ys lv rt sc o N) (hm : m < N) (e1 : c1 = sq_ct sz ks ys o m 1) (e2 : c2 = sq_ct sz ks ys o m 2) (ha : a < 8) (hf : f ≤ a) (hb : b < c1)
    (hJ : ∀ tr', sq_FL (sq_NX cx sz ks os xs ys rt tr o m) m tr tr' f c1 c2 a b c2 → J28 (nI (b + 1)) cx sz rs tl ks os xs ys lv rt sc pL pO pS tr') :
    ∀ d c n trc, c + d = c2 → d < n → sq_FL (sq_NX cx sz ks os xs ys rt tr o m) m tr trc f c1 c2 a b c →
    wX_fillColumn_38 post J19 J28 (nI m) x3 x4 (nI c2) (nI a) (nI b) rc nc bg ou q0 q1 nn op n (nI c) cx sz rs tl ks os xs ys lv rt sc pL pO pS trc := by
  have l1 := sq_ct_le C hm 1
  have l2 := sq_ct_le C hm 2
  have h16 := C.2.2.1
  intro d
  induction d with
  | zero =>
    intro c n trc hc hn F
    obtain ⟨n, rfl⟩ : ∃ m, n = m + 1 := ⟨n - 1, by omega⟩
    have : c = c2 := by omega
    subst this
    exact br_t (nI_le (Nat.le_refl _) (by omega)) (nm_r (nI_1 b) (hJ trc F))
  | succ d ih =>
    intro c n trc hc hn F
    obtain ⟨n, rfl⟩ : ∃ m, n = m + 1 := ⟨n - 1, by omega⟩
    have V : sq_V3 ks m a b c := sq_V3_of C hm ha (by omega) (by omega)
    have ei := sq_ixI m a b c
    have hix := sq_ix_lt (j := m) (by omega) V.1 V.2.1 V.2.2.1
    refine br_f (nI_ge (by omega) (by omega)) (nm_r (sq_c3 a b c) (xw_truthOf C hm V ⟨zz_in ei hix (by omega), nm_r (congrArg (fun z => upd trc z _) (zz_cl ei (by omega))) (nm_r (nI_1 c) (ih (c + 1) n _ (by omega) (by omega) ?_))⟩))
    exact sq_FL_s F (by omega) (by omega) ha hb (by omega) (sq_NX_c C hm (fun q hq => F.1 q (Or.inr hq)))
theorem xw_fill28 {post : SX → Prop} {J19 : Int32 → (Nat → Int32) → (Nat → Int32) → (Nat → Int32) → (Nat → Int32) → (Nat → Int32) → (Nat → Int32) → (Nat → Int32) → (Nat → Int32) → (Nat → Int32) → (Nat → Int32) → (Nat → Int32) → (Nat → Int32) → (Nat → Int32) → (Nat → Int32) → (Nat → Int32) → Prop}
    {x3 : Int32} {o N m f c1 c2 a : Nat} (C : sq_XC sz ks xs ys lv rt sc o N) (hm : m < N) (e1 : c1 = sq_ct sz ks ys o m 1) (e2 : c2 = sq_ct sz ks ys o m 2) (ha : a < 8) (hf : f ≤ a)
    (hJ : ∀ tr', sq_FL (sq_NX cx sz ks os xs ys rt tr o m) m tr tr' f c1 c2 a c1 0 → J19 (nI (a + 1)) cx sz rs tl ks os xs ys lv rt sc pL pO pS tr') :
    ∀ d b n trc, b + d = c1 → d < n → sq_FL (sq_NX cx sz ks os xs ys rt tr o m) m tr trc f c1 c2 a b 0 →
    wX_fillColumn_28 post J19 (nI m) x3 (nI c1) (nI c2) (nI a) rc nc bg ou q0 q1 nn op n (nI b) cx sz rs tl ks os xs ys lv rt sc pL pO pS trc := by
  have l1 := sq_ct_le C hm 1
  have l2 := sq_ct_le C hm 2
  intro d
  induction d with
  | zero =>
    intro b n trc hb hn F
    obtain ⟨n, rfl⟩ : ∃ m, n = m + 1 := ⟨n - 1, by omega⟩
    have : b = c1 := by omega
    subst this
    exact br_t (nI_le (Nat.le_refl _) (by omega)) (nm_r (nI_1 a) (hJ trc F))
  | succ d ih =>
    intro b n trc hb hn F
    obtain ⟨n, rfl⟩ : ∃ m, n = m + 1 := ⟨n - 1, by omega⟩
    refine br_f (nI_ge (by omega) (by omega)) ⟨c2 + 1, ?_⟩
    refine xw_fill38 (tr := tr) (f := f) (c1 := c1) C hm e1 e2 ha hf (by omega) (fun tr' F' => ih (b + 1) n tr' (by omega) (by omega) ⟨F'.1, fun r0 r1 r2 g0 g1 g2 g => F'.2 r0 r1 r2 g0 g1 g2 (by omega)⟩) c2 0 (c2 + 1) trc (by omega) (by omega) F
theorem xw_fill19 {post : SX → Prop} {o N m f e c1 c2 : Nat} (C : sq_XC sz ks xs ys lv rt sc o N) (hm : m < N) (e1 : c1 = sq_ct sz ks ys o m 1) (e2 : c2 = sq_ct sz ks ys o m 2) (he : e ≤ 8)
    (hJ : ∀ tr', sq_FL (sq_NX cx sz ks os xs ys rt tr o m) m tr tr' f c1 c2 e 0 0 → post (rc, nc, bg, ou, q0, q1, nn, op, cx, sz, rs, tl, ks, os, xs, ys, lv, rt, sc, pL, pO, pS, tr')) :
    ∀ d a n trc, a + d = e → d < n → f ≤ a → sq_FL (sq_NX cx sz ks os xs ys rt tr o m) m tr trc f c1 c2 a 0 0 →
    wX_fillColumn_19 post (nI m) (nI e) (nI c1) (nI c2) rc nc bg ou q0 q1 nn op n (nI a) cx sz rs tl ks os xs ys lv rt sc pL pO pS trc := by
  have l1 := sq_ct_le C hm 1
  have l2 := sq_ct_le C hm 2
  intro d
  induction d with
  | zero =>
    intro a n trc hb hn hf F
    obtain ⟨n, rfl⟩ : ∃ m, n = m + 1 := ⟨n - 1, by omega⟩
    have : a = e := by omega
    subst this
    exact br_t (nI_le (Nat.le_refl _) (by omega)) (hJ trc F)
  | succ d ih =>
    intro a n trc hb hn hf F
    obtain ⟨n, rfl⟩ : ∃ m, n = m + 1 := ⟨n - 1, by omega⟩
    refine br_f (nI_ge (by omega) (by omega)) ⟨c1 + 1, ?_⟩
    refine xw_fill28 (tr := tr) (f := f) C hm e1 e2 (by omega) hf (fun tr' F' => ih (a + 1) n tr' (by omega) (by omega) (by omega) ⟨F'.1, fun r0 r1 r2 g0 g1 g2 g => F'.2 r0 r1 r2 g0 g1 g2 (by omega)⟩) c1 0 (c1 + 1) trc (by omega) (by omega) F
theorem xw_rowsAt {post : Int32 → Prop} {o N j k : Nat} {K : Int32} (C : sq_XC sz ks xs ys lv rt sc o N) (hj : j < N) (hk : k < 3) (eK : K = nI k)
    (hp : post (nI (sq_ct sz ks ys o j k))) : wpX_rowsAt post (rc, nc, bg, ou, q0, q1, nn, op, cx, sz, rs, tl, ks, os, xs, ys, lv, rt, sc, pL, pO, pS, tr) (nI j) K := by
  subst eK
  have h16 := C.2.2.1
  have hjc : (nI j).toNatClampNeg = j := nI_clamp (by omega)
  have hin : vp_in (nI j) 16 := vp_in_nI (by omega) (by omega)
  have hl := sq_Lv_le C.1 (Nat.le_of_lt hj)
  unfold wpX_rowsAt
  dsimp only
  rw [hjc, C.2.2.2.2.1.1 j hj]
  refine ⟨hin, ?_⟩
  unfold sq_ct at hp
  have e3 := sq_j3 j k
  have e4 : sc (nI j * 3 + nI k).toNatClampNeg = nI (sq_Sc ks ys o j k) := by rw [zz_cl e3 (by omega), C.2.2.2.2.1.2.1 j k hj hk]
  have hS := sq_Sc_lt C.1 C.2.2.2.1 (Nat.le_of_lt hj) k
  by_cases h : k ≤ sq_Lv ks j
  · rw [if_pos h] at hp
    refine br_t (nI_le h (by omega)) ⟨zz_in e3 (by omega) (by omega), zz_in e4 hS (by omega), ?_⟩
    rw [zz_cl e4 (by omega)]
    obtain ⟨s, hs, es⟩ := C.2.2.2.2.2 _ hS
    rw [es, nI_clamp (by omega)] at hp
    rw [es]
    exact hp
  · rw [if_neg h] at hp
    exact br_f (nI_ge (by omega) (by omega)) hp
theorem xw_fill {post : SX → Prop} {o N m f e : Nat} (C : sq_XC sz ks xs ys lv rt sc o N) (hm : m < N) (hf : f ≤ e) (he : e ≤ 8)
    (hp : ∀ tr', sq_FL (sq_NX cx sz ks os xs ys rt tr o m) m tr tr' f (sq_ct sz ks ys o m 1) (sq_ct sz ks ys o m 2) e 0 0 → post (rc, nc, bg, ou, q0, q1, nn, op, cx, sz, rs, tl, ks, os, xs, ys, lv, rt, sc, pL, pO, pS, tr')) :
    wpX_fillColumn post (rc, nc, bg, ou, q0, q1, nn, op, cx, sz, rs, tl, ks, os, xs, ys, lv, rt, sc, pL, pO, pS, tr) (nI m) (nI f) (nI e) := by
  unfold wpX_fillColumn
  dsimp only
  refine xw_rowsAt (k := 1) C hm (by omega) rfl (xw_rowsAt (k := 2) C hm (by omega) rfl ⟨9, ?_⟩)
  exact xw_fill19 (tr := tr) C hm rfl rfl he hp (e - f) f 9 tr (by omega) (by omega) (Nat.le_refl f) ⟨fun _ _ => rfl, fun r0 r1 r2 g0 g1 g2 g => by omega⟩
def sq_Sol (cx sz ks os xs ys rt tr : Nat → Int32) (o N f e m : Nat) : Prop :=
  ∀ j, m ≤ j → j < N → ∀ r0 r1 r2, f ≤ r0 → r0 < e → r1 < sq_ct sz ks ys o j 1 → r2 < sq_ct sz ks ys o j 2 → tr (sq_ix j r0 r1 r2) = sq_NX cx sz ks os xs ys rt tr o j r0 r1 r2
theorem xw_eval7 {post : SX → Prop} {o N f e : Nat} (C : sq_XC sz ks xs ys lv rt sc o N) (hf : f ≤ e) (he : e ≤ 8)
    (hp : ∀ tr', sq_Sol cx sz ks os xs ys rt tr' o N f e 0 → post (rc, nc, bg, ou, q0, q1, nn, op, cx, sz, rs, tl, ks, os, xs, ys, lv, rt, sc, pL, pO, pS, tr')) :
    ∀ m n tr, m ≤ N → m < n → sq_Sol cx sz ks os xs ys rt tr o N f e m → wX_evaluate_7 post (nI f) (nI e) n (nI m - 1) rc nc bg ou q0 q1 nn op cx sz rs tl ks os xs ys lv rt sc pL pO pS tr := by
  have h16 := C.2.2.1
  intro m
  induction m with
  | zero =>
    intro n tr hm hn S
    obtain ⟨n, rfl⟩ : ∃ m, n = m + 1 := ⟨n - 1, by omega⟩
    exact br_t (by decide) (hp tr S)
  | succ m ih =>
    intro n tr hm hn S
    obtain ⟨n, rfl⟩ : ∃ m, n = m + 1 := ⟨n - 1, by omega⟩
    rw [nI_pred]
    refine br_f (nI_pos (by omega)) (xw_fill C (by omega) hf he (fun tr' F => nm_r (e' := nI m - 1) (Int32.sub_eq_add_neg (nI m) 1).symm (ih n tr' (by omega) (by omega) ?_)))
    intro j j1 j2 r0 r1 r2 g0 g1 g2 g3
    by_cases jm : j = m
    · rw [jm] at g2 g3 ⊢
      rw [F.2 r0 r1 r2 g0 g2 g3 (Or.inl g1)]
      exact sq_NX_c C (by omega) (fun q hq => (F.1 q (Or.inr hq)).symm)
    · have V := sq_V3_of C j2 (r0 := r0) (by omega) g2 g3
      have e1 : tr' (sq_ix j r0 r1 r2) = tr (sq_ix j r0 r1 r2) := F.1 _ (Or.inr (by unfold sq_ix; omega))
      rw [e1, S j (by omega) j2 r0 r1 r2 g0 g1 g2 g3]
      exact sq_NX_c C j2 (fun q hq => (F.1 q (Or.inr (by omega))).symm)
theorem xw_evaluate {post : SX → Prop} {o N f e : Nat} (C : sq_XC sz ks xs ys lv rt sc o N) (hf : f ≤ e) (he : e ≤ 8)
    (hp : ∀ tr', sq_Sol cx sz ks os xs ys rt tr' o N f e 0 → post (rc, nc, bg, ou, q0, q1, nI N, op, cx, sz, rs, tl, ks, os, xs, ys, lv, rt, sc, pL, pO, pS, tr')) : wpX_evaluate post (rc, nc, bg, ou, q0, q1, nI N, op, cx, sz, rs, tl, ks, os, xs, ys, lv, rt, sc, pL, pO, pS, tr) (nI f) (nI e) :=
  nm_e ⟨N + 1, xw_eval7 C hf he hp N (N + 1) tr (Nat.le_refl N) (by omega) (fun j j1 j2 => absurd j2 (by omega))⟩
end
end
section
/-! Y: children, stillOpen, levelAt, compare, operand -/
theorem sq_h_le (K : Nat → Int32) : ∀ e, sq_h K e ≤ e + 1 := by
  intro e
  induction e with
  | zero => exact Nat.le_refl 1
  | succ e ih =>
    have := sq_hS K e
    have := sq_ch_le (K e)
    omega
section
variable {rc nc bg nn ou q0 q1 : Int32} {cy sz rs tl ks os xs ys fr cu vl tk : Nat → Int32}
theorem yw_compare {post : Int32 → Prop} {p u v : Int32} (hp : post (sq_cmp p u v)) : wpY_compare post (rc, nc, bg, nn, ou, q0, q1, cy, sz, rs, tl, ks, os, xs, ys, fr, cu, vl, tk) p u v := by
  unfold sq_cmp at hp
  refine br_c (fun h1 => ?_) (fun h1 => br_c (fun h2 => ?_) (fun h2 => ?_))
  · rw [if_pos h1] at hp
    exact hp
  · rw [if_neg h1, if_pos h2] at hp
    exact hp
  · rw [if_neg h1, if_neg h2] at hp
    refine br_c (fun e => ?_) (fun n0 => br_c (fun e => ?_) (fun n1 => br_c (fun e => ?_) (fun n2 => br_c (fun e => ?_) (fun n3 => br_c (fun e => ?_) (fun n4 => ?_)))))
    · rw [if_pos e] at hp
      refine br_c (fun c => ?_) (fun c => ?_)
      · rw [if_pos c] at hp
        exact br_f (by decide) hp
      · rw [if_neg c] at hp
        exact br_t rfl hp
    · rw [if_neg n0, if_pos e] at hp
      refine br_c (fun c => ?_) (fun c => ?_)
      · rw [if_pos c] at hp
        exact br_t rfl hp
      · rw [if_neg c] at hp
        exact br_f (by decide) hp
    · rw [if_neg n0, if_neg n1, if_pos e] at hp
      refine br_c (fun c => ?_) (fun c => ?_)
      · rw [if_pos c] at hp
        exact br_t rfl hp
      · rw [if_neg c] at hp
        exact br_f (by decide) hp
    · rw [if_neg n0, if_neg n1, if_neg n2, if_pos e] at hp
      refine br_c (fun c => ?_) (fun c => ?_)
      · rw [if_pos c] at hp
        exact br_t rfl hp
      · rw [if_neg c] at hp
        exact br_f (by decide) hp
    · rw [if_neg n0, if_neg n1, if_neg n2, if_neg n3, if_pos e] at hp
      refine br_c (fun c => ?_) (fun c => ?_)
      · rw [if_pos c] at hp
        exact br_t rfl hp
      · rw [if_neg c] at hp
        exact br_f (by decide) hp
    · rw [if_neg n0, if_neg n1, if_neg n2, if_neg n3, if_neg n4] at hp
      refine br_c (fun c => ?_) (fun c => ?_)
      · rw [if_pos c] at hp
        exact br_t rfl hp
      · rw [if_neg c] at hp
        exact br_f (by decide) hp
theorem yw_children {post : Int32 → Prop} {x : Int32} (hp : post (nI (sq_ch x))) : wpY_children post (rc, nc, bg, nn, ou, q0, q1, cy, sz, rs, tl, ks, os, xs, ys, fr, cu, vl, tk) x := by
  unfold sq_ch at hp
  refine br_c (fun a => ?_) (fun a => br_c (fun b => ?_) (fun b => br_c (fun c => ?_) (fun c => br_c (fun d => ?_) (fun d => ?_))))
  · rw [if_pos a] at hp
    exact hp
  · rw [if_neg a, if_pos b] at hp
    exact hp
  · rw [if_neg a, if_neg b, if_pos c] at hp
    exact hp
  · rw [if_neg a, if_neg b, if_neg c, if_pos d] at hp
    exact hp
  · rw [if_neg a, if_neg b, if_neg c, if_neg d] at hp
    exact hp
theorem yw_so5 {post : Int32 → Prop} {i e : Nat} (h0 : ∀ k, k < e → 0 < sq_h ks k) (he : e ≤ 16)
    (hp : ∀ c, (0 < c ↔ sq_op ks i e = true) → (i = 0 → c = sq_h ks e) → c ≤ 17 → post (nI c)) :
    ∀ d k n c, k + d = e → d < n → i ≤ k → (∀ m, i ≤ m → m < k → sq_h ks i ≤ sq_h ks m) → c + sq_h ks i = sq_h ks k + 1 → (i < k → 0 < sq_h ks i) → wY_stillOpen_5 post (nI e) rc nc bg nn ou q0 q1 cy sz rs tl ks os xs ys fr cu vl tk n (nI c) (nI k) := by
  intro d
  induction d with
  | zero =>
    intro k n c hk hn hi H hc _
    obtain ⟨n, rfl⟩ : ∃ m, n = m + 1 := ⟨n - 1, by omega⟩
    have ke : k = e := by omega
    subst ke
    have hb := sq_h_le ks k
    have h1 : sq_h ks 0 = 1 := rfl
    refine br_t (nI_le (Nat.le_refl _) (by omega)) (hp c ?_ (fun i0 => by rw [i0] at hc; omega) ?_)
    · rw [sq_op_iff]
      constructor
      · intro c0 m m1 m2
        by_cases e : m = k
        · rw [e]; omega
        · exact H m m1 (by omega)
      · intro G
        have := G k hi (Nat.le_refl k)
        omega
    · by_cases i0 : i = k
      · rw [i0] at hc
        omega
      · have := h0 i (by omega)
        omega
  | succ d ih =>
    intro k n c hk hn hi H hc hz
    obtain ⟨n, rfl⟩ : ∃ m, n = m + 1 := ⟨n - 1, by omega⟩
    have hb := sq_h_le ks k
    have h1 : sq_h ks 0 = 1 := rfl
    have hk0 := h0 k (by omega)
    refine br_f (nI_ge (by omega) (by omega)) ?_
    by_cases c0 : c = 0
    · subst c0
      refine br_t (by decide) (hp 0 ?_ (fun i0 => by rw [i0] at hc; omega) (by omega))
      rw [sq_op_iff]
      constructor
      · intro z
        omega
      · intro G
        have := G k hi (by omega)
        omega
    · obtain ⟨c, rfl⟩ : ∃ m, c = m + 1 := ⟨c - 1, by omega⟩
      refine br_f (nI_nle (by omega) (by omega)) ⟨vp_in_nI (by omega) (by omega), ?_⟩
      rw [nI_clamp (by omega)]
      have e1 : nI (c + 1) + (nI (sq_ch (ks k)) - 1) = nI (c + sq_ch (ks k)) := by
        rw [← nI_1, ← nI_add]
        grind
      have hs := sq_hS ks k
      refine yw_children (nm_r e1 (nm_r (nI_1 k) (ih (k + 1) n _ (by omega) (by omega) (by omega) ?_ (by omega) ?_)))
      · intro m m1 m2
        by_cases e : m = k
        · rw [e]; omega
        · exact H m m1 (by omega)
      · intro _
        by_cases i0 : i = k
        · rw [i0]; exact hk0
        · exact hz (by omega)
theorem yw_so {post : Int32 → Prop} {i e : Nat} (h0 : ∀ k, k < e → 0 < sq_h ks k) (he : e ≤ 16) (hi : i ≤ e)
    (hp : ∀ c, (0 < c ↔ sq_op ks i e = true) → (i = 0 → c = sq_h ks e) → c ≤ 17 → post (nI c)) : wpY_stillOpen post (rc, nc, bg, nn, ou, q0, q1, cy, sz, rs, tl, ks, os, xs, ys, fr, cu, vl, tk) (nI i) (nI e) :=
  ⟨17, yw_so5 h0 he hp (e - i) i 17 1 (by omega) (by omega) (Nat.le_refl i) (fun m m1 m2 => absurd m2 (by omega)) (by omega) (fun z => absurd z (by omega))⟩
theorem yw_lev14 {post : Int32 → SY → Prop} {o N j : Nat} (T : sq_T ks xs ys N) (h16 : N ≤ 16) (hj : j ≤ N) (hj0 : 0 < sq_h ks j)
    (hp : ∀ fr', (∀ m, m ≤ sq_Lv ks j → fr' m = nI (sq_Sc ks ys o j m)) → post (nI (sq_Lv ks j)) (rc, nc, bg, nn, ou, q0, q1, cy, sz, rs, tl, ks, os, xs, ys, fr', cu, vl, tk)) :
    ∀ d k n fr, k + d = j → d < n → (∀ m, m ≤ sq_cn (sq_A ks j (sq_h ks j - 1)) k → fr m = nI (sq_Sc ks ys o j m)) →
    wY_levelAt_14 post (nI j) rc nc bg nn ou q0 q1 n (nI (sq_cn (sq_A ks j (sq_h ks j - 1)) k)) (nI k) cy sz rs tl ks os xs ys fr cu vl tk := by
  obtain ⟨a1, a2, _⟩ := sq_anc (o := o) T j hj (sq_h ks j - 1) (by omega)
  have hl := sq_Lv_le T hj
  have a1' : sq_Lv ks j = sq_cn (sq_A ks j (sq_h ks j - 1)) j := a1
  intro d
  induction d with
  | zero =>
    intro k n fr hk hn H
    obtain ⟨n, rfl⟩ : ∃ m, n = m + 1 := ⟨n - 1, by omega⟩
    have : k = j := by omega
    subst this
    rw [← a1'] at H ⊢
    exact br_t (nI_le (Nat.le_refl _) (by omega)) (hp fr H)
  | succ d ih =>
    intro k n fr hk hn H
    obtain ⟨n, rfl⟩ : ∃ m, n = m + 1 := ⟨n - 1, by omega⟩
    have hkc : (nI k).toNatClampNeg = k := nI_clamp (by omega)
    have hin : vp_in (nI k) 16 := vp_in_nI (by omega) (by omega)
    have ih' := ih (k + 1) n
    refine br_f (nI_ge (by omega) (by omega)) ⟨hin, ?_⟩
    rw [hkc]
    by_cases l5 : ks k < 5
    · have hA : ¬ sq_A ks j (sq_h ks j - 1) k = true := fun h => ((sq_Atop hj0 (by omega)).mp h).1 l5
      have ec : sq_cn (sq_A ks j (sq_h ks j - 1)) (k + 1) = sq_cn (sq_A ks j (sq_h ks j - 1)) k := by
        simp only [sq_cn]
        rw [if_neg hA]
        rfl
      rw [ec] at ih'
      exact br_t l5 (nm_r (nI_1 k) (ih' fr (by omega) (by omega) H))
    · refine br_f l5 (yw_so (fun k hk => T.1 k (by omega)) (by omega) (by omega) (fun c hc _ hc17 => ?_))
      by_cases c0 : c = 0
      · have hA : ¬ sq_A ks j (sq_h ks j - 1) k = true := fun h => by
          have := hc.mpr ((sq_Atop hj0 (by omega)).mp h).2
          omega
        have ec : sq_cn (sq_A ks j (sq_h ks j - 1)) (k + 1) = sq_cn (sq_A ks j (sq_h ks j - 1)) k := by
          simp only [sq_cn]
          rw [if_neg hA]
          rfl
        rw [ec] at ih'
        subst c0
        exact br_t (by decide) (nm_r (nI_1 k) (ih' fr (by omega) (by omega) H))
      · have hA : sq_A ks j (sq_h ks j - 1) k = true := (sq_Atop hj0 (by omega)).mpr ⟨l5, hc.mp (by omega)⟩
        have ec : sq_cn (sq_A ks j (sq_h ks j - 1)) (k + 1) = sq_cn (sq_A ks j (sq_h ks j - 1)) k + 1 := by
          simp only [sq_cn]
          rw [if_pos hA]
        have hle : sq_cn (sq_A ks j (sq_h ks j - 1)) (k + 1) ≤ sq_cn (sq_A ks j (sq_h ks j - 1)) j := sq_cn_le (by omega)
        have hS := a2 k (by omega) hA
        obtain ⟨_, y, hy, ey⟩ := (T.2 k (by omega)).2.2.2 l5
        rw [ey, nI_clamp (by omega)] at hS
        rw [ec] at ih' hle
        generalize sq_cn (sq_A ks j (sq_h ks j - 1)) k = cc at ih' hle hS H ⊢
        have e1 : (nI (cc + 1)).toNatClampNeg = cc + 1 := nI_clamp (by omega)
        have e2 : ys k / 2 = nI (y / 2) := by rw [ey]; exact sq_half (by omega)
        refine br_f (nI_nle (by omega) (by omega)) (nm_r (nI_1 cc) ⟨hin, by decide, vp_in_nI (by omega) (by omega), nm_e (nm_r (nI_1 k) ?_)⟩)
        rw [e1, e2]
        refine ih' _ (by omega) (by omega) (fun m hm => ?_)
        by_cases em : m = cc + 1
        · rw [em, pk_us]
          exact congrArg nI hS.symm
        · rw [pk_un em]
          exact H m (by omega)
theorem yw_levelAt {post : Int32 → SY → Prop} {o N j : Nat} (T : sq_T ks xs ys N) (h16 : N ≤ 16) (hj : j ≤ N) (hj0 : 0 < sq_h ks j)
    (hp : ∀ fr', (∀ m, m ≤ sq_Lv ks j → fr' m = nI (sq_Sc ks ys o j m)) → post (nI (sq_Lv ks j)) (rc, nc, bg, nn, nI o, q0, q1, cy, sz, rs, tl, ks, os, xs, ys, fr', cu, vl, tk)) : wpY_levelAt post (rc, nc, bg, nn, nI o, q0, q1, cy, sz, rs, tl, ks, os, xs, ys, fr, cu, vl, tk) (nI j) := by
  obtain ⟨_, _, a3⟩ := sq_anc (o := o) T j hj (sq_h ks j - 1) (by omega)
  refine nm_e ⟨j + 1, yw_lev14 (o := o) T h16 hj hj0 hp j 0 (j + 1) _ (by omega) (by omega) (fun m hm => ?_)⟩
  have hm' : m ≤ 0 := hm
  have m0 : m = 0 := by omega
  rw [m0, pk_us]
  exact congrArg nI a3.symm
theorem yw_places {post : Int32 → Prop} {N : Nat} (h0 : ∀ k, k < N → 0 < sq_h ks k) (h16 : N ≤ 16) (hp : post (nI (sq_h ks N))) : wpY_places post (rc, nc, 1, nI N, ou, q0, q1, cy, sz, rs, tl, ks, os, xs, ys, fr, cu, vl, tk) := by
  refine br_f (by decide) (yw_so (i := 0) h0 h16 (by omega) (fun c _ hc _ => ?_))
  rw [hc rfl]
  exact hp
theorem yw_operand {post : Int32 → Prop} {l : Nat} {q : Int32} {s r : Nat → Nat} (hl : l ≤ 2) (hq : sq_OpOK q l)
    (hf : ∀ k, k ≤ l → fr k = nI (s k)) (hs3 : ∀ k, k ≤ l → s k < 3) (hc : ∀ k, k ≤ l → cu k = nI (r k)) (hr : ∀ k, k ≤ l → r k < 8)
    (hp : post (sq_ov cy s r q)) : wpY_operand post (rc, nc, bg, nn, ou, q0, q1, cy, sz, rs, tl, ks, os, xs, ys, fr, cu, vl, tk) q := by
  unfold sq_ov at hp
  rcases hq with hq | ⟨m, rfl, m1, m2⟩
  · rw [if_neg hq] at hp
    exact br_f hq hp
  · have hm : (100 : Int32) ≤ nI m := nI_le (a := 100) m1 (by omega)
    rw [if_pos hm, nI_clamp (by omega)] at hp
    have hk : (m - 100) / 2 ≤ l := by omega
    have e4 := sq_k100 (m := m) (by omega) m1
    have e5 : nI m - 100 = nI (m - 100) := pk_sub (b := 100) m1
    have e6 : nI (m - 100) - nI ((m - 100) / 2) * 2 = nI (m % 2) := by
      rw [zz_lit2, pk_mul, pk_sub (by omega)]
      exact congrArg nI (by omega)
    refine br_t hm ?_
    rw [e4, e5, e6]
    generalize (m - 100) / 2 = k at hp hk
    rw [nI_clamp (by omega), hf k hk, hc k hk]
    have h1 := hs3 k hk
    have h2 := hr k hk
    have e8 := sq_cell (s k) (r k) (m % 2)
    have hin : vp_in (nI k) 3 := vp_in_nI (by omega) (by omega)
    refine ⟨by decide, hin, by decide, hin, by decide, zz_in e8 (by omega) (by omega), ?_⟩
    rw [zz_cl e8 (by omega)]
    exact hp
end
end
section
/-! Y: the value of a node for the current rows -/
def sq_NY (cy sz ks os xs ys vl tk : Nat → Int32) (o rr : Nat) (r : Nat → Nat) (j : Nat) : Int32 :=
  sq_nv (ks j) (os j) (sq_ov cy (sq_Sc ks ys o j) r (xs j)) (sq_ov cy (sq_Sc ks ys o j) r (ys j)) (vl (j + 1)) (vl rr)
    (fun k => decide (¬ tk (j * 8 + k) = 0)) (sq_sv cy (ys j).toNatClampNeg) (sz ((ys j).toNatClampNeg / 2)).toNatClampNeg
def sq_YC (sz ks xs ys : Nat → Int32) (o N : Nat) : Prop := sq_T ks xs ys N ∧ sq_h ks N = 0 ∧ N ≤ 16 ∧ o < 3 ∧ sq_SZ sz 8
section
variable {rc nc bg nn ou q0 q1 : Int32} {cy sz rs tl ks os xs ys fr cu vl tk : Nat → Int32}
theorem yw_317 {post : Int32 → Prop} {J227 : Int32 → Int32 → Int32 → Int32 → Int32 → Int32 → Prop} {x1 x2 x3 x4 x5 x6 x7 x8 x9 x10 x11 x12 x13 x14 : Int32}
    (h : J227 x6 x7 (if x12 ≤ x8 then x8 else x12) (if x13 ≤ x9 then x9 else x13) (if x10 ≤ x14 then x10 else x14) (x11 + 1)) :
    wY_value_317 post J227 x1 x2 x3 x4 x5 x6 x7 x8 x9 x10 x11 x12 x13 x14 rc nc bg nn ou q0 q1 cy sz rs tl ks os xs ys fr cu vl tk := by
  have A : ∀ y8 y9, J227 x6 x7 y8 y9 (if x10 ≤ x14 then x10 else x14) (x11 + 1) → wY_value_339 post J227 x1 x2 x3 x4 x5 x6 x7 y8 y9 x10 x11 x14 rc nc bg nn ou q0 q1 cy sz rs tl ks os xs ys fr cu vl tk := by
    intro y8 y9 h
    refine br_c (fun a => nm_e ?_) (fun a => nm_e ?_)
    · rw [if_pos a] at h
      exact h
    · rw [if_neg a] at h
      exact h
  have B : ∀ y8, J227 x6 x7 y8 (if x13 ≤ x9 then x9 else x13) (if x10 ≤ x14 then x10 else x14) (x11 + 1) → wY_value_328 post J227 x1 x2 x3 x4 x5 x6 x7 y8 x9 x10 x11 x13 x14 rc nc bg nn ou q0 q1 cy sz rs tl ks os xs ys fr cu vl tk := by
    intro y8 h
    refine br_c (fun a => A _ _ ?_) (fun a => A _ _ ?_)
    · rw [if_pos a] at h
      exact h
    · rw [if_neg a] at h
      exact h
  refine br_c (fun a => B _ ?_) (fun a => B _ ?_)
  · rw [if_pos a] at h
    exact h
  · rw [if_neg a] at h
    exact h
theorem yw_227 {post : Int32 → Prop} {j y c : Nat} {k p x : Int32} {t : Nat → Bool} (hj : j < 16) (hy : y ≤ 5) (hc : c ≤ 8) (ec : sz (y / 2) = nI c)
    (ht : ∀ r, r < c → (t r = true ↔ ¬ tk (j * 8 + r) = 0)) (hp : post (sq_sub k p x t (sq_sv cy y) c)) :
    ∀ d r n, r + d = c → d < n → wY_value_227 post (nI j) k p x (nI y) rc nc bg nn ou q0 q1 cy sz rs tl ks os xs ys fr cu vl tk n (nI (sq_fc t r)) (nI (sq_ff t (sq_sv cy y) r)) (sq_fm t (sq_sv cy y) r) (sq_fi x t (sq_sv cy y) r) (sq_fa p x t (sq_sv cy y) r) (nI r) := by
  have e2 : nI y / 2 = nI (y / 2) := sq_half (by omega)
  have e3 : sz (nI y / 2).toNatClampNeg = nI c := by rw [zz_cl e2 (by omega), ec]
  intro d
  induction d with
  | zero =>
    intro r n hr hn
    obtain ⟨n, rfl⟩ : ∃ m, n = m + 1 := ⟨n - 1, by omega⟩
    have rc : r = c := by omega
    subst rc
    refine ⟨by decide, zz_in e2 (by omega) (by omega), ?_⟩
    rw [e3]
    unfold sq_sub at hp
    refine br_t (nI_le (Nat.le_refl _) (by omega)) (br_c (fun k5 => ?_) (fun k5 => br_c (fun k6 => ?_) (fun k6 => br_c (fun k7 => ?_) (fun k7 => br_c (fun k8 => ?_) (fun k8 => br_c (fun k9 => ?_) (fun k9 => br_c (fun k10 => ?_) (fun k10 => ?_)))))))
    · rw [if_pos k5] at hp
      by_cases z : sq_fc t r = 0
      · rw [if_pos z] at hp
        exact br_t (by rw [z]; decide) hp
      · rw [if_neg z] at hp
        have := sq_fc_le t r
        exact br_f (nI_nle (by omega) (by omega)) hp
    · rw [if_neg k5, if_pos k6] at hp
      exact br_t k6 hp
    · rw [if_neg k5, if_neg k6, if_pos k7] at hp
      exact br_f k6 hp
    · rw [if_neg k5, if_neg k6, if_neg k7, if_pos k8] at hp
      exact hp
    · rw [if_neg k5, if_neg k6, if_neg k7, if_neg k8, if_pos k9] at hp
      exact yw_compare hp
    · rw [if_neg k5, if_neg k6, if_neg k7, if_neg k8, if_neg k9, if_pos k10] at hp
      exact yw_compare hp
    · rw [if_neg k5, if_neg k6, if_neg k7, if_neg k8, if_neg k9, if_neg k10] at hp
      exact yw_compare hp
  | succ d ih =>
    intro r n hr hn
    obtain ⟨n, rfl⟩ : ∃ m, n = m + 1 := ⟨n - 1, by omega⟩
    have ih' := ih (r + 1) n (by omega) (by omega)
    have e8 : nI j * 8 + nI r = nI (j * 8 + r) := by rw [zz_lit8, pk_mul, nI_add]
    refine ⟨by decide, zz_in e2 (by omega) (by omega), ?_⟩
    rw [e3]
    refine br_f (nI_ge (by omega) (by omega)) ⟨zz_in e8 (by omega) (by omega), ?_⟩
    rw [zz_cl e8 (by omega)]
    unfold sq_fc sq_ff sq_fm sq_fi sq_fa at ih' ⊢
    by_cases z : tk (j * 8 + r) = 0
    · have tz : ¬ t r = true := fun h => (ht r (by omega)).mp h z
      rw [sq_gf_f tz, sq_gf_f tz, sq_gf_f tz, sq_gf_f tz, sq_gf_f tz] at ih'
      exact br_t z (nm_r (nI_1 r) ih')
    · have tz : t r = true := (ht r (by omega)).mpr z
      rw [sq_gf_t tz, sq_gf_t tz, sq_gf_t tz, sq_gf_t tz, sq_gf_t tz] at ih'
      have e9 : nI y / 2 * 16 + nI r * 2 + (nI y - nI y / 2 * 2) = nI (y / 2 * 16 + r * 2 + y % 2) := by
        rw [sq_odd (by omega), sq_half (by omega), sq_cell]
      have e10 : cy (nI y / 2 * 16 + nI r * 2 + (nI y - nI y / 2 * 2)).toNatClampNeg = sq_sv cy y r := by
        rw [zz_cl e9 (by omega)]
        rfl
      refine br_f z ⟨by decide, by decide, zz_in e9 (by omega) (by omega), nm_r e10 (yw_compare (yw_compare (nm_r (nI_1 _) (br_c (fun a => yw_317 ?_) (fun a => nm_r (nI_1 _) (yw_317 ?_))))))⟩
      · rw [sq_sf_t a] at ih'
        rw [nI_1]
        exact ih'
      · rw [sq_sf_f a] at ih'
        rw [nI_1 r]
        exact ih'
theorem yw_154 {post : Int32 → Prop} {j r : Nat} {k : Int32} (hj : j + 1 < 16) (hr : r < 16) (k12 : k = 1 ∨ k = 2)
    (hp : post (if k = 1 then (if vl r ≤ vl (j + 1) then vl r else vl (j + 1)) else (if vl (j + 1) ≤ vl r then vl r else vl (j + 1)))) : wY_value_154 post (nI j) k (nI r) rc nc bg nn ou q0 q1 cy sz rs tl ks os xs ys fr cu vl tk := by
  have e1 : nI j + 1 = nI (j + 1) := nI_1 j
  have i1 : vp_in (nI (j + 1)) 16 := vp_in_nI hj (by omega)
  have i2 : vp_in (nI r) 16 := vp_in_nI hr (by omega)
  have c1 : (nI (j + 1)).toNatClampNeg = j + 1 := nI_clamp (by omega)
  have c2 : (nI r).toNatClampNeg = r := nI_clamp (by omega)
  have E : ∀ z0 z1 : Int32, (z1 = z0 → post (vl r)) → (¬ z1 = z0 → post (vl (j + 1))) → wY_value_187 post (nI j) (nI r) z0 z1 rc nc bg nn ou q0 q1 cy sz rs tl ks os xs ys fr cu vl tk := by
    intro z0 z1 f g
    unfold wY_value_187
    rw [e1, c1, c2]
    exact br_c (fun a => ⟨i2, f a⟩) (fun a => ⟨i1, g a⟩)
  unfold wY_value_154
  rw [e1, c1, c2]
  refine ⟨i2, i1, br_c (fun a => ?_) (fun a => ?_)⟩
  · refine br_c (fun k1 => E _ _ (fun z => absurd z (by decide)) (fun _ => ?_)) (fun k1 => E _ _ (fun _ => ?_) (fun z => absurd rfl z))
    · rw [if_pos k1] at hp
      by_cases b : vl r ≤ vl (j + 1)
      · rw [if_pos b, Int32.le_antisymm b a] at hp
        exact hp
      · rw [if_neg b] at hp
        exact hp
    · rw [if_neg k1, if_pos a] at hp
      exact hp
  · refine br_c (fun k1 => E _ _ (fun _ => ?_) (fun z => absurd rfl z)) (fun k1 => E _ _ (fun z => absurd z (by decide)) (fun _ => ?_))
    · have b : vl r ≤ vl (j + 1) := Int32.le_of_lt (Int32.not_le.mp a)
      rw [if_pos k1, if_pos b] at hp
      exact hp
    · rw [if_neg k1, if_neg a] at hp
      exact hp
theorem yw_119 {post : Int32 → Prop} {N j r : Nat} {k : Int32} (h0 : ∀ e, e < N → 0 < sq_h ks e) (h16 : N ≤ 16) (hj : j < N) (k12 : k = 1 ∨ k = 2) (hk : ks j = k) (hr : r < N) (R : sq_Rt ks j r)
    (hp : wY_value_154 post (nI j) k (nI r) rc nc bg (nI N) ou q0 q1 cy sz rs tl ks os xs ys fr cu vl tk) : ∀ d c n, c + d = r → d < n → j + 1 ≤ c → wY_value_119 post (nI j) k rc nc bg (nI N) ou q0 q1 cy sz rs tl ks os xs ys fr cu vl tk n (nI c) (nI c) := by
  have hs := sq_hS ks j
  rw [hk, sq_ch12 k12] at hs
  have hj0 := h0 j hj
  have eN : nI N - 1 = nI (N - 1) := pk_sub (b := 1) (by omega)
  intro d
  induction d with
  | zero =>
    intro c n hc hn hjc
    obtain ⟨n, rfl⟩ : ∃ m, n = m + 1 := ⟨n - 1, by omega⟩
    have rc : c = r := by omega
    subst rc
    unfold wY_value_119
    rw [eN]
    refine br_c (fun a => hp) (fun a => ?_)
    rw [nI_1 j]
    refine yw_so (i := j + 1) (fun k hk => h0 k (by omega)) (by omega) (by omega) (fun c hc _ _ => ?_)
    have c0 : c = 0 := by
      by_cases z : c = 0
      · exact z
      · have := sq_op_iff.mp (hc.mp (by omega)) _ hjc (Nat.le_refl _)
        have := R.2.1
        omega
    rw [c0]
    exact br_t (by decide) hp
  | succ d ih =>
    intro c n hc hn hjc
    obtain ⟨n, rfl⟩ : ∃ m, n = m + 1 := ⟨n - 1, by omega⟩
    unfold wY_value_119
    rw [eN]
    refine br_f (nI_ge (by omega) (by omega)) ?_
    rw [nI_1 j]
    refine yw_so (fun k hk => h0 k (by omega)) (by omega) (by omega) (fun q hq _ hq17 => ?_)
    have q0 : 0 < q := by
      refine hq.mpr (sq_op_iff.mpr (fun m m1 m2 => ?_))
      have := R.2.2 m (by omega) (by omega)
      omega
    exact br_f (nI_nle q0 (by omega)) (nm_r (nI_1 c) (nm_r (nI_1 c) (ih (c + 1) n (by omega) (by omega) (by omega))))
theorem yw_v50 {post : Int32 → Prop} {o N j rr : Nat} {r : Nat → Nat} {z0 : Int32} (C : sq_YC sz ks xs ys o N) (hj : j < N) (hR : ks j = 1 ∨ ks j = 2 → rr < N ∧ sq_Rt ks j rr)
    (hz : ks j = 3 → z0 = sq_ov cy (sq_Sc ks ys o j) r (ys j)) (hz' : ¬ ks j = 3 → z0 = ys j)
    (hp : post (sq_NY cy sz ks os xs ys vl tk o rr r j)) : wY_value_50 post (nI j) (ks j) (os j) (sq_ov cy (sq_Sc ks ys o j) r (xs j)) z0 rc nc bg (nI N) ou q0 q1 cy sz rs tl ks os xs ys fr cu vl tk := by
  obtain ⟨T, hN, h16, ho, SZ⟩ := C
  have e1 : nI j + 1 = nI (j + 1) := nI_1 j
  unfold sq_NY sq_nv at hp
  refine br_c (fun k0 => ?_) (fun k0 => br_c (fun k3 => ?_) (fun k3 => br_c (fun k4 => ?_) (fun k4 => br_c (fun k1 => ?_) (fun k1 => br_c (fun k2 => ?_) (fun k2 => ?_)))))
  · rw [if_pos k0] at hp
    have hk := sq_kid T hN hj (by rw [k0]; decide)
    rw [e1, nI_clamp (by omega)]
    exact ⟨vp_in_nI (by omega) (by omega), hp⟩
  · rw [if_neg k0, if_pos k3] at hp
    rw [hz k3]
    exact yw_compare hp
  · rw [if_neg k0, if_neg k3, if_pos k4] at hp
    refine br_c (fun a => ?_) (fun a => ?_)
    · rw [if_pos a] at hp
      exact hp
    · rw [if_neg a] at hp
      exact hp
  · rw [if_neg k0, if_neg k3, if_neg k4] at hp
    have hk := sq_kid T hN hj (sq_chpos k3 k4)
    obtain ⟨hr, R⟩ := hR (Or.inl k1)
    refine nm_r e1 (nm_r e1 ⟨17, yw_119 T.1 h16 hj (Or.inl k1) rfl hr R (yw_154 (by omega) (by omega) (Or.inl k1) ?_) (rr - (j + 1)) (j + 1) 17 (by have := R.1; omega) (by omega) (by omega)⟩)
    rw [if_pos k1] at hp ⊢
    exact hp
  · rw [if_neg k0, if_neg k3, if_neg k4, if_neg k1, if_pos k2] at hp
    have hk := sq_kid T hN hj (sq_chpos k3 k4)
    obtain ⟨hr, R⟩ := hR (Or.inr k2)
    refine nm_r e1 (nm_r e1 ⟨17, yw_119 T.1 h16 hj (Or.inr k2) rfl hr R (yw_154 (by omega) (by omega) (Or.inr k2) ?_) (rr - (j + 1)) (j + 1) 17 (by have := R.1; omega) (by omega) (by omega)⟩)
    rw [if_neg k1]
    exact hp
  · rw [if_neg k0, if_neg k3, if_neg k4, if_neg k1, if_neg k2] at hp
    have h5 := sq_ge5 (T.2 j hj).1 k0 k1 k2 k3 k4
    obtain ⟨hl, y, hy, ey⟩ := (T.2 j hj).2.2.2 h5
    rw [hz' k3, ey]
    rw [ey, nI_clamp (by omega)] at hp
    obtain ⟨c, hc, ec⟩ := SZ (y / 2) (by omega)
    rw [ec, nI_clamp (by omega)] at hp
    exact ⟨9, yw_227 (t := fun k => decide (¬ tk (j * 8 + k) = 0)) (by omega) hy hc ec (fun r _ => decide_eq_true_iff) hp c 0 9 (by omega) (by omega)⟩
theorem yw_value {post : Int32 → Prop} {o N j rr : Nat} {r : Nat → Nat} (C : sq_YC sz ks xs ys o N) (hj : j < N) (hR : ks j = 1 ∨ ks j = 2 → rr < N ∧ sq_Rt ks j rr)
    (hf : ∀ k, k ≤ sq_Lv ks j → fr k = nI (sq_Sc ks ys o j k)) (hc : ∀ k, k ≤ 2 → cu k = nI (r k)) (hr : ∀ k, k ≤ 2 → r k < 8)
    (hp : post (sq_NY cy sz ks os xs ys vl tk o rr r j)) : wpY_value post (rc, nc, bg, nI N, ou, q0, q1, cy, sz, rs, tl, ks, os, xs, ys, fr, cu, vl, tk) (nI j) := by
  have h16 := C.2.2.1
  have hjc : (nI j).toNatClampNeg = j := nI_clamp (by omega)
  have hin : vp_in (nI j) 16 := vp_in_nI (by omega) (by omega)
  have hl := sq_Lv_le C.1 (Nat.le_of_lt hj)
  have hs3 := fun k (_ : k ≤ sq_Lv ks j) => sq_Sc_lt C.1 C.2.2.2.1 (Nat.le_of_lt hj) k
  have hc' := fun k (hk : k ≤ sq_Lv ks j) => hc k (Nat.le_trans hk hl)
  have hr' := fun k (hk : k ≤ sq_Lv ks j) => hr k (Nat.le_trans hk hl)
  unfold wpY_value
  dsimp only
  rw [hjc]
  refine ⟨hin, nm_e ⟨hin, nm_e ⟨hin, yw_operand hl (C.1.2 j hj).2.1 hf hs3 hc' hr' (br_c (fun k3 => ⟨hin, yw_operand hl ((C.1.2 j hj).2.2.1 k3) hf hs3 hc' hr' ?_⟩) (fun k3 => ⟨hin, ?_⟩))⟩⟩⟩
  · exact yw_v50 C hj hR (fun _ => rfl) (fun h => absurd k3 h) hp
  · exact yw_v50 C hj hR (fun h => absurd h k3) (fun _ => rfl) hp
end
end
section
/-! the two values of a node agree in a context whose rows are there -/
def sq_CE (cx cy sz : Nat → Int32) : Prop := ∀ t, t < 3 → ∀ q, q < (sz t).toNatClampNeg * 2 → cx (t * 16 + q) = cy (t * 16 + q)
def sq_ok (sz ks ys : Nat → Int32) (o : Nat) (r : Nat → Nat) (j : Nat) : Prop := ∀ k, k ≤ sq_Lv ks j → r k < (sz (sq_Sc ks ys o j k)).toNatClampNeg
def sq_x1 (ks : Nat → Int32) (r : Nat → Nat) (j : Nat) : Nat := if 1 ≤ sq_Lv ks j then r 1 else 0
def sq_x2 (ks : Nat → Int32) (r : Nat → Nat) (j : Nat) : Nat := if 2 ≤ sq_Lv ks j then r 2 else 0
def sq_W (ks tr : Nat → Int32) (r : Nat → Nat) (j : Nat) : Int32 := tr (sq_ix j (r 0) (sq_x1 ks r j) (sq_x2 ks r j))
theorem sq_r3_x {ks : Nat → Int32} {r : Nat → Nat} {j k : Nat} (hk : k ≤ sq_Lv ks j) (hl : sq_Lv ks j ≤ 2) : sq_r3 (r 0) (sq_x1 ks r j) (sq_x2 ks r j) k = r k := by
  unfold sq_r3 sq_x1 sq_x2
  by_cases k0 : k = 0
  · rw [if_pos k0, k0]
  · rw [if_neg k0]
    by_cases k1 : k = 1
    · rw [if_pos k1, if_pos (by omega), k1]
    · have k2 : k = 2 := by omega
      rw [if_neg k1, if_pos (by omega), k2]
theorem sq_ov_c {cx cy sz ks xs ys : Nat → Int32} {o N j : Nat} {r : Nat → Nat} {q : Int32} (T : sq_T ks xs ys N) (ho : o < 3) (CE : sq_CE cx cy sz) (hj : j < N) (ok : sq_ok sz ks ys o r j) (hq : sq_OpOK q (sq_Lv ks j)) :
    sq_ov cx (sq_Sc ks ys o j) (sq_r3 (r 0) (sq_x1 ks r j) (sq_x2 ks r j)) q = sq_ov cy (sq_Sc ks ys o j) r q := by
  have hl := sq_Lv_le T (Nat.le_of_lt hj)
  unfold sq_ov
  rcases hq with hq | ⟨m, rfl, m1, m2⟩
  · rw [if_neg hq, if_neg hq]
  · have hm : (100 : Int32) ≤ nI m := nI_le (a := 100) m1 (by omega)
    rw [if_pos hm, if_pos hm, nI_clamp (by omega)]
    have hk : (m - 100) / 2 ≤ sq_Lv ks j := by omega
    generalize (m - 100) / 2 = k at hk
    rw [sq_r3_x hk hl, Nat.add_assoc]
    have := ok k hk
    exact CE _ (sq_Sc_lt T ho (Nat.le_of_lt hj) k) _ (by omega)
theorem sq_sv_c {cx cy sz : Nat → Int32} {y k : Nat} (CE : sq_CE cx cy sz) (hy : y ≤ 5) (hk : k < (sz (y / 2)).toNatClampNeg) : sq_sv cx y k = sq_sv cy y k := by
  unfold sq_sv
  rw [Nat.add_assoc]
  exact CE _ (by omega) _ (by omega)
theorem sq_link {cx cy sz ks os xs ys lv rt sc tr vl tk : Nat → Int32} {o N j rr : Nat} {r : Nat → Nat} (C : sq_XC sz ks xs ys lv rt sc o N) (CE : sq_CE cx cy sz) (hj : j < N) (ok : sq_ok sz ks ys o r j)
    (hR : ks j = 1 ∨ ks j = 2 → rr < N ∧ sq_Rt ks j rr)
    (ha : ¬ ks j = 3 → ¬ ks j = 4 → ks j < 5 → vl (j + 1) = tr (sq_ix (j + 1) (r 0) (sq_x1 ks r j) (sq_x2 ks r j)))
    (hb : ks j = 1 ∨ ks j = 2 → vl rr = tr (sq_ix rr (r 0) (sq_x1 ks r j) (sq_x2 ks r j)))
    (ht : ¬ ks j < 5 → ∀ k, k < (sz ((ys j).toNatClampNeg / 2)).toNatClampNeg → (¬ tk (j * 8 + k) = 0 ↔ tr (sq_ix (j + 1) (r 0) (sq_x1 ks r j) (sq_x2 ks r j) + k * sq_st (sq_Lv ks j)) = 2)) :
    sq_NX cx sz ks os xs ys rt tr o j (r 0) (sq_x1 ks r j) (sq_x2 ks r j) = sq_NY cy sz ks os xs ys vl tk o rr r j := by
  have D := C.1.2 j hj
  unfold sq_NX sq_NY
  rw [sq_ov_c C.1 C.2.2.2.1 CE hj ok D.2.1]
  refine sq_nv_c D.1 (fun k3 => sq_ov_c C.1 C.2.2.2.1 CE hj ok (D.2.2.1 k3)) (fun a b c => (ha a b c).symm) (fun k12 => ?_) (fun g5 => ⟨fun k hk => ?_, fun k hk => ?_⟩)
  · obtain ⟨h1, h2⟩ := hR k12
    have h16 := C.2.2.1
    rw [C.2.2.2.2.1.2.2 j rr h1 k12 h2, nI_clamp (by omega)]
    exact (hb k12).symm
  · have := ht g5 k hk
    rw [Bool.eq_iff_iff, decide_eq_true_iff, decide_eq_true_iff]
    exact this.symm
  · obtain ⟨_, y, hy, ey⟩ := D.2.2.2 g5
    have hyc : (ys j).toNatClampNeg = y := by rw [ey]; exact nI_clamp (by omega)
    rw [hyc] at hk ⊢
    exact sq_sv_c CE hy hk
theorem sq_Sc0 {ks xs ys : Nat → Int32} {o N j : Nat} (T : sq_T ks xs ys N) (hj : j < N) : sq_Sc ks ys o j 0 = o := (sq_anc (o := o) T j (Nat.le_of_lt hj) (sq_h ks j - 1) (by have := T.1 j hj; omega)).2.2
theorem sq_solW {cx sz ks os xs ys lv rt sc tr : Nat → Int32} {o N f e j : Nat} {r : Nat → Nat} (C : sq_XC sz ks xs ys lv rt sc o N) (S : sq_Sol cx sz ks os xs ys rt tr o N f e 0) (hj : j < N) (ok : sq_ok sz ks ys o r j) (h0 : f ≤ r 0) (h1 : r 0 < e) :
    sq_W ks tr r j = sq_NX cx sz ks os xs ys rt tr o j (r 0) (sq_x1 ks r j) (sq_x2 ks r j) := by
  refine S j (by omega) hj _ _ _ h0 h1 ?_ ?_
  · unfold sq_x1 sq_ct
    by_cases h : 1 ≤ sq_Lv ks j
    · rw [if_pos h, if_pos h]
      exact ok 1 h
    · rw [if_neg h, if_neg h]
      omega
  · unfold sq_x2 sq_ct
    by_cases h : 2 ≤ sq_Lv ks j
    · rw [if_pos h, if_pos h]
      exact ok 2 h
    · rw [if_neg h, if_neg h]
      omega
theorem sq_W_same {ks tr : Nat → Int32} {r : Nat → Nat} {i j : Nat} (h : sq_Lv ks i = sq_Lv ks j) : sq_W ks tr r i = tr (sq_ix i (r 0) (sq_x1 ks r j) (sq_x2 ks r j)) := by
  unfold sq_W sq_x1 sq_x2
  rw [h]
theorem sq_ok_same {sz ks ys : Nat → Int32} {o i j : Nat} {r : Nat → Nat} (h : sq_Lv ks i = sq_Lv ks j) (hS : ∀ k, sq_Sc ks ys o i k = sq_Sc ks ys o j k) (ok : sq_ok sz ks ys o r j) : sq_ok sz ks ys o r i := by
  intro k hk
  rw [hS]
  exact ok k (by omega)
/-! the root of the answer is one of 0, 1, 2 -/
theorem sq_sol3 {cx sz ks os xs ys lv rt sc tr : Nat → Int32} {o N f e : Nat} (C : sq_XC sz ks xs ys lv rt sc o N) (S : sq_Sol cx sz ks os xs ys rt tr o N f e 0) :
    ∀ d j, j + d = N → j < N → ∀ r0 r1 r2, f ≤ r0 → r0 < e → r1 < sq_ct sz ks ys o j 1 → r2 < sq_ct sz ks ys o j 2 → sq_v3 (tr (sq_ix j r0 r1 r2)) := by
  have A : ∀ i j k, sq_Lv ks i = sq_Lv ks j → (∀ k, sq_Sc ks ys o i k = sq_Sc ks ys o j k) → sq_ct sz ks ys o i k = sq_ct sz ks ys o j k := by
    intro i j k h1 h2
    unfold sq_ct
    rw [h1, h2]
  intro d
  induction d using Nat.strongRecOn with
  | ind d ih =>
    intro j hd hj r0 r1 r2 g0 g1 g2 g3
    rw [S j (by omega) hj r0 r1 r2 g0 g1 g2 g3]
    have h0 := C.1.1 j hj
    refine sq_nv3 (C.1.2 j hj).1 (fun n3 n4 l5 => ?_) (fun k12 => ?_)
    · have hk := sq_kid C.1 C.2.1 hj (sq_chpos n3 n4)
      have eL : sq_Lv ks (j + 1) = sq_Lv ks j := by
        rw [sq_kidL h0 (sq_chpos n3 n4), if_pos l5]
        rfl
      have eS : ∀ k, sq_Sc ks ys o (j + 1) k = sq_Sc ks ys o j k := by
        intro k
        rw [sq_kidS h0 (sq_chpos n3 n4), if_neg (fun hh => hh.1 l5)]
      exact ih (N - (j + 1)) (by omega) (j + 1) (by omega) hk r0 r1 r2 g0 g1 (by rw [A _ _ _ eL eS]; exact g2) (by rw [A _ _ _ eL eS]; exact g3)
    · obtain ⟨r, hr, R⟩ := sq_right C.1 C.2.1 hj k12
      have h16 := C.2.2.1
      have r1' := R.1
      rw [C.2.2.2.2.1.2.2 j r hr k12 R, nI_clamp (by omega)]
      obtain ⟨eL, eS, _⟩ := sq_rtL h0 k12 R
      exact ih (N - r) (by omega) r (by omega) hr r0 r1 r2 g0 g1 (by rw [A _ _ _ eL (eS ys o)]; exact g2) (by rw [A _ _ _ eL (eS ys o)]; exact g3)
end
section
/-! Y: one pass of a level -/
def sq_PA (sz ks ys tr : Nat → Int32) (o N l : Nat) (r : Nat → Nat) (m : Nat) (vl : Nat → Int32) : Prop :=
  ∀ j, m ≤ j → j < N → sq_Lv ks j = l → sq_ok sz ks ys o r j → vl j = sq_W ks tr r j
def sq_PB (sz ks ys tr : Nat → Int32) (o N l : Nat) (r : Nat → Nat) (m : Nat) (tk : Nat → Int32) : Prop :=
  ∀ j, m ≤ j → j < N → ¬ ks j < 5 → sq_Lv ks j + 1 = l → sq_ok sz ks ys o r j → r l < (sz ((ys j).toNatClampNeg / 2)).toNatClampNeg → (¬ tk (j * 8 + r l) = 0 ↔ sq_W ks tr r (j + 1) = 2)
def sq_PC (ks tk0 : Nat → Int32) (l : Nat) (r : Nat → Nat) (tk : Nat → Int32) : Prop :=
  ∀ j c, c < 8 → (sq_Lv ks j + 1 = l → c ≠ r l) → tk (j * 8 + c) = tk0 (j * 8 + c)
def sq_TK (sz ks ys tr : Nat → Int32) (o N l : Nat) (r : Nat → Nat) (tk : Nat → Int32) : Prop :=
  ∀ j, j < N → ¬ ks j < 5 → sq_Lv ks j = l → sq_ok sz ks ys o r j → ∀ b, b < (sz ((ys j).toNatClampNeg / 2)).toNatClampNeg →
    (¬ tk (j * 8 + b) = 0 ↔ tr (sq_ix (j + 1) (r 0) (sq_x1 ks r j) (sq_x2 ks r j) + b * sq_st (sq_Lv ks j)) = 2)
theorem sq_nar1 : vp_nar .boolean 1 = 1 := by decide
theorem sq_nar0 : vp_nar .boolean 0 = 0 := by decide
theorem sq_kidsame {ks xs ys : Nat → Int32} {o N j : Nat} (T : sq_T ks xs ys N) (hj : j < N) (n3 : ¬ ks j = 3) (n4 : ¬ ks j = 4) (l5 : ks j < 5) : sq_Lv ks (j + 1) = sq_Lv ks j ∧ ∀ k, sq_Sc ks ys o (j + 1) k = sq_Sc ks ys o j k := by
  have h0 := T.1 j hj
  constructor
  · rw [sq_kidL h0 (sq_chpos n3 n4), if_pos l5]
    rfl
  · intro k
    rw [sq_kidS h0 (sq_chpos n3 n4), if_neg (fun hh => hh.1 l5)]
theorem sq_kidsub {sz ks xs ys : Nat → Int32} {o N j : Nat} {r : Nat → Nat} (T : sq_T ks xs ys N) (hj : j < N) (g5 : ¬ ks j < 5) : sq_Lv ks (j + 1) = sq_Lv ks j + 1 ∧
    (sq_ok sz ks ys o r j → r (sq_Lv ks j + 1) < (sz ((ys j).toNatClampNeg / 2)).toNatClampNeg → sq_ok sz ks ys o r (j + 1)) := by
  have h0 := T.1 j hj
  have hc : 0 < sq_ch (ks j) := by rw [sq_ch5 g5]; omega
  have eL : sq_Lv ks (j + 1) = sq_Lv ks j + 1 := by rw [sq_kidL h0 hc, if_neg g5]
  refine ⟨eL, fun ok hr k hk => ?_⟩
  rw [sq_kidS h0 hc]
  by_cases e : k = sq_Lv ks j + 1
  · rw [if_pos ⟨g5, e⟩, e]
    exact hr
  · rw [if_neg (fun hh => e hh.2)]
    exact ok k (by omega)
/-- a node's value, when its level's pass comes to it -/
theorem sq_atnode {cx cy sz ks os xs ys lv rt sc tr vl tk tk0 : Nat → Int32} {o N f e l m rr : Nat} {r : Nat → Nat} (C : sq_XC sz ks xs ys lv rt sc o N) (CE : sq_CE cx cy sz) (S : sq_Sol cx sz ks os xs ys rt tr o N f e 0)
    (h0 : f ≤ r 0) (h1 : r 0 < e) (TK : sq_TK sz ks ys tr o N l r tk0) (A : sq_PA sz ks ys tr o N l r (m + 1) vl) (P : sq_PC ks tk0 l r tk) (hm : m < N) (hl : sq_Lv ks m = l)
    (hR : ks m = 1 ∨ ks m = 2 → rr < N ∧ sq_Rt ks m rr) : sq_PA sz ks ys tr o N l r m (upd vl m (sq_NY cy sz ks os xs ys vl tk o rr r m)) := by
  intro j j1 j2 j3 ok
  by_cases e : j = m
  · rw [e] at ok ⊢
    rw [pk_us, sq_solW C S hm ok h0 h1]
    refine (sq_link C CE hm ok hR (fun n3 n4 l5 => ?_) (fun k12 => ?_) (fun g5 k hk => ?_)).symm
    · have hk := sq_kid C.1 C.2.1 hm (sq_chpos n3 n4)
      obtain ⟨eL, eS⟩ := sq_kidsame (o := o) C.1 hm n3 n4 l5
      rw [A (m + 1) (by omega) hk (by omega) (sq_ok_same eL eS ok), sq_W_same eL]
    · obtain ⟨hr, R⟩ := hR k12
      obtain ⟨eL, eS, _⟩ := sq_rtL (C.1.1 m hm) k12 R
      have := R.1
      rw [A rr (by omega) hr (by omega) (sq_ok_same eL (eS ys o) ok), sq_W_same eL]
    · obtain ⟨_, y, hy, ey⟩ := (C.1.2 m hm).2.2.2 g5
      have hyc : (ys m).toNatClampNeg = y := by rw [ey]; exact nI_clamp (by omega)
      obtain ⟨s, hs, es⟩ := C.2.2.2.2.2 (y / 2) (by omega)
      have hk8 : k < 8 := by
        rw [hyc, es, nI_clamp (by omega)] at hk
        omega
      rw [P m k hk8 (fun hh => by omega)]
      exact TK m hm g5 hl ok k hk
  · rw [pk_un e]
    exact A j (by omega) j2 j3 ok
section
variable {rc nc bg ou q0 q1 nn op : Int32} {cx sz rs tl ks os xs ys lv rt sc pL pO pS tr cy fr cu vl tk : Nat → Int32}
theorem yw_pass7 {post : SY → Prop} {tk0 : Nat → Int32} {o N f e l : Nat} {r : Nat → Nat} (C : sq_XC sz ks xs ys lv rt sc o N) (CE : sq_CE cx cy sz) (S : sq_Sol cx sz ks os xs ys rt tr o N f e 0)
    (hl : l ≤ 2) (hc : ∀ k, k ≤ 2 → cu k = nI (r k)) (hr : ∀ k, k ≤ 2 → r k < 8) (h0 : f ≤ r 0) (h1 : r 0 < e) (TK : sq_TK sz ks ys tr o N l r tk0)
    (hp : ∀ fr' vl' tk', fr' 0 = nI o → sq_PA sz ks ys tr o N l r 0 vl' → sq_PB sz ks ys tr o N l r 0 tk' → sq_PC ks tk0 l r tk' → post (rc, nc, bg, nI N, nI o, q0, q1, cy, sz, rs, tl, ks, os, xs, ys, fr', cu, vl', tk')) :
    ∀ m n fr vl tk, m ≤ N → m < n → (m < N → fr 0 = nI o) → sq_PA sz ks ys tr o N l r m vl → sq_PB sz ks ys tr o N l r m tk → sq_PC ks tk0 l r tk →
    wY_pass_7 post (nI l) n (nI m - 1) rc nc bg (nI N) (nI o) q0 q1 cy sz rs tl ks os xs ys fr cu vl tk := by
  have h16 := C.2.2.1
  have hN0 : 0 < N := by
    by_cases z : N = 0
    · have h := C.2.1
      rw [z] at h
      exact absurd (show (1 : Nat) = 0 from h) (by decide)
    · omega
  intro m
  induction m with
  | zero =>
    intro n fr vl tk hm hn hf A B P
    obtain ⟨n, rfl⟩ : ∃ m, n = m + 1 := ⟨n - 1, by omega⟩
    exact br_t (by decide) (hp fr vl tk (hf hN0) A B P)
  | succ m ih =>
    intro n fr vl tk hm hn hf A B P
    obtain ⟨n, rfl⟩ : ∃ m, n = m + 1 := ⟨n - 1, by omega⟩
    have hin : vp_in (nI m) 16 := vp_in_nI (by omega) (by omega)
    have hmc : (nI m).toNatClampNeg = m := nI_clamp (by omega)
    have hlm := sq_Lv_le C.1 (j := m) (by omega)
    have eM : nI m + (-1) = nI m - 1 := (Int32.sub_eq_add_neg (nI m) 1).symm
    rw [nI_pred]
    refine br_f (nI_pos (by omega)) (yw_levelAt (o := o) C.1 h16 (by omega) (C.1.1 m (by omega)) (fun fr' hf' => ?_))
    have hf0 : fr' 0 = nI o := by rw [hf' 0 (by omega), sq_Sc0 C.1 (by omega)]
    have P33 : ∀ vl', sq_PA sz ks ys tr o N l r m vl' → wY_pass_33 post (wY_pass_7 post (nI l) n) (nI l) (nI m) (nI (sq_Lv ks m)) rc nc bg (nI N) (nI o) q0 q1 cy sz rs tl ks os xs ys fr' cu vl' tk := by
      intro vl' A'
      unfold wY_pass_33
      rw [hmc]
      refine ⟨hin, br_c (fun l5 => nm_r eM (ih n fr' vl' tk (by omega) (by omega) (fun _ => hf0) A' ?_ P)) (fun g5 => br_c (fun el => ?_) (fun el => nm_r eM (ih n fr' vl' tk (by omega) (by omega) (fun _ => hf0) A' ?_ P)))⟩
      · intro j j1 j2 j3
        by_cases jm : j = m
        · rw [jm] at j3
          exact absurd l5 j3
        · exact B j (by omega) j2 j3
      · have el' : sq_Lv ks m + 1 = l := by
          rw [nI_1] at el
          exact (nI_eq (by omega) (by omega)).mp el
        have hk := sq_kid C.1 C.2.1 (j := m) (by omega) (by rw [sq_ch5 g5]; omega)
        obtain ⟨eL, eok⟩ := sq_kidsub (sz := sz) (o := o) (r := r) C.1 (j := m) (by omega) g5
        have hrl := hr l hl
        have e8 : nI m * 8 + cu (nI l).toNatClampNeg = nI (m * 8 + r l) := by
          rw [nI_clamp (by omega), hc l hl, zz_lit8, pk_mul, nI_add]
        have e9 : (nI m + 1).toNatClampNeg = m + 1 := by rw [nI_1, nI_clamp (by omega)]
        have G : ∀ v, (¬ v = 0 ↔ vl' (m + 1) = 2) → wY_pass_7 post (nI l) n (nI m - 1) rc nc bg (nI N) (nI o) q0 q1 cy sz rs tl ks os xs ys fr' cu vl' (upd tk (m * 8 + r l) v) := by
          intro v hv
          refine ih n fr' vl' _ (by omega) (by omega) (fun _ => hf0) A' ?_ ?_
          · intro j j1 j2 j3 j4 j5 j6
            by_cases jm : j = m
            · rw [jm] at j5 j6 ⊢
              rw [pk_us, hv, A' (m + 1) (by omega) hk (by omega) (eok j5 (by rw [el']; exact j6))]
            · rw [pk_un (by omega)]
              exact B j (by omega) j2 j3 j4 j5 j6
          · intro j c c8 hh
            by_cases jm : j = m
            · have := hh (by rw [jm]; exact el')
              rw [pk_un (by omega)]
              exact P j c c8 hh
            · rw [pk_un (by omega)]
              exact P j c c8 hh
        rw [e9]
        refine ⟨vp_in_nI (by omega) (by omega), zz_in (nI_1 m) (by omega) (by omega), br_c (fun v2 => ⟨zz_in e8 (by omega) (by omega), nm_e (nm_r eM ?_)⟩) (fun v2 => ⟨zz_in e8 (by omega) (by omega), nm_e (nm_r eM ?_)⟩)⟩
        · rw [zz_cl e8 (by omega), sq_nar1]
          exact G 1 ⟨fun _ => v2, fun _ => by decide⟩
        · rw [zz_cl e8 (by omega), sq_nar0]
          exact G 0 ⟨fun h => absurd rfl h, fun h => absurd h v2⟩
      · intro j j1 j2 j3 j4
        by_cases jm : j = m
        · exfalso
          rw [jm] at j4
          exact el (by rw [nI_1, j4])
        · exact B j (by omega) j2 j3 j4
    refine br_c (fun el => ?_) (fun el => P33 vl ?_)
    · have el' : sq_Lv ks m = l := (nI_eq (by omega) (by omega)).mp el
      have hRR : ∃ rr, (ks m = 1 ∨ ks m = 2 → rr < N ∧ sq_Rt ks m rr) := by
        by_cases k12 : ks m = 1 ∨ ks m = 2
        · obtain ⟨rr, h, R⟩ := sq_right C.1 C.2.1 (by omega) k12
          exact ⟨rr, fun _ => ⟨h, R⟩⟩
        · exact ⟨0, fun h => absurd h k12⟩
      obtain ⟨rr, hR⟩ := hRR
      refine yw_value (rr := rr) (o := o) (r := r) ⟨C.1, C.2.1, C.2.2.1, C.2.2.2.1, C.2.2.2.2.2⟩ (by omega) hR hf' hc hr ⟨hin, nm_e ?_⟩
      rw [hmc]
      exact P33 _ (sq_atnode C CE S h0 h1 TK A P (by omega) el' hR)
    · intro j j1 j2 j3 ok
      by_cases jm : j = m
      · exfalso
        rw [jm] at j3
        exact el (by rw [j3])
      · exact A j (by omega) j2 j3 ok
theorem yw_pass {post : SY → Prop} {o N f e l : Nat} {r : Nat → Nat} {L : Int32} (C : sq_XC sz ks xs ys lv rt sc o N) (CE : sq_CE cx cy sz) (S : sq_Sol cx sz ks os xs ys rt tr o N f e 0)
    (eL : L = nI l) (hl : l ≤ 2) (hc : ∀ k, k ≤ 2 → cu k = nI (r k)) (hr : ∀ k, k ≤ 2 → r k < 8) (h0 : f ≤ r 0) (h1 : r 0 < e) (TK : sq_TK sz ks ys tr o N l r tk)
    (hp : ∀ fr' vl' tk', fr' 0 = nI o → sq_PA sz ks ys tr o N l r 0 vl' → sq_PB sz ks ys tr o N l r 0 tk' → sq_PC ks tk l r tk' → post (rc, nc, bg, nI N, nI o, q0, q1, cy, sz, rs, tl, ks, os, xs, ys, fr', cu, vl', tk')) :
    wpY_pass post (rc, nc, bg, nI N, nI o, q0, q1, cy, sz, rs, tl, ks, os, xs, ys, fr, cu, vl, tk) L := by
  subst eL
  refine nm_e ⟨N + 1, yw_pass7 C CE S hl hc hr h0 h1 TK hp N (N + 1) fr vl tk (Nat.le_refl N) (by omega) (fun h => absurd h (by omega)) ?_ ?_ (fun _ _ _ _ => rfl)⟩
  · intro j j1 j2
    omega
  · intro j j1 j2
    omega
end
end
section
/-! Y: truth(i) -/
def sq_I1 (sz ks ys tr : Nat → Int32) (N i a : Nat) (tk : Nat → Int32) : Prop :=
  ∀ j, j < N → ¬ ks j < 5 → sq_Lv ks j = 0 → ∀ c, c < a → c < (sz ((ys j).toNatClampNeg / 2)).toNatClampNeg → (¬ tk (j * 8 + c) = 0 ↔ tr (sq_ix (j + 1) i c 0) = 2)
def sq_I2 (sz ks ys tr : Nat → Int32) (o N i a b : Nat) (tk : Nat → Int32) : Prop :=
  ∀ j, j < N → ¬ ks j < 5 → sq_Lv ks j = 1 → sq_ok sz ks ys o (sq_r3 i a 0) j → ∀ c, c < b → c < (sz ((ys j).toNatClampNeg / 2)).toNatClampNeg → (¬ tk (j * 8 + c) = 0 ↔ tr (sq_ix (j + 1) i a c) = 2)
theorem sq_ok_r3 {sz ks ys : Nat → Int32} {o i a b b' j : Nat} (h : sq_Lv ks j ≤ 1) (ok : sq_ok sz ks ys o (sq_r3 i a b) j) : sq_ok sz ks ys o (sq_r3 i a b') j := by
  intro k hk
  have := ok k hk
  unfold sq_r3 at this ⊢
  by_cases k0 : k = 0
  · rw [if_pos k0] at this ⊢
    exact this
  · have k1 : k = 1 := by omega
    rw [if_neg k0, if_pos k1] at this ⊢
    exact this
theorem sq_sz8 {sz : Nat → Int32} (SZ : sq_SZ sz 8) {t : Nat} (h : t < 3) : (sz t).toNatClampNeg ≤ 8 := by
  obtain ⟨s, hs, es⟩ := SZ t h
  rw [es, nI_clamp (by omega)]
  exact hs
theorem sq_y8 {sz ks xs ys lv rt sc : Nat → Int32} {o N j : Nat} (C : sq_XC sz ks xs ys lv rt sc o N) (hj : j < N) (g5 : ¬ ks j < 5) : (sz ((ys j).toNatClampNeg / 2)).toNatClampNeg ≤ 8 := by
  obtain ⟨_, y, hy, ey⟩ := (C.1.2 j hj).2.2.2 g5
  have hyc : (ys j).toNatClampNeg = y := by rw [ey]; exact nI_clamp (by omega)
  rw [hyc]
  exact sq_sz8 C.2.2.2.2.2 (by omega)
theorem sq_r3cu {cu : Nat → Int32} {i a b : Nat} (h0 : cu 0 = nI i) (h1 : cu 1 = nI a) (h2 : cu 2 = nI b) : ∀ k, k ≤ 2 → cu k = nI (sq_r3 i a b k) := by
  intro k hk
  rcases (by omega : k = 0 ∨ k = 1 ∨ k = 2) with e | e | e <;> subst e
  · exact h0
  · exact h1
  · exact h2
theorem sq_r3lt {i a b : Nat} (h0 : i < 8) (h1 : a < 8) (h2 : b < 8) : ∀ k, k ≤ 2 → sq_r3 i a b k < 8 := by
  intro k hk
  rcases (by omega : k = 0 ∨ k = 1 ∨ k = 2) with e | e | e <;> subst e
  · exact h0
  · exact h1
  · exact h2
theorem sq_TK2 {sz ks xs ys lv rt sc tr tk : Nat → Int32} {o N : Nat} {r : Nat → Nat} (C : sq_XC sz ks xs ys lv rt sc o N) : sq_TK sz ks ys tr o N 2 r tk := by
  intro j hj g5 hl
  have := ((C.1.2 j hj).2.2.2 g5).1
  omega
theorem sq_TK1 {sz ks xs ys lv rt sc tr tk : Nat → Int32} {o N i a b : Nat} (C : sq_XC sz ks xs ys lv rt sc o N) (H : sq_I2 sz ks ys tr o N i a 8 tk) : sq_TK sz ks ys tr o N 1 (sq_r3 i a b) tk := by
  intro j hj g5 hl ok c hc
  have h8 := sq_y8 C hj g5
  have := H j hj g5 hl (sq_ok_r3 (by omega) ok) c (by omega) hc
  rw [this]
  have e : sq_ix (j + 1) (sq_r3 i a b 0) (sq_x1 ks (sq_r3 i a b) j) (sq_x2 ks (sq_r3 i a b) j) + c * sq_st (sq_Lv ks j) = sq_ix (j + 1) i a c := by
    have e1 : sq_x1 ks (sq_r3 i a b) j = a := by unfold sq_x1; rw [if_pos (by omega)]; rfl
    have e2 : sq_x2 ks (sq_r3 i a b) j = 0 := by unfold sq_x2; rw [if_neg (by omega)]
    have e3 : sq_st (sq_Lv ks j) = 1 := by unfold sq_st; rw [if_neg (by omega)]
    rw [e1, e2, e3]
    show (j + 1) * 512 + (i * 64 + a * 8 + 0) + c * 1 = (j + 1) * 512 + (i * 64 + a * 8 + c)
    omega
  rw [e]
theorem sq_TK0 {sz ks xs ys lv rt sc tr tk : Nat → Int32} {o N i a b : Nat} (C : sq_XC sz ks xs ys lv rt sc o N) (H : sq_I1 sz ks ys tr N i 8 tk) : sq_TK sz ks ys tr o N 0 (sq_r3 i a b) tk := by
  intro j hj g5 hl ok c hc
  have h8 := sq_y8 C hj g5
  have := H j hj g5 hl c (by omega) hc
  rw [this]
  have e : sq_ix (j + 1) (sq_r3 i a b 0) (sq_x1 ks (sq_r3 i a b) j) (sq_x2 ks (sq_r3 i a b) j) + c * sq_st (sq_Lv ks j) = sq_ix (j + 1) i c 0 := by
    have e1 : sq_x1 ks (sq_r3 i a b) j = 0 := by unfold sq_x1; rw [if_neg (by omega)]
    have e2 : sq_x2 ks (sq_r3 i a b) j = 0 := by unfold sq_x2; rw [if_neg (by omega)]
    have e3 : sq_st (sq_Lv ks j) = 8 := by unfold sq_st; rw [if_pos hl]
    rw [e1, e2, e3]
    show (j + 1) * 512 + (i * 64 + 0 * 8 + 0) + c * 8 = (j + 1) * 512 + (i * 64 + c * 8 + 0)
    omega
  rw [e]
section
variable {rc nc bg ou q0 q1 nn op : Int32} {cx sz rs tl ks os xs ys lv rt sc pL pO pS tr cy fr cu vl tk : Nat → Int32}
theorem yw_truth24 {post : Int32 → SY → Prop} {J9 : Int32 → Int32 → Int32 → Int32 → Int32 → Int32 → Int32 → Int32 → (Nat → Int32) → (Nat → Int32) → (Nat → Int32) → (Nat → Int32) → (Nat → Int32) → (Nat → Int32) → (Nat → Int32) → (Nat → Int32) → (Nat → Int32) → (Nat → Int32) → (Nat → Int32) → (Nat → Int32) → Prop}
    {o N f e i a : Nat} (C : sq_XC sz ks xs ys lv rt sc o N) (CE : sq_CE cx cy sz) (S : sq_Sol cx sz ks os xs ys rt tr o N f e 0) (h0 : f ≤ i) (h1 : i < e) (he : e ≤ 8) (hi : i < (sz o).toNatClampNeg) (ha : a < 8)
    (hJ : ∀ fr' cu' vl' tk', cu' 0 = nI i → cu' 1 = nI a → cu' 2 = nI 7 → sq_I1 sz ks ys tr N i (a + 1) tk' → J9 (nI (a + 1)) rc nc bg (nI N) (nI o) q0 q1 cy sz rs tl ks os xs ys fr' cu' vl' tk') :
    ∀ d b n fr cu vl tk, b + d = 8 → d < n → cu 0 = nI i → cu 1 = nI a → (0 < b → cu 2 = nI (b - 1)) → sq_I1 sz ks ys tr N i a tk → sq_I2 sz ks ys tr o N i a b tk →
    wY_truth_24 post J9 (nI a) n (nI b) rc nc bg (nI N) (nI o) q0 q1 cy sz rs tl ks os xs ys fr cu vl tk := by
  intro d
  induction d with
  | zero =>
    intro b n fr cu vl tk hb hn c0 c1 c2 I1 I2
    obtain ⟨n, rfl⟩ : ∃ m, n = m + 1 := ⟨n - 1, by omega⟩
    have b8 : b = 8 := by omega
    subst b8
    have c2' : cu 2 = nI 7 := c2 (by omega)
    refine br_t (by decide) (yw_pass (l := 1) (r := sq_r3 i a 7) C CE S rfl (by omega) (sq_r3cu c0 c1 c2') (sq_r3lt (by omega) ha (by omega)) h0 h1 (sq_TK1 C I2) (fun fr' vl' tk' _ _ B P => ?_))
    refine nm_r (nI_1 a) (hJ fr' cu vl' tk' c0 c1 c2' ?_)
    intro j hj g5 hl c hc hcs
    have h8 := sq_y8 C hj g5
    have hS0 := sq_Sc0 (o := o) C.1 hj
    by_cases ca : c = a
    · rw [ca] at hcs ⊢
      have ok : sq_ok sz ks ys o (sq_r3 i a 7) j := by
        intro k hk
        have k0 : k = 0 := by omega
        rw [k0, hS0]
        exact hi
      have hB := B j (by omega) hj g5 (by omega) ok hcs
      have eL := (sq_kidsub (sz := sz) (o := o) (r := sq_r3 i a 7) C.1 hj g5).1
      have e1 : sq_W ks tr (sq_r3 i a 7) (j + 1) = tr (sq_ix (j + 1) i a 0) := by
        have e1 : sq_x1 ks (sq_r3 i a 7) (j + 1) = a := by unfold sq_x1; rw [if_pos (by omega)]; rfl
        have e2 : sq_x2 ks (sq_r3 i a 7) (j + 1) = 0 := by unfold sq_x2; rw [if_neg (by omega)]
        unfold sq_W
        rw [e1, e2]
        rfl
      rw [e1] at hB
      exact hB
    · rw [P j c (by omega) (fun _ => ca)]
      exact I1 j hj g5 hl c (by omega) hcs
  | succ d ih =>
    intro b n fr cu vl tk hb hn c0 c1 c2 I1 I2
    obtain ⟨n, rfl⟩ : ∃ m, n = m + 1 := ⟨n - 1, by omega⟩
    have u0 : upd cu 2 (nI b) 0 = nI i := by rw [pk_un (by omega)]; exact c0
    have u1 : upd cu 2 (nI b) 1 = nI a := by rw [pk_un (by omega)]; exact c1
    have u2 : upd cu 2 (nI b) 2 = nI b := pk_us
    refine br_f (nI_ge (b := 8) (by omega) (by omega)) (nm_e (yw_pass (l := 2) (r := sq_r3 i a b) C CE S rfl (by omega) (sq_r3cu u0 u1 u2) (sq_r3lt (by omega) ha (by omega)) h0 h1 (sq_TK2 C) (fun fr' vl' tk' _ _ B P => ?_)))
    refine nm_r (nI_1 b) (ih (b + 1) n fr' _ vl' tk' (by omega) (by omega) u0 u1 (fun _ => u2) ?_ ?_)
    · intro j hj g5 hl c hc hcs
      have h8 := sq_y8 C hj g5
      rw [P j c (by omega) (fun hh => by omega)]
      exact I1 j hj g5 hl c hc hcs
    · intro j hj g5 hl ok c hc hcs
      have h8 := sq_y8 C hj g5
      by_cases cb : c = b
      · rw [cb] at hcs ⊢
        have hB := B j (by omega) hj g5 (by omega) (sq_ok_r3 (by omega) ok) hcs
        have eL := (sq_kidsub (sz := sz) (o := o) (r := sq_r3 i a b) C.1 hj g5).1
        have e1 : sq_W ks tr (sq_r3 i a b) (j + 1) = tr (sq_ix (j + 1) i a b) := by
          have e1 : sq_x1 ks (sq_r3 i a b) (j + 1) = a := by unfold sq_x1; rw [if_pos (by omega)]; rfl
          have e2 : sq_x2 ks (sq_r3 i a b) (j + 1) = b := by unfold sq_x2; rw [if_pos (by omega)]; rfl
          unfold sq_W
          rw [e1, e2]
          rfl
        rw [e1] at hB
        exact hB
      · rw [P j c (by omega) (fun _ => cb)]
        exact I2 j hj g5 hl ok c (by omega) hcs
theorem yw_truth9 {post : Int32 → SY → Prop} {o N f e i : Nat} (C : sq_XC sz ks xs ys lv rt sc o N) (CE : sq_CE cx cy sz) (S : sq_Sol cx sz ks os xs ys rt tr o N f e 0) (h0 : f ≤ i) (h1 : i < e) (he : e ≤ 8) (hi : i < (sz o).toNatClampNeg)
    (hp : ∀ fr' cu' vl' tk', fr' 0 = nI o → cu' 0 = nI i → post (tr (sq_ix 0 i 0 0)) (rc, nc, bg, nI N, nI o, q0, q1, cy, sz, rs, tl, ks, os, xs, ys, fr', cu', vl', tk')) :
    ∀ d a n fr cu vl tk, a + d = 8 → d < n → cu 0 = nI i → (0 < a → cu 1 = nI (a - 1) ∧ cu 2 = nI 7) → sq_I1 sz ks ys tr N i a tk →
    wY_truth_9 post n (nI a) rc nc bg (nI N) (nI o) q0 q1 cy sz rs tl ks os xs ys fr cu vl tk := by
  intro d
  induction d with
  | zero =>
    intro a n fr cu vl tk hb hn c0 c1 I1
    obtain ⟨n, rfl⟩ : ∃ m, n = m + 1 := ⟨n - 1, by omega⟩
    have b8 : a = 8 := by omega
    subst b8
    obtain ⟨c1', c2'⟩ := c1 (by omega)
    have hN0 : 0 < N := by
      by_cases z : N = 0
      · have h := C.2.1
        rw [z] at h
        exact absurd (show (1 : Nat) = 0 from h) (by decide)
      · omega
    refine br_t (by decide) (yw_pass (l := 0) (r := sq_r3 i 7 7) C CE S rfl (by omega) (sq_r3cu c0 c1' c2') (sq_r3lt (by omega) (by omega) (by omega)) h0 h1 (sq_TK0 C I1) (fun fr' vl' tk' hf A _ _ => ?_))
    have e0 : vl' 0 = tr (sq_ix 0 i 0 0) := by
      refine A 0 (by omega) hN0 rfl ?_
      intro k hk
      have k0 : k = 0 := Nat.le_zero.mp hk
      rw [k0, sq_Sc0 C.1 hN0]
      exact hi
    have H := hp fr' cu vl' tk' hf c0
    rw [← e0] at H
    exact H
  | succ d ih =>
    intro a n fr cu vl tk hb hn c0 c1 I1
    obtain ⟨n, rfl⟩ : ∃ m, n = m + 1 := ⟨n - 1, by omega⟩
    have u0 : upd cu 1 (nI a) 0 = nI i := by rw [pk_un (by omega)]; exact c0
    have u1 : upd cu 1 (nI a) 1 = nI a := pk_us
    refine br_f (nI_ge (b := 8) (by omega) (by omega)) (nm_e ⟨9, ?_⟩)
    exact yw_truth24 C CE S h0 h1 he hi (by omega) (fun fr' cu' vl' tk' d0 d1 d2 I1' => ih (a + 1) n fr' cu' vl' tk' (by omega) (by omega) d0 (fun _ => ⟨d1, d2⟩) I1') 8 0 9 fr _ vl tk (by omega) (by omega) u0 u1 (fun z => absurd z (by omega)) I1 (fun j _ _ _ _ c hc => absurd hc (by omega))
theorem yw_truth {post : Int32 → SY → Prop} {o N f e i : Nat} (C : sq_XC sz ks xs ys lv rt sc o N) (CE : sq_CE cx cy sz) (S : sq_Sol cx sz ks os xs ys rt tr o N f e 0) (h0 : f ≤ i) (h1 : i < e) (he : e ≤ 8) (hi : i < (sz o).toNatClampNeg)
    (hp : ∀ fr' cu' vl' tk', fr' 0 = nI o → cu' 0 = nI i → post (tr (sq_ix 0 i 0 0)) (rc, nc, bg, nI N, nI o, q0, q1, cy, sz, rs, tl, ks, os, xs, ys, fr', cu', vl', tk')) :
    wpY_truth post (rc, nc, bg, nI N, nI o, q0, q1, cy, sz, rs, tl, ks, os, xs, ys, fr, cu, vl, tk) (nI i) :=
  nm_e ⟨9, yw_truth9 C CE S h0 h1 he hi hp 8 0 9 fr _ vl tk (by omega) (by omega) pk_us (fun z => absurd z (by omega)) (fun j _ _ _ c hc => absurd hc (by omega))⟩
end
end
section
/-! the relation -/
def sq_D (R NC o t : Nat) (cx cy sz tl : Nat → Int32) : Prop :=
  1 ≤ R ∧ R ≤ 8 ∧ 1 ≤ NC ∧ NC ≤ 16 ∧ o < 3 ∧ tl 2 = nI t ∧ t ≤ R ∧ sq_SZ sz R ∧ sq_CE cx cy sz
def sq_XP (ks ys pL pO pS : Nat → Int32) (o N : Nat) : Prop :=
  ∀ p, p < sq_h ks N → pL p = nI (sq_L ks N p) ∧ pO p = sq_O ks N p ∧ ∀ k, k < 3 → pS (p * 3 + k) = nI (sq_S ks ys o N p k)
def sq_QB (q0 q1 op : Int32) (N o NC : Nat) (ks xs ys lv rt sc pL pO pS : Nat → Int32) : Prop :=
  op = nI (sq_h ks N) ∧ N + sq_h ks N ≤ NC ∧ sq_T ks xs ys N ∧ sq_OpOK q0 0 ∧ sq_OpOK q1 0 ∧ sq_XA ks ys lv rt sc o N ∧ sq_XP ks ys pL pO pS o N
def sq_Q (bg q0 q1 op : Int32) (N o NC : Nat) (ks xs ys lv rt sc pL pO pS : Nat → Int32) : Prop :=
  (bg = 0 ∧ op = 0 ∧ N = 0) ∨ (bg = 1 ∧ sq_QB q0 q1 op N o NC ks xs ys lv rt sc pL pO pS)
/-- shared fields and arrays are the same; cells agree below the sizes; the query's tree is what X's arrays hold -/
def i_Rel (_ : Nat) (u : SX) (v : SY) : Prop := match u with
  | (rc, nc, bg, ou, q0, q1, nn, op, cx, sz, rs, tl, ks, os, xs, ys, lv, rt, sc, pL, pO, pS, tr) => match v with
    | (rc', nc', bg', nn', ou', q0', q1', cy, sz', rs', tl', ks', os', xs', ys', _, _, _, _) =>
      (rc' = rc ∧ nc' = nc ∧ bg' = bg ∧ nn' = nn ∧ ou' = ou ∧ q0' = q0 ∧ q1' = q1 ∧ sz' = sz ∧ rs' = rs ∧ tl' = tl ∧ ks' = ks ∧ os' = os ∧ xs' = xs ∧ ys' = ys) ∧
      ∃ R NC N o t : Nat, (rc = nI R ∧ nc = nI NC ∧ ou = nI o ∧ nn = nI N) ∧ sq_D R NC o t cx cy sz tl ∧ sq_Q bg q0 q1 op N o NC ks xs ys lv rt sc pL pO pS
theorem sq_el {P : SX → SY → Prop} {k : Nat} {u : SX} {v : SY} (I : i_Rel k u v)
    (h : ∀ (R NC N o t : Nat) (bg q0 q1 op : Int32) (cx cy sz rs tl ks os xs ys lv rt sc pL pO pS tr fr cu vl tk : Nat → Int32), sq_D R NC o t cx cy sz tl → sq_Q bg q0 q1 op N o NC ks xs ys lv rt sc pL pO pS → P (nI R, nI NC, bg, nI o, q0, q1, nI N, op, cx, sz, rs, tl, ks, os, xs, ys, lv, rt, sc, pL, pO, pS, tr) (nI R, nI NC, bg, nI N, nI o, q0, q1, cy, sz, rs, tl, ks, os, xs, ys, fr, cu, vl, tk)) : P u v := by
  obtain ⟨rc, nc, bg, ou, q0, q1, nn, op, cx, sz, rs, tl, ks, os, xs, ys, lv, rt, sc, pL, pO, pS, tr⟩ := u
  obtain ⟨rc', nc', bg', nn', ou', q0', q1', cy, sz', rs', tl', ks', os', xs', ys', fr, cu, vl, tk⟩ := v
  obtain ⟨⟨e1, e2, e3, e4, e5, e6, e7, e8, e9, e10, e11, e12, e13, e14⟩, R, NC, N, o, t, ⟨f1, f2, f3, f4⟩, D, Q⟩ := I
  subst e1 e2 e3 e4 e5 e6 e7 e8 e9 e10 e11 e12 e13 e14 f1 f2 f3 f4
  exact h R NC N o t _ _ _ _ _ _ _ _ _ _ _ _ _ _ _ _ _ _ _ _ _ _ _ _ D Q
theorem i_up {k : Nat} {u : SX} {v : SY} (h : i_Rel k u v) : i_Rel (k + 5) u v := h
section
variable {rc nc bg ou q0 q1 nn op : Int32} {cx sz rs tl ks os xs ys lv rt sc pL pO pS tr cy fr cu vl tk : Nat → Int32} {k R NC N o t : Nat}
theorem sq_in (D : sq_D R NC o t cx cy sz tl) (Q : sq_Q bg q0 q1 op N o NC ks xs ys lv rt sc pL pO pS) : i_Rel k (nI R, nI NC, bg, nI o, q0, q1, nI N, op, cx, sz, rs, tl, ks, os, xs, ys, lv, rt, sc, pL, pO, pS, tr) (nI R, nI NC, bg, nI N, nI o, q0, q1, cy, sz, rs, tl, ks, os, xs, ys, fr, cu, vl, tk) :=
  ⟨⟨rfl, rfl, rfl, rfl, rfl, rfl, rfl, rfl, rfl, rfl, rfl, rfl, rfl, rfl⟩, R, NC, N, o, t, ⟨rfl, rfl, rfl, rfl⟩, D, Q⟩
theorem sq_N16 (D : sq_D R NC o t cx cy sz tl) (Q : sq_Q bg q0 q1 op N o NC ks xs ys lv rt sc pL pO pS) : N ≤ 16 := by
  have h := D.2.2.2.1
  rcases Q with ⟨_, _, h1⟩ | ⟨_, _, h1, _⟩ <;> omega
/-! tables -/
theorem xw_isT {post : Int32 → Prop} {j : Nat} (hj : j < 3) (hp : post 1) : wpX_isTable post (rc, nc, bg, ou, q0, q1, nn, op, cx, sz, rs, tl, ks, os, xs, ys, lv, rt, sc, pL, pO, pS, tr) (nI j) :=
  br_f (nI_pos (by omega)) (br_f (nI_nlt (b := j) (a := 2) (by omega) (by omega)) hp)
theorem xw_isF {post : Int32 → Prop} {v : Int32} (hv : v < 0 ∨ nI 3 ≤ v) (hp : post 0) : wpX_isTable post (rc, nc, bg, ou, q0, q1, nn, op, cx, sz, rs, tl, ks, os, xs, ys, lv, rt, sc, pL, pO, pS, tr) v := by
  refine br_c (fun _ => hp) (fun a => br_t ?_ hp)
  rcases hv with h | h
  · exact absurd h a
  · exact Int32.lt_of_lt_of_le (by decide) h
theorem sq_badT {v : Int32} {A B : Prop} (hv : v < 0 ∨ nI 3 ≤ v) (hp : A) : (v < 0 → A) ∧ (¬ v < 0 → (v ≤ 2 → B) ∧ (¬ v ≤ 2 → A)) := by
  refine br_c (fun _ => hp) (fun a => br_f ?_ hp)
  rcases hv with h | h
  · exact absurd h a
  · intro l
    exact absurd (Int32.le_trans h l) (by decide)
theorem sq_okT {j : Nat} {A B C : Prop} (hj : j < 3) (hp : B) : (nI j < 0 → A) ∧ (¬ nI j < 0 → (nI j ≤ 2 → B) ∧ (¬ nI j ≤ 2 → C)) :=
  br_f (nI_pos (by omega)) (br_t (nI_le (b := 2) (by omega) (by omega)) hp)
theorem sq_tcase (v : Int32) : (v < 0 ∨ nI 3 ≤ v) ∨ ∃ j, j < 3 ∧ v = nI j := by
  rcases pk_ix v (n := 3) (by omega) with h | h | h
  · exact Or.inl (Or.inl h)
  · exact Or.inl (Or.inr h)
  · exact Or.inr h
end
def sq_cap (m : Nat) (v : Int32) : Int32 := if 1 ≤ v then (if v ≤ nI m then v else nI m) else 1
theorem sq_cap_ok {m : Nat} (h1 : 1 ≤ m) (h2 : m < 2147483648) (v : Int32) : ∃ r, 1 ≤ r ∧ r ≤ m ∧ sq_cap m v = nI r := by
  unfold sq_cap
  by_cases a : 1 ≤ v
  · rw [if_pos a]
    by_cases b : v ≤ nI m
    · rw [if_pos b]
      have h0 : ¬ v < 0 := fun h => absurd (Int32.lt_of_le_of_lt a h) (by decide)
      obtain ⟨j, hj, rfl⟩ := nI_of h0
      exact ⟨j, (nI_leI (a := 1) (by omega) hj).mp a, (nI_leI hj (by omega)).mp b, rfl⟩
    · rw [if_neg b]
      exact ⟨m, h1, Nat.le_refl m, rfl⟩
  · rw [if_neg a]
    exact ⟨1, Nat.le_refl 1, h1, rfl⟩
theorem xw_init {post : SX → Prop} {v w : Int32} (hp : post (sq_cap 8 v, sq_cap 16 w, 0, 0, 0, 0, 0, 0, fun _ => 0, fun _ => 0, fun _ => 0, fun _ => 0, fun _ => 0, fun _ => 0, fun _ => 0, fun _ => 0, fun _ => 0, fun _ => 0, fun _ => 0, fun _ => 0, fun _ => 0, fun _ => 0, fun _ => 0)) : wpX_init post v w := by
  unfold sq_cap at hp
  refine br_c (fun a => br_c (fun b => ?_) (fun b => ?_)) (fun a => ?_)
  · have b' : v ≤ nI 8 := b
    rw [if_pos a, if_pos b'] at hp
    refine br_c (fun c => br_c (fun d => ?_) (fun d => ?_)) (fun c => ?_)
    · have d' : w ≤ nI 16 := d
      rw [if_pos c, if_pos d'] at hp
      exact hp
    · have d' : ¬ w ≤ nI 16 := d
      rw [if_pos c, if_neg d'] at hp
      exact hp
    · rw [if_neg c] at hp
      exact hp
  · have b' : ¬ v ≤ nI 8 := b
    rw [if_pos a, if_neg b'] at hp
    refine br_c (fun c => br_c (fun d => ?_) (fun d => ?_)) (fun c => ?_)
    · have d' : w ≤ nI 16 := d
      rw [if_pos c, if_pos d'] at hp
      exact hp
    · have d' : ¬ w ≤ nI 16 := d
      rw [if_pos c, if_neg d'] at hp
      exact hp
    · rw [if_neg c] at hp
      exact hp
  · rw [if_neg a] at hp
    refine br_c (fun c => br_c (fun d => ?_) (fun d => ?_)) (fun c => ?_)
    · have d' : w ≤ nI 16 := d
      rw [if_pos c, if_pos d'] at hp
      exact hp
    · have d' : ¬ w ≤ nI 16 := d
      rw [if_pos c, if_neg d'] at hp
      exact hp
    · rw [if_neg c] at hp
      exact hp
theorem yw_init {post : SY → Prop} {v w : Int32} (hp : post (sq_cap 8 v, sq_cap 16 w, 0, 0, 0, 0, 0, fun _ => 0, fun _ => 0, fun _ => 0, fun _ => 0, fun _ => 0, fun _ => 0, fun _ => 0, fun _ => 0, fun _ => 0, fun _ => 0, fun _ => 0, fun _ => 0)) : wpY_init post v w := by
  unfold sq_cap at hp
  refine br_c (fun a => br_c (fun b => ?_) (fun b => ?_)) (fun a => ?_)
  · have b' : v ≤ nI 8 := b
    rw [if_pos a, if_pos b'] at hp
    refine br_c (fun c => br_c (fun d => ?_) (fun d => ?_)) (fun c => ?_)
    · have d' : w ≤ nI 16 := d
      rw [if_pos c, if_pos d'] at hp
      exact hp
    · have d' : ¬ w ≤ nI 16 := d
      rw [if_pos c, if_neg d'] at hp
      exact hp
    · rw [if_neg c] at hp
      exact hp
  · have b' : ¬ v ≤ nI 8 := b
    rw [if_pos a, if_neg b'] at hp
    refine br_c (fun c => br_c (fun d => ?_) (fun d => ?_)) (fun c => ?_)
    · have d' : w ≤ nI 16 := d
      rw [if_pos c, if_pos d'] at hp
      exact hp
    · have d' : ¬ w ≤ nI 16 := d
      rw [if_pos c, if_neg d'] at hp
      exact hp
    · rw [if_neg c] at hp
      exact hp
  · rw [if_neg a] at hp
    refine br_c (fun c => br_c (fun d => ?_) (fun d => ?_)) (fun c => ?_)
    · have d' : w ≤ nI 16 := d
      rw [if_pos c, if_pos d'] at hp
      exact hp
    · have d' : ¬ w ≤ nI 16 := d
      rw [if_pos c, if_neg d'] at hp
      exact hp
    · rw [if_neg c] at hp
      exact hp
theorem i_vc0 (k0 : Int32) (k1 : Int32) : wpX_init (fun u => wpY_init (fun v => i_Rel 2 u v) k0 k1) k0 k1 := by
  obtain ⟨R, r1, r2, e1⟩ := sq_cap_ok (m := 8) (by omega) (by omega) k0
  obtain ⟨M, m1, m2, e2⟩ := sq_cap_ok (m := 16) (by omega) (by omega) k1
  refine xw_init (yw_init ?_)
  rw [e1, e2]
  refine sq_in (N := 0) (o := 0) (t := 0) ⟨r1, r2, m1, m2, by omega, rfl, by omega, fun t _ => ⟨0, by omega, rfl⟩, ?_⟩ (Or.inl ⟨rfl, rfl, rfl⟩)
  intro t _ q hq
  rfl
end
section
/-! the methods that only read -/
theorem i_vc_rows {k : Nat} {u : SX} {v : SY} (I : i_Rel k u v) (hk : k + 5 ≤ 2562) (v1 : Int32) : wpX_rows (fun r => wpY_rows (fun r' => r' = r ∧ i_Rel (k + 5) u v) v v1) u v1 := by
  refine sq_el (P := fun u v => wpX_rows (fun r => wpY_rows (fun r' => r' = r ∧ i_Rel (k + 5) u v) v v1) u v1) I ?_
  intro R NC N o t bg q0 q1 op cx cy sz rs tl ks os xs ys lv rt sc pL pO pS tr fr cu vl tk D Q
  have I' : i_Rel (k + 5) (nI R, nI NC, bg, nI o, q0, q1, nI N, op, cx, sz, rs, tl, ks, os, xs, ys, lv, rt, sc, pL, pO, pS, tr) (nI R, nI NC, bg, nI N, nI o, q0, q1, cy, sz, rs, tl, ks, os, xs, ys, fr, cu, vl, tk) := sq_in D Q
  unfold wpX_rows
  dsimp only
  rcases sq_tcase v1 with h | ⟨j, hj, rfl⟩
  · exact xw_isF h (br_t rfl (sq_badT h ⟨rfl, I'⟩))
  · have hin : vp_in (nI j) 3 := vp_in_nI hj (by omega)
    exact xw_isT hj (br_f (by decide) ⟨hin, sq_okT hj ⟨hin, rfl, I'⟩⟩)
theorem i_vc_cell {k : Nat} {u : SX} {v : SY} (I : i_Rel k u v) (hk : k + 5 ≤ 2562) (v1 : Int32) (v2 : Int32) (v3 : Int32) : wpX_cell (fun r => wpY_cell (fun r' => r' = r ∧ i_Rel (k + 5) u v) v v1 v2 v3) u v1 v2 v3 := by
  refine sq_el (P := fun u v => wpX_cell (fun r => wpY_cell (fun r' => r' = r ∧ i_Rel (k + 5) u v) v v1 v2 v3) u v1 v2 v3) I ?_
  intro R NC N o t bg q0 q1 op cx cy sz rs tl ks os xs ys lv rt sc pL pO pS tr fr cu vl tk D Q
  have I' : i_Rel (k + 5) (nI R, nI NC, bg, nI o, q0, q1, nI N, op, cx, sz, rs, tl, ks, os, xs, ys, lv, rt, sc, pL, pO, pS, tr) (nI R, nI NC, bg, nI N, nI o, q0, q1, cy, sz, rs, tl, ks, os, xs, ys, fr, cu, vl, tk) := sq_in D Q
  unfold wpX_cell
  dsimp only
  rcases sq_tcase v1 with h | ⟨j, hj, rfl⟩
  · exact xw_isF h (br_t rfl (sq_badT h ⟨rfl, I'⟩))
  · have hin : vp_in (nI j) 3 := vp_in_nI hj (by omega)
    have hjc : (nI j).toNatClampNeg = j := nI_clamp (by omega)
    refine xw_isT hj (br_f (by decide) (br_c (fun a => ?_) (fun a => ⟨hin, br_c (fun b => ?_) (fun b => br_c (fun c => ?_) (fun c => br_c (fun d => ?_) (fun d => ?_)))⟩)))
    · exact sq_okT hj (br_t a ⟨rfl, I'⟩)
    · exact sq_okT hj (br_f a ⟨hin, br_t b ⟨rfl, I'⟩⟩)
    · exact sq_okT hj (br_f a ⟨hin, br_f b (br_t c ⟨rfl, I'⟩)⟩)
    · obtain ⟨i, hi, rfl⟩ := nI_of a
      obtain ⟨q, hq, rfl⟩ := nI_of c
      obtain ⟨_, R8, _, _, _, _, _, SZ, CE⟩ := D
      obtain ⟨s, hs, es⟩ := SZ j hj
      have hq1 : q ≤ 1 := (nI_leI (b := 1) hq (by omega)).mp d
      have hi1 : i < s := by
        rw [hjc, es] at b
        by_cases z : i < s
        · exact z
        · exact absurd (nI_le (by omega) hi) b
      have e := sq_cell j i q
      have hx : vp_in (nI j * 16 + nI i * 2 + nI q) 48 := zz_in e (by omega) (by omega)
      refine ⟨hx, sq_okT hj (br_f a ⟨hin, br_f b (br_f c (br_t d ⟨hx, ?_, I'⟩))⟩)⟩
      rw [zz_cl e (by omega), Nat.add_assoc]
      have hsc : (sz j).toNatClampNeg = s := by rw [es]; exact nI_clamp (by omega)
      exact (CE j hj _ (by omega)).symm
    · exact sq_okT hj (br_f a ⟨hin, br_f b (br_f c (br_f d ⟨rfl, I'⟩))⟩)
theorem i_vc_tally {k : Nat} {u : SX} {v : SY} (I : i_Rel k u v) (hk : k + 5 ≤ 2562) (v1 : Int32) : wpX_tally (fun r => wpY_tally (fun r' => r' = r ∧ i_Rel (k + 5) u v) v v1) u v1 := by
  refine sq_el (P := fun u v => wpX_tally (fun r => wpY_tally (fun r' => r' = r ∧ i_Rel (k + 5) u v) v v1) u v1) I ?_
  intro R NC N o t bg q0 q1 op cx cy sz rs tl ks os xs ys lv rt sc pL pO pS tr fr cu vl tk D Q
  have I' : i_Rel (k + 5) (nI R, nI NC, bg, nI o, q0, q1, nI N, op, cx, sz, rs, tl, ks, os, xs, ys, lv, rt, sc, pL, pO, pS, tr) (nI R, nI NC, bg, nI N, nI o, q0, q1, cy, sz, rs, tl, ks, os, xs, ys, fr, cu, vl, tk) := sq_in D Q
  refine br_c (fun a => br_t a ⟨rfl, I'⟩) (fun a => br_c (fun b => ?_) (fun b => br_f a (br_f b ⟨rfl, I'⟩)))
  obtain ⟨j, hj, rfl⟩ := nI_of a
  have hx : vp_in (nI j) 3 := vp_in_nI (by have := (nI_leI (b := 2) hj (by omega)).mp b; omega) (by omega)
  exact ⟨hx, br_f a (br_t b ⟨hx, rfl, I'⟩)⟩
theorem i_vc_resultCell {k : Nat} {u : SX} {v : SY} (I : i_Rel k u v) (hk : k + 5 ≤ 2562) (v1 : Int32) (v2 : Int32) : wpX_resultCell (fun r => wpY_resultCell (fun r' => r' = r ∧ i_Rel (k + 5) u v) v v1 v2) u v1 v2 := by
  refine sq_el (P := fun u v => wpX_resultCell (fun r => wpY_resultCell (fun r' => r' = r ∧ i_Rel (k + 5) u v) v v1 v2) u v1 v2) I ?_
  intro R NC N o t bg q0 q1 op cx cy sz rs tl ks os xs ys lv rt sc pL pO pS tr fr cu vl tk D Q
  have I' : i_Rel (k + 5) (nI R, nI NC, bg, nI o, q0, q1, nI N, op, cx, sz, rs, tl, ks, os, xs, ys, lv, rt, sc, pL, pO, pS, tr) (nI R, nI NC, bg, nI N, nI o, q0, q1, cy, sz, rs, tl, ks, os, xs, ys, fr, cu, vl, tk) := sq_in D Q
  refine br_c (fun a => br_t a ⟨rfl, I'⟩) (fun a => br_c (fun b => br_f a (br_t b ⟨rfl, I'⟩)) (fun b => br_c (fun c => br_f a (br_f b (br_t c ⟨rfl, I'⟩))) (fun c => br_c (fun d => ?_) (fun d => br_f a (br_f b (br_f c (br_f d ⟨rfl, I'⟩)))))))
  obtain ⟨i, hi, rfl⟩ := nI_of a
  obtain ⟨q, hq, rfl⟩ := nI_of c
  have hq1 : q ≤ 1 := (nI_leI (b := 1) hq (by omega)).mp d
  obtain ⟨_, R8, _, _, _, et, tR, _, _⟩ := D
  have hit : i < t := by
    rw [et] at b
    by_cases z : i < t
    · exact z
    · exact absurd (nI_le (by omega) hi) b
  have e : nI i * 2 + nI q = nI (i * 2 + q) := by rw [zz_lit2, pk_mul, nI_add]
  have hx : vp_in (nI i * 2 + nI q) 16 := zz_in e (by omega) (by omega)
  exact ⟨hx, br_f a (br_f b (br_f c (br_t d ⟨hx, rfl, I'⟩)))⟩
section
variable {rc nc bg ou q0 q1 nn op : Int32} {cx sz rs tl ks os xs ys lv rt sc pL pO pS tr cy fr cu vl tk : Nat → Int32}
theorem xy_count {t : Nat} {v1 v2 : Int32} (ht : t ≤ 8) (et : tl 2 = nI t) : ∀ d i n c, i + d = t → d < n → ∃ r, (∀ post : Int32 → Prop, post r → wX_resultCount_5 post v1 v2 rc nc bg ou q0 q1 nn op cx sz rs tl ks os xs ys lv rt sc pL pO pS tr n c (nI i)) ∧ (∀ post : Int32 → Prop, post r → wY_resultCount_5 post v1 v2 rc nc bg nn ou q0 q1 cy sz rs tl ks os xs ys fr cu vl tk n c (nI i)) := by
  intro d
  induction d with
  | zero =>
    intro i n c hi hn
    obtain ⟨n, rfl⟩ : ∃ m, n = m + 1 := ⟨n - 1, by omega⟩
    have h : tl 2 ≤ nI i := by rw [et]; exact nI_le (by omega) (by omega)
    exact ⟨c, fun _ hp => br_t h hp, fun _ hp => br_t h hp⟩
  | succ d ih =>
    intro i n c hi hn
    obtain ⟨n, rfl⟩ : ∃ m, n = m + 1 := ⟨n - 1, by omega⟩
    have h : ¬ tl 2 ≤ nI i := by rw [et]; exact nI_ge (by omega) (by omega)
    have e1 : nI i * 2 = nI (i * 2) := by rw [zz_lit2, pk_mul]
    have e2 : nI i * 2 + 1 = nI (i * 2 + 1) := by rw [e1, nI_1]
    have i1 : vp_in (nI i * 2) 16 := zz_in e1 (by omega) (by omega)
    have i2 : vp_in (nI i * 2 + 1) 16 := zz_in e2 (by omega) (by omega)
    by_cases a : rs (nI i * 2).toNatClampNeg = v1
    · by_cases b : rs (nI i * 2 + 1).toNatClampNeg = v2
      · obtain ⟨r, hX, hY⟩ := ih (i + 1) n (c + 1) (by omega) (by omega)
        exact ⟨r, fun post hp => br_f h ⟨i1, br_t a ⟨i2, br_t b (nm_e (nm_r (nI_1 i) (hX post hp)))⟩⟩, fun post hp => br_f h ⟨i1, br_t a ⟨i2, br_t b (nm_e (nm_r (nI_1 i) (hY post hp)))⟩⟩⟩
      · obtain ⟨r, hX, hY⟩ := ih (i + 1) n c (by omega) (by omega)
        exact ⟨r, fun post hp => br_f h ⟨i1, br_t a ⟨i2, br_f b (nm_r (nI_1 i) (hX post hp))⟩⟩, fun post hp => br_f h ⟨i1, br_t a ⟨i2, br_f b (nm_r (nI_1 i) (hY post hp))⟩⟩⟩
    · obtain ⟨r, hX, hY⟩ := ih (i + 1) n c (by omega) (by omega)
      exact ⟨r, fun post hp => br_f h ⟨i1, br_f a (nm_r (nI_1 i) (hX post hp))⟩, fun post hp => br_f h ⟨i1, br_f a (nm_r (nI_1 i) (hY post hp))⟩⟩
end
theorem i_vc_resultCount {k : Nat} {u : SX} {v : SY} (I : i_Rel k u v) (hk : k + 5 ≤ 2562) (v1 : Int32) (v2 : Int32) : wpX_resultCount (fun r => wpY_resultCount (fun r' => r' = r ∧ i_Rel (k + 5) u v) v v1 v2) u v1 v2 := by
  refine sq_el (P := fun u v => wpX_resultCount (fun r => wpY_resultCount (fun r' => r' = r ∧ i_Rel (k + 5) u v) v v1 v2) u v1 v2) I ?_
  intro R NC N o t bg q0 q1 op cx cy sz rs tl ks os xs ys lv rt sc pL pO pS tr fr cu vl tk D Q
  have I' : i_Rel (k + 5) (nI R, nI NC, bg, nI o, q0, q1, nI N, op, cx, sz, rs, tl, ks, os, xs, ys, lv, rt, sc, pL, pO, pS, tr) (nI R, nI NC, bg, nI N, nI o, q0, q1, cy, sz, rs, tl, ks, os, xs, ys, fr, cu, vl, tk) := sq_in D Q
  obtain ⟨_, R8, _, _, _, et, tR, _, _⟩ := D
  obtain ⟨r, hX, hY⟩ := xy_count (rc := nI R) (nc := nI NC) (bg := bg) (ou := nI o) (q0 := q0) (q1 := q1) (nn := nI N) (op := op) (cx := cx) (sz := sz) (rs := rs) (tl := tl) (ks := ks) (os := os) (xs := xs) (ys := ys) (lv := lv) (rt := rt) (sc := sc) (pL := pL) (pO := pO) (pS := pS) (tr := tr) (cy := cy) (fr := fr) (cu := cu) (vl := vl) (tk := tk) (t := t) (v1 := v1) (v2 := v2) (by omega) et t 0 9 0 (by omega) (by omega)
  exact ⟨9, hX _ ⟨9, hY _ ⟨rfl, I'⟩⟩⟩
theorem i_vc_peek {k : Nat} {u : SX} {v : SY} (I : i_Rel k u v) (hk : k + 5 ≤ 2562) (v1 : Int32) (v2 : Int32) : wpX_peek (fun r => wpY_peek (fun r' => r' = r ∧ i_Rel (k + 5) u v) v v1 v2) u v1 v2 := by
  refine sq_el (P := fun u v => wpX_peek (fun r => wpY_peek (fun r' => r' = r ∧ i_Rel (k + 5) u v) v v1 v2) u v1 v2) I ?_
  intro R NC N o t bg q0 q1 op cx cy sz rs tl ks os xs ys lv rt sc pL pO pS tr fr cu vl tk D Q
  have I' : i_Rel (k + 5) (nI R, nI NC, bg, nI o, q0, q1, nI N, op, cx, sz, rs, tl, ks, os, xs, ys, lv, rt, sc, pL, pO, pS, tr) (nI R, nI NC, bg, nI N, nI o, q0, q1, cy, sz, rs, tl, ks, os, xs, ys, fr, cu, vl, tk) := sq_in D Q
  have N16 := sq_N16 D Q
  refine br_c (fun a => br_t a ⟨rfl, I'⟩) (fun a => br_c (fun b => br_f a (br_t b ⟨rfl, I'⟩)) (fun b => br_c (fun c => br_f a (br_f b (br_t c ⟨rfl, I'⟩))) (fun c => br_c (fun d => br_f a (br_f b (br_f c (br_t d ⟨rfl, I'⟩)))) (fun d => br_c (fun e => ?_) (fun e => br_f a (br_f b (br_f c (br_f d (br_f e ⟨rfl, I'⟩)))))))))
  refine br_c (fun z => ?_) (fun z => nm_e ?_)
  · refine br_c (fun g => ?_) (fun g => br_c (fun g2 => ?_) (fun g2 => br_c (fun g3 => ?_) (fun g3 => ?_)))
    · exact br_f a (br_f b (br_f c (br_f d (br_t e (br_t z (br_t g ⟨rfl, I'⟩))))))
    · exact br_f a (br_f b (br_f c (br_f d (br_t e (br_t z (br_f g (br_t g2 ⟨rfl, I'⟩)))))))
    · exact br_f a (br_f b (br_f c (br_f d (br_t e (br_t z (br_f g (br_f g2 (br_t g3 ⟨rfl, I'⟩))))))))
    · exact br_f a (br_f b (br_f c (br_f d (br_t e (br_t z (br_f g (br_f g2 (br_f g3 ⟨rfl, I'⟩))))))))
  · have hx : vp_in (v1 - 1) 16 := by
      obtain ⟨i, hi, rfl⟩ := nI_of b
      have i0 : i ≠ 0 := fun h => z (by rw [h]; rfl)
      have iN : i ≤ N := by
        by_cases q : i ≤ N
        · exact q
        · exact absurd (nI_lt (by omega) hi) c
      have e1 : nI i - 1 = nI (i - 1) := pk_sub (b := 1) (by omega)
      exact zz_in e1 (by omega) (by omega)
    refine br_c (fun g => ⟨hx, ?_⟩) (fun g => br_c (fun g2 => ⟨hx, ?_⟩) (fun g2 => br_c (fun g3 => ⟨hx, ?_⟩) (fun g3 => ⟨hx, ?_⟩)))
    · exact br_f a (br_f b (br_f c (br_f d (br_t e (br_f z (br_t g ⟨hx, rfl, I'⟩))))))
    · exact br_f a (br_f b (br_f c (br_f d (br_t e (br_f z (br_f g (br_t g2 ⟨hx, rfl, I'⟩)))))))
    · exact br_f a (br_f b (br_f c (br_f d (br_t e (br_f z (br_f g (br_f g2 (br_t g3 ⟨hx, rfl, I'⟩))))))))
    · exact br_f a (br_f b (br_f c (br_f d (br_t e (br_f z (br_f g (br_f g2 (br_f g3 ⟨hx, rfl, I'⟩))))))))
theorem i_vc_places {k : Nat} {u : SX} {v : SY} (I : i_Rel k u v) (hk : k + 5 ≤ 2562) : wpX_places (fun r => wpY_places (fun r' => r' = r ∧ i_Rel (k + 5) u v) v) u := by
  refine sq_el (P := fun u v => wpX_places (fun r => wpY_places (fun r' => r' = r ∧ i_Rel (k + 5) u v) v) u) I ?_
  intro R NC N o t bg q0 q1 op cx cy sz rs tl ks os xs ys lv rt sc pL pO pS tr fr cu vl tk D Q
  have I' : i_Rel (k + 5) (nI R, nI NC, bg, nI o, q0, q1, nI N, op, cx, sz, rs, tl, ks, os, xs, ys, lv, rt, sc, pL, pO, pS, tr) (nI R, nI NC, bg, nI N, nI o, q0, q1, cy, sz, rs, tl, ks, os, xs, ys, fr, cu, vl, tk) := sq_in D Q
  have N16 := sq_N16 D Q
  rcases Q with ⟨rfl, rfl, hN⟩ | ⟨rfl, rfl, h1, T, _⟩
  · exact br_t rfl ⟨rfl, I'⟩
  · unfold wpX_places
    exact yw_places T.1 N16 ⟨rfl, I'⟩
theorem i_vc_level {k : Nat} {u : SX} {v : SY} (I : i_Rel k u v) (hk : k + 5 ≤ 2562) : wpX_level (fun r => wpY_level (fun r' v' => r' = r ∧ i_Rel (k + 5) u v') v) u := by
  refine sq_el (P := fun u v => wpX_level (fun r => wpY_level (fun r' v' => r' = r ∧ i_Rel (k + 5) u v') v) u) I ?_
  intro R NC N o t bg q0 q1 op cx cy sz rs tl ks os xs ys lv rt sc pL pO pS tr fr cu vl tk D Q
  have I' : ∀ fr, i_Rel (k + 5) (nI R, nI NC, bg, nI o, q0, q1, nI N, op, cx, sz, rs, tl, ks, os, xs, ys, lv, rt, sc, pL, pO, pS, tr) (nI R, nI NC, bg, nI N, nI o, q0, q1, cy, sz, rs, tl, ks, os, xs, ys, fr, cu, vl, tk) := fun fr => sq_in D Q
  have N16 := sq_N16 D Q
  rcases Q with ⟨rfl, rfl, hN⟩ | ⟨rfl, rfl, h1, T, _, _, XA, XP⟩
  · refine br_t rfl ?_
    unfold wpY_level
    exact br_t rfl (br_t rfl ⟨rfl, I' fr⟩)
  · have hb := sq_h_le ks N
    by_cases z : sq_h ks N = 0
    · refine br_t (by rw [z]; rfl) ?_
      unfold wpY_level
      exact yw_places T.1 N16 (br_t (by rw [z]; rfl) ⟨rfl, I' fr⟩)
    · have nz : ¬ nI (sq_h ks N) = 0 := nI_ne0 (by omega) (by omega)
      have e1 : nI (sq_h ks N) - 1 = nI (sq_h ks N - 1) := pk_sub (b := 1) (by omega)
      refine br_f nz ⟨zz_in e1 (by omega) (by omega), ?_⟩
      rw [zz_cl e1 (by omega), (XP _ (by omega)).1]
      unfold wpY_level
      exact yw_places T.1 N16 (br_f nz (yw_levelAt (o := o) T N16 (Nat.le_refl N) (by omega) (fun fr' _ => ⟨rfl, I' fr'⟩)))
end
section
/-! insert -/
theorem sq_CE_ins {cx cy sz : Nat → Int32} {j s : Nat} {a b : Int32} (SZ : sq_SZ sz 8) (CE : sq_CE cx cy sz) (hj : j < 3) (hs : s < 8) (es : sz j = nI s) :
    sq_CE (upd (upd cx (j * 16 + s * 2) a) (j * 16 + s * 2 + 1) b) (upd (upd cy (j * 16 + s * 2) a) (j * 16 + s * 2 + 1) b) (upd sz j (nI (s + 1))) := by
  intro t ht q hq
  by_cases e : t = j
  · rw [e, pk_us, nI_clamp (by omega)] at hq
    rw [e]
    by_cases q1 : q = s * 2 + 1
    · rw [q1, ← Nat.add_assoc, pk_us, pk_us]
    · rw [pk_un (k := j * 16 + s * 2 + 1) (by omega), pk_un (k := j * 16 + s * 2 + 1) (by omega)]
      by_cases q0 : q = s * 2
      · rw [q0, pk_us, pk_us]
      · rw [pk_un (by omega), pk_un (by omega)]
        exact CE j hj q (by rw [es, nI_clamp (by omega)]; omega)
  · rw [pk_un e] at hq
    obtain ⟨r, hr, er⟩ := SZ t ht
    have hq' := hq
    rw [er, nI_clamp (by omega)] at hq'
    rw [pk_un (by omega), pk_un (by omega), pk_un (by omega), pk_un (by omega)]
    exact CE t ht q hq
theorem sq_SZ_upd {sz : Nat → Int32} {j s R : Nat} (SZ : sq_SZ sz R) (hs : s ≤ R) : sq_SZ (upd sz j (nI s)) R := by
  intro t ht
  by_cases e : t = j
  · rw [e, pk_us]
    exact ⟨s, hs, rfl⟩
  · rw [pk_un e]
    exact SZ t ht
theorem sq_SZ_8 {sz : Nat → Int32} {R : Nat} (SZ : sq_SZ sz R) (hR : R ≤ 8) : sq_SZ sz 8 := fun t ht => by
  obtain ⟨s, hs, es⟩ := SZ t ht
  exact ⟨s, by omega, es⟩
theorem i_vc_insert {k : Nat} {u : SX} {v : SY} (I : i_Rel k u v) (hk : k + 5 ≤ 2562) (v1 : Int32) (v2 : Int32) (v3 : Int32) : wpX_insert (fun r u' => wpY_insert (fun r' v' => r' = r ∧ i_Rel (k + 5) u' v') v v1 v2 v3) u v1 v2 v3 := by
  refine sq_el (P := fun u v => wpX_insert (fun r u' => wpY_insert (fun r' v' => r' = r ∧ i_Rel (k + 5) u' v') v v1 v2 v3) u v1 v2 v3) I ?_
  intro R NC N o t bg q0 q1 op cx cy sz rs tl ks os xs ys lv rt sc pL pO pS tr fr cu vl tk D Q
  have I' : i_Rel (k + 5) (nI R, nI NC, bg, nI o, q0, q1, nI N, op, cx, sz, rs, tl, ks, os, xs, ys, lv, rt, sc, pL, pO, pS, tr) (nI R, nI NC, bg, nI N, nI o, q0, q1, cy, sz, rs, tl, ks, os, xs, ys, fr, cu, vl, tk) := sq_in D Q
  unfold wpX_insert
  dsimp only
  rcases sq_tcase v1 with h | ⟨j, hj, rfl⟩
  · exact xw_isF h (br_t rfl (sq_badT h ⟨rfl, I'⟩))
  · have hin : vp_in (nI j) 3 := vp_in_nI hj (by omega)
    have hjc : (nI j).toNatClampNeg = j := nI_clamp (by omega)
    refine xw_isT hj (br_f (by decide) (br_c (fun a => ?_) (fun a => br_c (fun b => ?_) (fun b => br_c (fun c => ?_) (fun c => br_c (fun d => ⟨hin, br_c (fun e => ?_) (fun e => ?_)⟩) (fun d => ?_))))))
    · exact sq_okT hj (br_t a ⟨rfl, I'⟩)
    · exact sq_okT hj (br_f a (br_t b ⟨rfl, I'⟩))
    · exact sq_okT hj (br_f a (br_f b (br_t c ⟨rfl, I'⟩)))
    · obtain ⟨R1, R8, M1, M2, o3, et, tR, SZ, CE⟩ := D
      obtain ⟨s, hs, es⟩ := SZ j hj
      have hsR : s < R := by
        rw [hjc, es] at e
        exact (nI_ltI (by omega) (by omega)).mp e
      have e1 : nI j * 16 + sz (nI j).toNatClampNeg * 2 = nI (j * 16 + s * 2) := by
        rw [hjc, es, zz_lit16, zz_lit2, pk_mul, pk_mul, nI_add]
      have e2 : nI (j * 16 + s * 2) + 1 = nI (j * 16 + s * 2 + 1) := nI_1 _
      have i1 : vp_in (nI (j * 16 + s * 2)) 48 := vp_in_nI (by omega) (by omega)
      have i2 : vp_in (nI (j * 16 + s * 2) + 1) 48 := zz_in e2 (by omega) (by omega)
      have c1 : (nI (j * 16 + s * 2)).toNatClampNeg = j * 16 + s * 2 := nI_clamp (by omega)
      have c2 : (nI (j * 16 + s * 2) + 1).toNatClampNeg = j * 16 + s * 2 + 1 := zz_cl e2 (by omega)
      have e3 : sz (nI j).toNatClampNeg + 1 = nI (s + 1) := by rw [hjc, es, nI_1]
      refine ⟨hin, nm_r e1 ⟨i1, nm_e ⟨i2, nm_e ⟨hin, hin, nm_e ⟨hin, sq_okT hj (br_f a (br_f b (br_f c (br_t d ⟨hin, br_t e ⟨hin, nm_r e1 ⟨i1, nm_e ⟨i2, nm_e ⟨hin, hin, nm_e ?_⟩⟩⟩⟩⟩))))⟩⟩⟩⟩⟩
      rw [c1, c2, e3, hjc, pk_us]
      exact ⟨rfl, sq_in ⟨R1, R8, M1, M2, o3, et, tR, sq_SZ_upd SZ (by omega), sq_CE_ins (sq_SZ_8 SZ R8) CE hj (by omega) es⟩ Q⟩
    · exact sq_okT hj (br_f a (br_f b (br_f c (br_t d ⟨hin, br_f e ⟨rfl, I'⟩⟩))))
    · exact sq_okT hj (br_f a (br_f b (br_f c (br_f d ⟨rfl, I'⟩))))
/-! keep -/
def sq_kp (c rs : Nat → Int32) (b q : Nat) : Nat → Int32 := fun p => if b ≤ p ∧ p < b + q then rs (p - b) else c p
theorem sq_kp0 (c rs : Nat → Int32) (b : Nat) : sq_kp c rs b 0 = c := by
  funext p
  unfold sq_kp
  rw [if_neg (by omega)]
theorem sq_kpS (c rs : Nat → Int32) (b q : Nat) : upd (sq_kp c rs b q) (b + q) (rs q) = sq_kp c rs b (q + 1) := by
  funext p
  by_cases e : p = b + q
  · rw [e, pk_us]
    unfold sq_kp
    rw [if_pos (by omega), Nat.add_sub_cancel_left]
  · rw [pk_un e]
    unfold sq_kp
    by_cases h : b ≤ p ∧ p < b + q
    · rw [if_pos h, if_pos (by omega)]
    · rw [if_neg h, if_neg (by omega)]
theorem sq_CE_kp {cx cy sz rs : Nat → Int32} {j s : Nat} (SZ : sq_SZ sz 8) (CE : sq_CE cx cy sz) (hs : s ≤ 8) :
    sq_CE (sq_kp cx rs (j * 16) (s * 2)) (sq_kp cy rs (j * 16) (s * 2)) (upd sz j (nI s)) := by
  intro t ht q hq
  unfold sq_kp
  by_cases e : t = j
  · rw [e, pk_us, nI_clamp (by omega)] at hq
    rw [e, if_pos (by omega), if_pos (by omega)]
  · rw [pk_un e] at hq
    obtain ⟨r, hr, er⟩ := SZ t ht
    have hq' := hq
    rw [er, nI_clamp (by omega)] at hq'
    rw [if_neg (by omega), if_neg (by omega)]
    exact CE t ht q hq
section
variable {rc nc bg ou q0 q1 nn op : Int32} {cx sz rs tl ks os xs ys lv rt sc pL pO pS tr cy fr cu vl tk : Nat → Int32}
theorem xw_keep20 {post : Int32 → SX → Prop} {j t : Nat} (hj : j < 3) (ht : t ≤ 8)
    (hp : post (nI t) (rc, nc, bg, ou, q0, q1, nn, op, sq_kp cx rs (j * 16) (t * 2), upd sz j (nI t), rs, tl, ks, os, xs, ys, lv, rt, sc, pL, pO, pS, tr)) :
    ∀ d q n, q + d = t * 2 → d < n → wX_keep_20 post (nI j) (nI t) rc nc bg ou q0 q1 nn op n (nI q) (sq_kp cx rs (j * 16) q) sz rs tl ks os xs ys lv rt sc pL pO pS tr := by
  have hin : vp_in (nI j) 3 := vp_in_nI hj (by omega)
  have hjc : (nI j).toNatClampNeg = j := nI_clamp (by omega)
  have e0 : nI t * 2 = nI (t * 2) := by rw [zz_lit2, pk_mul]
  intro d
  induction d with
  | zero =>
    intro q n hq hn
    obtain ⟨n, rfl⟩ : ∃ m, n = m + 1 := ⟨n - 1, by omega⟩
    have : q = t * 2 := by omega
    subst this
    refine br_t (by rw [e0]; exact nI_le (Nat.le_refl _) (by omega)) ⟨hin, nm_e ?_⟩
    rw [hjc]
    exact hp
  | succ d ih =>
    intro q n hq hn
    obtain ⟨n, rfl⟩ : ∃ m, n = m + 1 := ⟨n - 1, by omega⟩
    have e1 : nI j * 16 + nI q = nI (j * 16 + q) := by rw [zz_lit16, pk_mul, nI_add]
    refine br_f (by rw [e0]; exact nI_ge (by omega) (by omega)) ⟨vp_in_nI (by omega) (by omega), zz_in e1 (by omega) (by omega), nm_e (nm_r (nI_1 q) ?_)⟩
    rw [zz_cl e1 (by omega), nI_clamp (by omega : q < 2 ^ 31), sq_kpS]
    exact ih (q + 1) n (by omega) (by omega)
theorem yw_keep14 {post : Int32 → SY → Prop} {j t : Nat} (hj : j < 3) (ht : t ≤ 8) (et : tl 2 = nI t)
    (hp : post (nI t) (rc, nc, bg, nn, ou, q0, q1, sq_kp cy rs (j * 16) (t * 2), upd sz j (nI t), rs, tl, ks, os, xs, ys, fr, cu, vl, tk)) :
    ∀ d q n, q + d = t * 2 → d < n → wY_keep_14 post (nI j) rc nc bg nn ou q0 q1 n (nI q) (sq_kp cy rs (j * 16) q) sz rs tl ks os xs ys fr cu vl tk := by
  have hin : vp_in (nI j) 3 := vp_in_nI hj (by omega)
  have hjc : (nI j).toNatClampNeg = j := nI_clamp (by omega)
  have e0 : tl 2 * 2 = nI (t * 2) := by rw [et, zz_lit2, pk_mul]
  intro d
  induction d with
  | zero =>
    intro q n hq hn
    obtain ⟨n, rfl⟩ : ∃ m, n = m + 1 := ⟨n - 1, by omega⟩
    have : q = t * 2 := by omega
    subst this
    refine br_t (by rw [e0]; exact nI_le (Nat.le_refl _) (by omega)) ⟨hin, nm_e ⟨hin, ?_⟩⟩
    rw [hjc, et, pk_us]
    exact hp
  | succ d ih =>
    intro q n hq hn
    obtain ⟨n, rfl⟩ : ∃ m, n = m + 1 := ⟨n - 1, by omega⟩
    have e1 : nI j * 16 + nI q = nI (j * 16 + q) := by rw [zz_lit16, pk_mul, nI_add]
    refine br_f (by rw [e0]; exact nI_ge (by omega) (by omega)) ⟨vp_in_nI (by omega) (by omega), zz_in e1 (by omega) (by omega), nm_e (nm_r (nI_1 q) ?_)⟩
    rw [zz_cl e1 (by omega), nI_clamp (by omega : q < 2 ^ 31), sq_kpS]
    exact ih (q + 1) n (by omega) (by omega)
end
theorem i_vc_keep {k : Nat} {u : SX} {v : SY} (I : i_Rel k u v) (hk : k + 5 ≤ 2562) (v1 : Int32) : wpX_keep (fun r u' => wpY_keep (fun r' v' => r' = r ∧ i_Rel (k + 5) u' v') v v1) u v1 := by
  refine sq_el (P := fun u v => wpX_keep (fun r u' => wpY_keep (fun r' v' => r' = r ∧ i_Rel (k + 5) u' v') v v1) u v1) I ?_
  intro R NC N o t bg q0 q1 op cx cy sz rs tl ks os xs ys lv rt sc pL pO pS tr fr cu vl tk D Q
  have I' : i_Rel (k + 5) (nI R, nI NC, bg, nI o, q0, q1, nI N, op, cx, sz, rs, tl, ks, os, xs, ys, lv, rt, sc, pL, pO, pS, tr) (nI R, nI NC, bg, nI N, nI o, q0, q1, cy, sz, rs, tl, ks, os, xs, ys, fr, cu, vl, tk) := sq_in D Q
  unfold wpX_keep
  dsimp only
  rcases sq_tcase v1 with h | ⟨j, hj, rfl⟩
  · exact xw_isF h (br_t rfl (sq_badT h ⟨rfl, I'⟩))
  · obtain ⟨R1, R8, M1, M2, o3, et, tR, SZ, CE⟩ := D
    refine xw_isT hj (br_f (by decide) (nm_r et ⟨17, ?_⟩))
    have X := fun post hp => xw_keep20 (post := post) (rc := nI R) (nc := nI NC) (bg := bg) (ou := nI o) (q0 := q0) (q1 := q1) (nn := nI N) (op := op) (cx := cx) (sz := sz) (rs := rs) (tl := tl) (ks := ks) (os := os) (xs := xs) (ys := ys) (lv := lv) (rt := rt) (sc := sc) (pL := pL) (pO := pO) (pS := pS) (tr := tr) hj (by omega : t ≤ 8) hp (t * 2) 0 17 (by omega) (by omega)
    have Y := fun post hp => yw_keep14 (post := post) (rc := nI R) (nc := nI NC) (bg := bg) (ou := nI o) (q0 := q0) (q1 := q1) (nn := nI N) (cy := cy) (sz := sz) (rs := rs) (tl := tl) (ks := ks) (os := os) (xs := xs) (ys := ys) (fr := fr) (cu := cu) (vl := vl) (tk := tk) hj (by omega : t ≤ 8) et hp (t * 2) 0 17 (by omega) (by omega)
    simp only [sq_kp0] at X Y
    refine X _ ?_
    unfold wpY_keep
    refine sq_okT hj ⟨17, Y _ ⟨rfl, ?_⟩⟩
    exact sq_in ⟨R1, R8, M1, M2, o3, et, tR, sq_SZ_upd SZ tR, sq_CE_kp (sq_SZ_8 SZ R8) CE (by omega)⟩ Q
/-! delete -/
def sq_sh (c : Nat → Int32) (a q : Nat) : Nat → Int32 := fun p => if a ≤ p ∧ p < q then c (p + 2) else c p
theorem sq_sh0 (c : Nat → Int32) (a : Nat) : sq_sh c a a = c := by
  funext p
  unfold sq_sh
  rw [if_neg (by omega)]
theorem sq_shS (c : Nat → Int32) {a q : Nat} (h : a ≤ q) : upd (sq_sh c a q) q (sq_sh c a q (q + 2)) = sq_sh c a (q + 1) := by
  funext p
  by_cases e : p = q
  · rw [e, pk_us]
    unfold sq_sh
    rw [if_neg (by omega), if_pos (by omega)]
  · rw [pk_un e]
    unfold sq_sh
    by_cases h : a ≤ p ∧ p < q
    · rw [if_pos h, if_pos (by omega)]
    · rw [if_neg h, if_neg (by omega)]
theorem sq_CE_del {cx cy sz : Nat → Int32} {j s i : Nat} (SZ : sq_SZ sz 8) (CE : sq_CE cx cy sz) (hj : j < 3) (hs : s + 1 ≤ 8) (es : sz j = nI (s + 1)) (hi : i ≤ s) :
    sq_CE (sq_sh cx (j * 16 + i * 2) (j * 16 + s * 2)) (sq_sh cy (j * 16 + i * 2) (j * 16 + 14)) (upd sz j (nI s)) := by
  intro t ht q hq
  unfold sq_sh
  by_cases e : t = j
  · rw [e, pk_us, nI_clamp (by omega)] at hq
    rw [e]
    by_cases h : i * 2 ≤ q
    · rw [if_pos (by omega), if_pos (by omega)]
      exact CE j hj (q + 2) (by rw [es, nI_clamp (by omega)]; omega)
    · rw [if_neg (by omega), if_neg (by omega)]
      exact CE j hj q (by rw [es, nI_clamp (by omega)]; omega)
  · rw [pk_un e] at hq
    obtain ⟨r, hr, er⟩ := SZ t ht
    have hq' := hq
    rw [er, nI_clamp (by omega)] at hq'
    rw [if_neg (by omega), if_neg (by omega)]
    exact CE t ht q hq
section
variable {rc nc bg ou q0 q1 nn op : Int32} {cx sz rs tl ks os xs ys lv rt sc pL pO pS tr cy fr cu vl tk : Nat → Int32}
theorem xw_del56 {post : Int32 → SX → Prop} {j s a : Nat} (hj : j < 3) (hs : s + 1 ≤ 8) (es : sz j = nI (s + 1)) (ha : j * 16 ≤ a)
    (hp : post (nI s) (rc, nc, bg, ou, q0, q1, nn, op, sq_sh cx a (j * 16 + s * 2), upd sz j (nI s), rs, tl, ks, os, xs, ys, lv, rt, sc, pL, pO, pS, tr)) :
    ∀ d q n, q + d = j * 16 + s * 2 → d < n → a ≤ q → wX_delete_56 post (nI j) (nI (j * 16 + s * 2)) rc nc bg ou q0 q1 nn op n (nI q) (sq_sh cx a q) sz rs tl ks os xs ys lv rt sc pL pO pS tr := by
  have hin : vp_in (nI j) 3 := vp_in_nI hj (by omega)
  have hjc : (nI j).toNatClampNeg = j := nI_clamp (by omega)
  have e0 : sz j - 1 = nI s := by rw [es, nI_pred]
  intro d
  induction d with
  | zero =>
    intro q n hq hn haq
    obtain ⟨n, rfl⟩ : ∃ m, n = m + 1 := ⟨n - 1, by omega⟩
    have : q = j * 16 + s * 2 := by omega
    subst this
    refine br_t (nI_le (Nat.le_refl _) (by omega)) ⟨hin, hin, nm_e ⟨hin, ?_⟩⟩
    rw [hjc, e0, pk_us]
    exact hp
  | succ d ih =>
    intro q n hq hn haq
    obtain ⟨n, rfl⟩ : ∃ m, n = m + 1 := ⟨n - 1, by omega⟩
    have e1 : nI q + 2 = nI (q + 2) := nI_add q 2
    refine br_f (nI_ge (by omega) (by omega)) ⟨zz_in e1 (by omega) (by omega), vp_in_nI (by omega) (by omega), nm_e (nm_r (nI_1 q) ?_)⟩
    rw [zz_cl e1 (by omega), nI_clamp (by omega : q < 2 ^ 31), sq_shS cx haq]
    exact ih (q + 1) n (by omega) (by omega) (by omega)
theorem yw_del68 {post : Int32 → SY → Prop} {j s a : Nat} (hj : j < 3) (hs : s + 1 ≤ 8) (es : sz j = nI (s + 1)) (ha : j * 16 ≤ a)
    (hp : post (nI s) (rc, nc, bg, nn, ou, q0, q1, sq_sh cy a (j * 16 + 14), upd sz j (nI s), rs, tl, ks, os, xs, ys, fr, cu, vl, tk)) :
    ∀ d q n, q + d = j * 16 + 14 → d < n → a ≤ q → wY_delete_68 post (nI j) rc nc bg nn ou q0 q1 n (nI q) (sq_sh cy a q) sz rs tl ks os xs ys fr cu vl tk := by
  have hin : vp_in (nI j) 3 := vp_in_nI hj (by omega)
  have hjc : (nI j).toNatClampNeg = j := nI_clamp (by omega)
  have e0 : sz j - 1 = nI s := by rw [es, nI_pred]
  have e2 : nI j * 16 + 14 = nI (j * 16 + 14) := by rw [zz_lit16, pk_mul]; exact nI_add (j * 16) 14
  intro d
  induction d with
  | zero =>
    intro q n hq hn haq
    obtain ⟨n, rfl⟩ : ∃ m, n = m + 1 := ⟨n - 1, by omega⟩
    have : q = j * 16 + 14 := by omega
    subst this
    refine br_t (by rw [e2]; exact nI_le (Nat.le_refl _) (by omega)) ⟨hin, hin, nm_e ?_⟩
    rw [hjc, e0]
    exact hp
  | succ d ih =>
    intro q n hq hn haq
    obtain ⟨n, rfl⟩ : ∃ m, n = m + 1 := ⟨n - 1, by omega⟩
    have e1 : nI q + 2 = nI (q + 2) := nI_add q 2
    refine br_f (by rw [e2]; exact nI_ge (by omega) (by omega)) ⟨zz_in e1 (by omega) (by omega), vp_in_nI (by omega) (by omega), nm_e (nm_r (nI_1 q) ?_)⟩
    rw [zz_cl e1 (by omega), nI_clamp (by omega : q < 2 ^ 31), sq_shS cy haq]
    exact ih (q + 1) n (by omega) (by omega) (by omega)
def sq_M (c : Nat → Int32) (j : Nat) (a b : Int32) (i : Nat) : Prop := c (j * 16 + i * 2) = a ∧ c (j * 16 + i * 2 + 1) = b
theorem sq_at (j i : Nat) : nI j * 16 + nI i * 2 = nI (j * 16 + i * 2) := by rw [zz_lit16, zz_lit2, pk_mul, pk_mul, nI_add]
theorem xw_find {post : Int32 → Prop} {j s : Nat} {a b : Int32} (hj : j < 3) (hs : s ≤ 8) (es : sz j = nI s) :
    ∀ d i n, i + d ≤ s → d < n → (∀ m, i ≤ m → m < i + d → ¬ sq_M cx j a b m) → ((i + d = s ∧ post (-1)) ∨ (i + d < s ∧ sq_M cx j a b (i + d) ∧ post (nI (i + d)))) → wX_findRow_3 post (nI j) a b rc nc bg ou q0 q1 nn op cx sz rs tl ks os xs ys lv rt sc pL pO pS tr n (nI i) := by
  have hin : vp_in (nI j) 3 := vp_in_nI hj (by omega)
  have hjc : (nI j).toNatClampNeg = j := nI_clamp (by omega)
  intro d
  induction d with
  | zero =>
    intro i n hi hn H hp
    obtain ⟨n, rfl⟩ : ∃ m, n = m + 1 := ⟨n - 1, by omega⟩
    refine ⟨hin, ?_⟩
    rw [hjc, es]
    rcases hp with ⟨e, hp⟩ | ⟨e, M, hp⟩
    · exact br_t (nI_le (by omega) (by omega)) hp
    · have e1 := sq_at j i
      have e2 : nI (j * 16 + i * 2) + 1 = nI (j * 16 + i * 2 + 1) := nI_1 _
      refine br_f (nI_ge (by omega) (by omega)) (nm_r e1 ⟨vp_in_nI (by omega) (by omega), br_t ?_ ⟨zz_in e2 (by omega) (by omega), br_t ?_ hp⟩⟩)
      · rw [nI_clamp (by omega)]
        exact M.1
      · rw [zz_cl e2 (by omega)]
        exact M.2
  | succ d ih =>
    intro i n hi hn H hp
    obtain ⟨n, rfl⟩ : ∃ m, n = m + 1 := ⟨n - 1, by omega⟩
    refine ⟨hin, ?_⟩
    rw [hjc, es]
    have e1 := sq_at j i
    have e2 : nI (j * 16 + i * 2) + 1 = nI (j * 16 + i * 2 + 1) := nI_1 _
    have nM := H i (Nat.le_refl i) (by omega)
    have e3 : i + 1 + d = i + (d + 1) := by omega
    have ih' := ih (i + 1) n (by omega) (by omega) (fun m m1 m2 => H m (by omega) (by omega)) (by rw [e3]; exact hp)
    refine br_f (nI_ge (by omega) (by omega)) (nm_r e1 ⟨vp_in_nI (by omega) (by omega), ?_⟩)
    rw [nI_clamp (by omega : j * 16 + i * 2 < 2 ^ 31), zz_cl e2 (by omega)]
    refine br_c (fun m1 => ⟨zz_in e2 (by omega) (by omega), br_f (fun m2 => nM ⟨m1, m2⟩) (nm_r (nI_1 i) ih')⟩) (fun m1 => nm_r (nI_1 i) ih')
theorem yw_find {post : Int32 → SY → Prop} {j s : Nat} {a b : Int32} (hj : j < 3) (hs : s ≤ 8) (es : sz j = nI s) :
    ∀ d i n, i + d ≤ s → d < n → (∀ m, i ≤ m → m < i + d → ¬ sq_M cy j a b m) →
      ((i + d = s ∧ post (-5) (rc, nc, bg, nn, ou, q0, q1, cy, sz, rs, tl, ks, os, xs, ys, fr, cu, vl, tk)) ∨ (i + d < s ∧ sq_M cy j a b (i + d) ∧ ∃ n68 : Nat, wY_delete_68 post (nI j) rc nc bg nn ou q0 q1 n68 (nI (j * 16 + (i + d) * 2)) cy sz rs tl ks os xs ys fr cu vl tk)) → wY_delete_15 post (nI j) a b rc nc bg nn ou q0 q1 cy sz rs tl ks os xs ys fr cu vl tk n (nI i) := by
  have hin : vp_in (nI j) 3 := vp_in_nI hj (by omega)
  have hjc : (nI j).toNatClampNeg = j := nI_clamp (by omega)
  intro d
  induction d with
  | zero =>
    intro i n hi hn H hp
    obtain ⟨n, rfl⟩ : ∃ m, n = m + 1 := ⟨n - 1, by omega⟩
    refine ⟨hin, ?_⟩
    rw [hjc, es]
    rcases hp with ⟨e, hp⟩ | ⟨e, M, hp⟩
    · exact br_t (nI_le (by omega) (by omega)) hp
    · have e1 := sq_at j i
      have e2 : nI (j * 16 + i * 2) + 1 = nI (j * 16 + i * 2 + 1) := nI_1 _
      refine br_f (nI_ge (by omega) (by omega)) (nm_r e1 ⟨vp_in_nI (by omega) (by omega), br_t ?_ ⟨zz_in e2 (by omega) (by omega), br_t ?_ hp⟩⟩)
      · rw [nI_clamp (by omega)]
        exact M.1
      · rw [zz_cl e2 (by omega)]
        exact M.2
  | succ d ih =>
    intro i n hi hn H hp
    obtain ⟨n, rfl⟩ : ∃ m, n = m + 1 := ⟨n - 1, by omega⟩
    refine ⟨hin, ?_⟩
    rw [hjc, es]
    have e1 := sq_at j i
    have e2 : nI (j * 16 + i * 2) + 1 = nI (j * 16 + i * 2 + 1) := nI_1 _
    have nM := H i (Nat.le_refl i) (by omega)
    have e3 : i + 1 + d = i + (d + 1) := by omega
    have ih' := ih (i + 1) n (by omega) (by omega) (fun m m1 m2 => H m (by omega) (by omega)) (by rw [e3]; exact hp)
    refine br_f (nI_ge (by omega) (by omega)) (nm_r e1 ⟨vp_in_nI (by omega) (by omega), ?_⟩)
    rw [nI_clamp (by omega : j * 16 + i * 2 < 2 ^ 31), zz_cl e2 (by omega)]
    refine br_c (fun m1 => ⟨zz_in e2 (by omega) (by omega), br_f (fun m2 => nM ⟨m1, m2⟩) (nm_r (nI_1 i) ih')⟩) (fun m1 => nm_r (nI_1 i) ih')
end
theorem i_vc_delete {k : Nat} {u : SX} {v : SY} (I : i_Rel k u v) (hk : k + 5 ≤ 2562) (v1 : Int32) (v2 : Int32) (v3 : Int32) : wpX_delete (fun r u' => wpY_delete (fun r' v' => r' = r ∧ i_Rel (k + 5) u' v') v v1 v2 v3) u v1 v2 v3 := by
  refine sq_el (P := fun u v => wpX_delete (fun r u' => wpY_delete (fun r' v' => r' = r ∧ i_Rel (k + 5) u' v') v v1 v2 v3) u v1 v2 v3) I ?_
  intro R NC N o t bg q0 q1 op cx cy sz rs tl ks os xs ys lv rt sc pL pO pS tr fr cu vl tk D Q
  have I' : i_Rel (k + 5) (nI R, nI NC, bg, nI o, q0, q1, nI N, op, cx, sz, rs, tl, ks, os, xs, ys, lv, rt, sc, pL, pO, pS, tr) (nI R, nI NC, bg, nI N, nI o, q0, q1, cy, sz, rs, tl, ks, os, xs, ys, fr, cu, vl, tk) := sq_in D Q
  unfold wpX_delete
  dsimp only
  rcases sq_tcase v1 with h | ⟨j, hj, rfl⟩
  · exact xw_isF h (br_t rfl (sq_badT h ⟨rfl, I'⟩))
  · have hin : vp_in (nI j) 3 := vp_in_nI hj (by omega)
    have hjc : (nI j).toNatClampNeg = j := nI_clamp (by omega)
    obtain ⟨R1, R8, M1, M2, o3, et, tR, SZ, CE⟩ := D
    obtain ⟨s, hs, es⟩ := SZ j hj
    have hsc : (sz j).toNatClampNeg = s := by rw [es]; exact nI_clamp (by omega)
    have MM : ∀ i, i < s → (sq_M cx j v2 v3 i ↔ sq_M cy j v2 v3 i) := by
      intro i hi
      unfold sq_M
      rw [CE j hj (i * 2) (by omega), Nat.add_assoc, CE j hj (i * 2 + 1) (by omega)]
    refine xw_isT hj (br_f (by decide) ?_)
    by_cases ex : ∃ i, i < s ∧ sq_M cx j v2 v3 i
    · obtain ⟨i, ⟨i1, i2⟩, i3⟩ := pk_least _ ex
      obtain ⟨s, rfl⟩ : ∃ m, s = m + 1 := ⟨s - 1, by omega⟩
      have H : ∀ m, 0 ≤ m → m < 0 + i → ¬ sq_M cx j v2 v3 m := fun m _ m2 hM => i3 m (by omega) ⟨by omega, hM⟩
      refine ⟨9, xw_find hj (by omega) es i 0 9 (by omega) (by omega) H (Or.inr ⟨by omega, by rw [Nat.zero_add]; exact i2, ?_⟩)⟩
      rw [Nat.zero_add]
      have e1 : nI j * 16 + sz (nI j).toNatClampNeg * 2 - 2 = nI (j * 16 + s * 2) := by
        rw [hjc, es, sq_at]
        exact (pk_sub (a := j * 16 + (s + 1) * 2) (b := 2) (by omega)).trans (congrArg nI (by omega))
      have X := fun post hp => xw_del56 (post := post) (rc := nI R) (nc := nI NC) (bg := bg) (ou := nI o) (q0 := q0) (q1 := q1) (nn := nI N) (op := op) (cx := cx) (sz := sz) (rs := rs) (tl := tl) (ks := ks) (os := os) (xs := xs) (ys := ys) (lv := lv) (rt := rt) (sc := sc) (pL := pL) (pO := pO) (pS := pS) (tr := tr) (a := j * 16 + i * 2) hj (by omega) es (by omega) hp (j * 16 + s * 2 - (j * 16 + i * 2)) (j * 16 + i * 2) 17 (by omega) (by omega) (Nat.le_refl _)
      have Y := fun post hp => yw_del68 (post := post) (rc := nI R) (nc := nI NC) (bg := bg) (ou := nI o) (q0 := q0) (q1 := q1) (nn := nI N) (cy := cy) (sz := sz) (rs := rs) (tl := tl) (ks := ks) (os := os) (xs := xs) (ys := ys) (fr := fr) (cu := cu) (vl := vl) (tk := tk) (a := j * 16 + i * 2) hj (by omega) es (by omega) hp (j * 16 + 14 - (j * 16 + i * 2)) (j * 16 + i * 2) 17 (by omega) (by omega) (Nat.le_refl _)
      simp only [sq_sh0] at X Y
      refine br_t (nI_pos' (by omega)) ⟨hin, nm_r e1 (nm_r (sq_at j i) ⟨17, X _ ?_⟩)⟩
      unfold wpY_delete
      refine sq_okT hj ⟨9, yw_find hj (by omega) es i 0 9 (by omega) (by omega) (fun m m1 m2 hM => H m m1 m2 ((MM m (by omega)).mpr hM)) (Or.inr ⟨by omega, by rw [Nat.zero_add]; exact (MM i i1).mp i2, 17, ?_⟩)⟩
      rw [Nat.zero_add]
      exact Y _ ⟨rfl, sq_in ⟨R1, R8, M1, M2, o3, et, tR, sq_SZ_upd SZ (by omega), sq_CE_del (sq_SZ_8 SZ R8) CE hj (by omega) es (by omega)⟩ Q⟩
    · have H : ∀ m, 0 ≤ m → m < 0 + s → ¬ sq_M cx j v2 v3 m := fun m _ m2 hM => ex ⟨m, by omega, hM⟩
      refine ⟨9, xw_find hj (by omega) es s 0 9 (by omega) (by omega) H (Or.inl ⟨by omega, br_f (by decide) ?_⟩)⟩
      unfold wpY_delete
      exact sq_okT hj ⟨9, yw_find hj (by omega) es s 0 9 (by omega) (by omega) (fun m m1 m2 hM => H m m1 m2 ((MM m (by omega)).mpr hM)) (Or.inl ⟨by omega, rfl, I'⟩)⟩
end
section
/-! begin -/
theorem sq_OpOK_of {q : Int32} {l : Nat} (hl : l ≤ 2) (h : ¬ nI (101 + 2 * l) < q) : sq_OpOK q l := by
  by_cases a : 100 ≤ q
  · right
    have h0 : ¬ q < 0 := fun z => absurd (Int32.lt_of_le_of_lt a z) (by decide)
    obtain ⟨m, hm, rfl⟩ := nI_of h0
    refine ⟨m, rfl, (nI_leI (a := 100) (by omega) hm).mp a, ?_⟩
    by_cases z : m ≤ 101 + 2 * l
    · exact z
    · exact absurd (nI_lt (by omega) hm) h
  · exact Or.inl a
theorem sq_OpOK_0 {l : Nat} : sq_OpOK 0 l := Or.inl (by decide)
section
variable {rc nc bg ou q0 q1 nn op : Int32} {cx sz rs tl ks os xs ys lv rt sc pL pO pS tr cy fr cu vl tk : Nat → Int32}
theorem xw_allowed {post : Int32 → Prop} {q : Int32} {l : Nat} (h1 : q < -1 → post 0) (h2 : ¬ q < -1 → nI (101 + 2 * l) < q → post 0) (h3 : ¬ q < -1 → ¬ nI (101 + 2 * l) < q → post 1) : wpX_allowed post (rc, nc, bg, ou, q0, q1, nn, op, cx, sz, rs, tl, ks, os, xs, ys, lv, rt, sc, pL, pO, pS, tr) q (nI l) := by
  have e : 101 + 2 * nI l = nI (101 + 2 * l) := by
    rw [zz_lit2, pk_mul]
    exact nI_add 101 (2 * l)
  unfold wpX_allowed
  dsimp only
  rw [e]
  exact br_c h1 (fun a => br_c (h2 a) (h3 a))
end
theorem i_vc_begin {k : Nat} {u : SX} {v : SY} (I : i_Rel k u v) (hk : k + 5 ≤ 2562) (v1 : Int32) (v2 : Int32) (v3 : Int32) : wpX_begin (fun r u' => wpY_begin (fun r' v' => r' = r ∧ i_Rel (k + 5) u' v') v v1 v2 v3) u v1 v2 v3 := by
  refine sq_el (P := fun u v => wpX_begin (fun r u' => wpY_begin (fun r' v' => r' = r ∧ i_Rel (k + 5) u' v') v v1 v2 v3) u v1 v2 v3) I ?_
  intro R NC N o t bg q0 q1 op cx cy sz rs tl ks os xs ys lv rt sc pL pO pS tr fr cu vl tk D Q
  have I' : i_Rel (k + 5) (nI R, nI NC, bg, nI o, q0, q1, nI N, op, cx, sz, rs, tl, ks, os, xs, ys, lv, rt, sc, pL, pO, pS, tr) (nI R, nI NC, bg, nI N, nI o, q0, q1, cy, sz, rs, tl, ks, os, xs, ys, fr, cu, vl, tk) := sq_in D Q
  unfold wpX_begin
  dsimp only
  rcases sq_tcase v1 with h | ⟨j, hj, rfl⟩
  · exact xw_isF h (br_t rfl (sq_badT h ⟨rfl, I'⟩))
  · refine xw_isT hj (br_f (by decide) (xw_allowed (l := 0) (fun a => br_t rfl ?_) (fun a b => br_t rfl ?_) (fun a b => br_f (by decide) (xw_allowed (l := 0) (fun c => br_t rfl ?_) (fun c d => br_t rfl ?_) (fun c d => br_f (by decide) ?_)))))
    · exact sq_okT hj (br_t a ⟨rfl, I'⟩)
    · exact sq_okT hj (br_f a (br_t b ⟨rfl, I'⟩))
    · exact sq_okT hj (br_f a (br_f b (br_t c ⟨rfl, I'⟩)))
    · exact sq_okT hj (br_f a (br_f b (br_f c (br_f (Int32.not_le.mpr d) ⟨rfl, I'⟩))))
    · refine nm_e (nm_e (nm_e (nm_e (nm_e (sq_okT hj (br_f a (br_f b (br_f c (br_t (Int32.not_lt.mp d) ⟨rfl, ?_⟩)))))))))
      obtain ⟨R1, R8, M1, M2, o3, et, tR, SZ, CE⟩ := D
      refine sq_in (N := 0) (o := j) (t := t) ⟨R1, R8, M1, M2, hj, et, tR, SZ, CE⟩ (Or.inr ⟨rfl, rfl, ?_, ⟨?_, ?_⟩, sq_OpOK_of (by omega) b, sq_OpOK_of (by omega) d, ⟨?_, ?_, ?_⟩, ?_⟩)
      · show 0 + 1 ≤ NC
        omega
      · intro e he
        omega
      · intro e he
        omega
      · intro e he
        omega
      · intro e k he
        omega
      · intro e r he
        omega
      · intro p hp
        have hp1 : p < 1 := hp
        have p0 : p = 0 := by omega
        rw [p0]
        refine ⟨pk_us, pk_us, fun k hk => ?_⟩
        rcases (by omega : k = 0 ∨ k = 1 ∨ k = 2) with e | e | e <;> subst e
        · rw [pk_un (by omega), pk_un (by omega)]
          exact pk_us
        · rw [pk_un (by omega)]
          exact pk_us
        · exact pk_us
/-! judge -/
theorem sq_ix0 (i : Nat) : sq_ix 0 i 0 0 = i * 64 := by
  unfold sq_ix
  omega
theorem sq_XC_of {sz ks xs ys lv rt sc pL pO pS : Nat → Int32} {q0 q1 op : Int32} {R NC N o t : Nat} {cx cy tl : Nat → Int32} (D : sq_D R NC o t cx cy sz tl) (B : sq_QB q0 q1 op N o NC ks xs ys lv rt sc pL pO pS) (z : sq_h ks N = 0) : sq_XC sz ks xs ys lv rt sc o N := by
  obtain ⟨R1, R8, M1, M2, o3, et, tR, SZ, CE⟩ := D
  obtain ⟨b1, b2, b3, b4, b5, b6, b7⟩ := B
  exact ⟨b3, z, by omega, o3, b6, sq_SZ_8 SZ R8⟩
theorem i_vc_judge {k : Nat} {u : SX} {v : SY} (I : i_Rel k u v) (hk : k + 5 ≤ 2562) (v1 : Int32) : wpX_judge (fun r u' => wpY_judge (fun r' v' => r' = r ∧ i_Rel (k + 5) u' v') v v1) u v1 := by
  refine sq_el (P := fun u v => wpX_judge (fun r u' => wpY_judge (fun r' v' => r' = r ∧ i_Rel (k + 5) u' v') v v1) u v1) I ?_
  intro R NC N o t bg q0 q1 op cx cy sz rs tl ks os xs ys lv rt sc pL pO pS tr fr cu vl tk D Q
  have I' : ∀ tr fr cu vl tk, i_Rel (k + 5) (nI R, nI NC, bg, nI o, q0, q1, nI N, op, cx, sz, rs, tl, ks, os, xs, ys, lv, rt, sc, pL, pO, pS, tr) (nI R, nI NC, bg, nI N, nI o, q0, q1, cy, sz, rs, tl, ks, os, xs, ys, fr, cu, vl, tk) := fun tr fr cu vl tk => sq_in D Q
  have N16 := sq_N16 D Q
  rcases Q with ⟨rfl, rfl, hN⟩ | ⟨rfl, B⟩
  · exact br_t rfl (br_t rfl ⟨rfl, I' tr fr cu vl tk⟩)
  · have B' := B
    obtain ⟨rfl, h1, T, _⟩ := B
    have hb := sq_h_le ks N
    have n1 : ¬ (1 : Int32) = 0 := by decide
    refine br_f n1 ?_
    by_cases z : sq_h ks N = 0
    · have C := sq_XC_of D B' z
      have y0 : nI (sq_h ks N) ≤ 0 := by rw [z]; decide
      have Y : ∀ r, ∀ tr', ∀ hr : (nI (sq_h ks N) ≤ 0 → ((v1 < 0 → (-6 = r ∧ i_Rel (k + 5) (nI R, nI NC, 1, nI o, q0, q1, nI N, nI (sq_h ks N), cx, sz, rs, tl, ks, os, xs, ys, lv, rt, sc, pL, pO, pS, tr') (nI R, nI NC, 1, nI N, nI o, q0, q1, cy, sz, rs, tl, ks, os, xs, ys, fr, cu, vl, tk))) ∧ (¬ v1 < 0 → vp_in (nI o) 3 ∧ ((v1 < sz (nI o).toNatClampNeg → wpY_truth (fun r' v' => r' = r ∧ i_Rel (k + 5) (nI R, nI NC, 1, nI o, q0, q1, nI N, nI (sq_h ks N), cx, sz, rs, tl, ks, os, xs, ys, lv, rt, sc, pL, pO, pS, tr') v') (nI R, nI NC, 1, nI N, nI o, q0, q1, cy, sz, rs, tl, ks, os, xs, ys, fr, cu, vl, tk) v1) ∧ (¬ v1 < sz (nI o).toNatClampNeg → (-6 = r ∧ i_Rel (k + 5) (nI R, nI NC, 1, nI o, q0, q1, nI N, nI (sq_h ks N), cx, sz, rs, tl, ks, os, xs, ys, lv, rt, sc, pL, pO, pS, tr') (nI R, nI NC, 1, nI N, nI o, q0, q1, cy, sz, rs, tl, ks, os, xs, ys, fr, cu, vl, tk)))))))  , wpY_judge (fun r' v' => r' = r ∧ i_Rel (k + 5) (nI R, nI NC, 1, nI o, q0, q1, nI N, nI (sq_h ks N), cx, sz, rs, tl, ks, os, xs, ys, lv, rt, sc, pL, pO, pS, tr') v') (nI R, nI NC, 1, nI N, nI o, q0, q1, cy, sz, rs, tl, ks, os, xs, ys, fr, cu, vl, tk) v1 := by
        intro r tr' hr
        exact br_f n1 (yw_places T.1 N16 (br_t y0 (hr y0)))
      have hin : vp_in (nI o) 3 := vp_in_nI D.2.2.2.2.1 (by omega)
      have hoc : (nI o).toNatClampNeg = o := nI_clamp (by have := D.2.2.2.2.1; omega)
      refine br_t y0 (br_c (fun a => Y _ _ (fun _ => br_t a ⟨rfl, I' tr fr cu vl tk⟩)) (fun a => ⟨hin, br_c (fun b => ?_) (fun b => Y _ _ (fun _ => br_f a ⟨hin, br_f b ⟨rfl, I' tr fr cu vl tk⟩⟩))⟩))
      obtain ⟨i, hi, rfl⟩ := nI_of a
      obtain ⟨s, hs, es⟩ := C.2.2.2.2.2 o C.2.2.2.1
      have his : i < s := by
        rw [hoc, es] at b
        exact (nI_ltI hi (by omega)).mp b
      have hsc : (sz o).toNatClampNeg = s := by rw [es]; exact nI_clamp (by omega)
      rw [nI_1 i]
      refine xw_evaluate C (by omega : i ≤ i + 1) (by omega) (fun tr' S => ?_)
      have e1 : nI i * 64 = nI (i * 64) := by rw [zz_lit64, pk_mul]
      refine ⟨zz_in e1 (by omega) (by omega), ?_⟩
      rw [zz_cl e1 (by omega)]
      refine Y _ tr' (fun _ => br_f a ⟨hin, br_t b ?_⟩)
      refine yw_truth C D.2.2.2.2.2.2.2.2 S (Nat.le_refl i) (by omega) (by omega) (by omega) (fun fr' cu' vl' tk' _ _ => ⟨?_, I' tr' fr' cu' vl' tk'⟩)
      rw [sq_ix0]
    · have y0 : ¬ nI (sq_h ks N) ≤ 0 := nI_nle (by omega) (by omega)
      refine br_f y0 ?_
      unfold wpY_judge
      exact br_f n1 (yw_places T.1 N16 (br_f y0 ⟨rfl, I' tr fr cu vl tk⟩))
end
section
/-! run: the tallies and the result rows as pure folds -/
def sq_rT (vd tl : Nat → Int32) : Nat → Nat → Int32
  | 0 => tl
  | i + 1 => upd (sq_rT vd tl i) (vd i).toNatClampNeg (sq_rT vd tl i (vd i).toNatClampNeg + 1)
def sq_rR (vd e0 e1 rs tl : Nat → Int32) : Nat → Nat → Int32
  | 0 => rs
  | i + 1 => if vd i = 2 then upd (upd (sq_rR vd e0 e1 rs tl i) ((sq_rT vd tl i 2).toNatClampNeg * 2) (e0 i)) ((sq_rT vd tl i 2).toNatClampNeg * 2 + 1) (e1 i) else sq_rR vd e0 e1 rs tl i
theorem sq_v3_in {x : Int32} (h : sq_v3 x) : vp_in x 3 := by
  rcases h with h | h | h <;> subst h
  · exact vp_in_nI (n := 0) (by omega) (by omega)
  · exact vp_in_nI (n := 1) (by omega) (by omega)
  · exact vp_in_nI (n := 2) (by omega) (by omega)
theorem sq_rT2 {vd tl : Nat → Int32} {s : Nat} (hs : s ≤ 8) (h0 : tl 2 = nI 0) (hv : ∀ i, i < s → sq_v3 (vd i)) : ∀ i, i ≤ s → ∃ c, c ≤ i ∧ sq_rT vd tl i 2 = nI c := by
  intro i
  induction i with
  | zero => intro _; exact ⟨0, Nat.le_refl 0, h0⟩
  | succ i ih =>
    intro hi
    obtain ⟨c, hc, ec⟩ := ih (by omega)
    have e : sq_rT vd tl (i + 1) = upd (sq_rT vd tl i) (vd i).toNatClampNeg (sq_rT vd tl i (vd i).toNatClampNeg + 1) := rfl
    rw [e]
    by_cases z : (vd i).toNatClampNeg = 2
    · rw [z, pk_us, ec, nI_1]
      exact ⟨c + 1, by omega, rfl⟩
    · rw [pk_un (fun h => z h.symm)]
      exact ⟨c, by omega, ec⟩
section
variable {rc nc bg ou q0 q1 nn op : Int32} {cx sz rs tl ks os xs ys lv rt sc pL pO pS tr cy fr cu vl tk : Nat → Int32}
theorem xw_run81 {post : Int32 → SX → Prop} {J : Int32 → Int32 → Int32 → Int32 → Int32 → Int32 → Int32 → Int32 → Int32 → (Nat → Int32) → (Nat → Int32) → (Nat → Int32) → (Nat → Int32) → (Nat → Int32) → (Nat → Int32) → (Nat → Int32) → (Nat → Int32) → (Nat → Int32) → (Nat → Int32) → (Nat → Int32) → (Nat → Int32) → (Nat → Int32) → (Nat → Int32) → (Nat → Int32) → Prop}
    {x1 x3 : Int32} {i : Nat} (h3 : sq_v3 x3) (hJ : J (nI (i + 1)) rc nc bg ou q0 q1 nn op cx sz rs (upd tl x3.toNatClampNeg (tl x3.toNatClampNeg + 1)) ks os xs ys lv rt sc pL pO pS tr) : wX_run_81 post J x1 (nI i) x3 rc nc bg ou q0 q1 nn op cx sz rs tl ks os xs ys lv rt sc pL pO pS tr :=
  ⟨sq_v3_in h3, sq_v3_in h3, nm_e (nm_r (nI_1 i) hJ)⟩
theorem yw_run102 {post : Int32 → SY → Prop} {J : Int32 → Int32 → Int32 → Int32 → Int32 → Int32 → Int32 → Int32 → (Nat → Int32) → (Nat → Int32) → (Nat → Int32) → (Nat → Int32) → (Nat → Int32) → (Nat → Int32) → (Nat → Int32) → (Nat → Int32) → (Nat → Int32) → (Nat → Int32) → (Nat → Int32) → (Nat → Int32) → Prop}
    {x3 : Int32} {i : Nat} (h3 : sq_v3 x3) (hJ : J (nI (i + 1)) rc nc bg nn ou q0 q1 cy sz rs (upd tl x3.toNatClampNeg (tl x3.toNatClampNeg + 1)) ks os xs ys fr cu vl tk) : wY_run_102 post J (nI i) x3 rc nc bg nn ou q0 q1 cy sz rs tl ks os xs ys fr cu vl tk :=
  ⟨sq_v3_in h3, sq_v3_in h3, nm_e (nm_r (nI_1 i) hJ)⟩
theorem xw_emit {post : SX → Prop} {o N i c : Nat} (C : sq_XC sz ks xs ys lv rt sc o N) (hN : 0 < N) (hq0 : sq_OpOK q0 0) (hq1 : sq_OpOK q1 0) (hi : i < 8) (hc : c < 8) (ec : tl 2 = nI c)
    (hp : post (rc, nc, bg, ou, q0, q1, nn, op, cx, sz, upd (upd rs (c * 2) (sq_ov cx (sq_Sc ks ys o 0) (sq_r3 i 0 0) q0)) (c * 2 + 1) (sq_ov cx (sq_Sc ks ys o 0) (sq_r3 i 0 0) q1), tl, ks, os, xs, ys, lv, rt, sc, pL, pO, pS, tr)) : wpX_emit post (rc, nc, bg, ou, q0, q1, nn, op, cx, sz, rs, tl, ks, os, xs, ys, lv, rt, sc, pL, pO, pS, tr) (nI i) := by
  have e1 : tl 2 * 2 = nI (c * 2) := by rw [ec, zz_lit2, pk_mul]
  have e2 : nI (c * 2) + 1 = nI (c * 2 + 1) := nI_1 _
  have e3 : nI i * 64 = nI (i * 64 + 0 * 8 + 0) := by rw [zz_lit64, pk_mul]; exact congrArg nI (by omega)
  have V : sq_V3 ks 0 i 0 0 := ⟨hi, by omega, by omega, fun _ => rfl, fun _ => rfl⟩
  unfold wpX_emit
  dsimp only
  rw [e3]
  refine nm_r e1 (xw_op (j := 0) C hN hq0 V ⟨vp_in_nI (by omega) (by omega), nm_e (xw_op (j := 0) C hN hq1 V ⟨zz_in e2 (by omega) (by omega), nm_e ?_⟩)⟩)
  rw [zz_cl e2 (by omega), nI_clamp (by omega)]
  exact hp
theorem xw_run56 {post : Int32 → SX → Prop} {o N s : Nat} {vd e0 e1 rs0 tl0 : Nat → Int32} (C : sq_XC sz ks xs ys lv rt sc o N) (hN : 0 < N) (hq0 : sq_OpOK q0 0) (hq1 : sq_OpOK q1 0) (hs : s ≤ 8)
    (h0 : tl0 2 = nI 0) (hv : ∀ i, i < s → sq_v3 (vd i)) (hvd : ∀ i, i < s → vd i = tr (i * 64))
    (he0 : ∀ i, i < s → e0 i = sq_ov cx (sq_Sc ks ys o 0) (sq_r3 i 0 0) q0) (he1 : ∀ i, i < s → e1 i = sq_ov cx (sq_Sc ks ys o 0) (sq_r3 i 0 0) q1)
    (hp : post (sq_rT vd tl0 s 2) (rc, nc, bg, ou, q0, q1, nn, op, cx, sz, sq_rR vd e0 e1 rs0 tl0 s, sq_rT vd tl0 s, ks, os, xs, ys, lv, rt, sc, pL, pO, pS, tr)) :
    ∀ d i n, i + d = s → d < n → wX_run_56 post (nI s) n (nI i) rc nc bg ou q0 q1 nn op cx sz (sq_rR vd e0 e1 rs0 tl0 i) (sq_rT vd tl0 i) ks os xs ys lv rt sc pL pO pS tr := by
  intro d
  induction d with
  | zero =>
    intro i n hi hn
    obtain ⟨n, rfl⟩ : ∃ m, n = m + 1 := ⟨n - 1, by omega⟩
    have : i = s := by omega
    subst this
    exact br_t (nI_le (Nat.le_refl _) (by omega)) hp
  | succ d ih =>
    intro i n hi hn
    obtain ⟨n, rfl⟩ : ∃ m, n = m + 1 := ⟨n - 1, by omega⟩
    have ih' := ih (i + 1) n (by omega) (by omega)
    have v3 := hv i (by omega)
    have ev := hvd i (by omega)
    obtain ⟨c, hc, ec⟩ := sq_rT2 hs h0 hv i (by omega)
    have e1' : nI i * 64 = nI (i * 64) := by rw [zz_lit64, pk_mul]
    refine br_f (nI_ge (by omega) (by omega)) ⟨zz_in e1' (by omega) (by omega), nm_r (e' := vd i) (by rw [zz_cl e1' (by omega), ev]) ?_⟩
    by_cases z : vd i = 2
    · have eR : sq_rR vd e0 e1 rs0 tl0 (i + 1) = upd (upd (sq_rR vd e0 e1 rs0 tl0 i) (c * 2) (e0 i)) (c * 2 + 1) (e1 i) := by
        simp only [sq_rR]
        rw [if_pos z, ec, nI_clamp (by omega)]
      rw [eR, he0 i (by omega), he1 i (by omega)] at ih'
      exact br_t z (xw_emit C hN hq0 hq1 (by omega) (by omega) ec (xw_run81 v3 ih'))
    · have eR : sq_rR vd e0 e1 rs0 tl0 (i + 1) = sq_rR vd e0 e1 rs0 tl0 i := by
        simp only [sq_rR]
        rw [if_neg z]
      rw [eR] at ih'
      exact br_f z (xw_run81 v3 ih')
theorem yw_run39 {post : Int32 → SY → Prop} {o N s : Nat} {vd e0 e1 rs0 tl0 : Nat → Int32} (C : sq_XC sz ks xs ys lv rt sc o N) (CE : sq_CE cx cy sz) (hN : 0 < N) (hq0 : sq_OpOK q0 0) (hq1 : sq_OpOK q1 0) (hs : s ≤ 8) (es : sz o = nI s)
    (S : sq_Sol cx sz ks os xs ys rt tr o N 0 s 0) (h0 : tl0 2 = nI 0) (hv : ∀ i, i < s → sq_v3 (vd i)) (hvd : ∀ i, i < s → vd i = tr (i * 64))
    (he0 : ∀ i, i < s → e0 i = sq_ov cx (sq_Sc ks ys o 0) (sq_r3 i 0 0) q0) (he1 : ∀ i, i < s → e1 i = sq_ov cx (sq_Sc ks ys o 0) (sq_r3 i 0 0) q1)
    (hp : ∀ fr' cu' vl' tk', post (sq_rT vd tl0 s 2) (rc, nc, bg, nI N, nI o, q0, q1, cy, sz, sq_rR vd e0 e1 rs0 tl0 s, sq_rT vd tl0 s, ks, os, xs, ys, fr', cu', vl', tk')) :
    ∀ d i n fr cu vl tk, i + d = s → d < n → wY_run_39 post n (nI i) rc nc bg (nI N) (nI o) q0 q1 cy sz (sq_rR vd e0 e1 rs0 tl0 i) (sq_rT vd tl0 i) ks os xs ys fr cu vl tk := by
  have o3 := C.2.2.2.1
  have hin : vp_in (nI o) 3 := vp_in_nI o3 (by omega)
  have hoc : (nI o).toNatClampNeg = o := nI_clamp (by omega)
  have hsc : (sz o).toNatClampNeg = s := by rw [es]; exact nI_clamp (by omega)
  intro d
  induction d with
  | zero =>
    intro i n fr cu vl tk hi hn
    obtain ⟨n, rfl⟩ : ∃ m, n = m + 1 := ⟨n - 1, by omega⟩
    have : i = s := by omega
    subst this
    refine ⟨hin, ?_⟩
    rw [hoc, es]
    exact br_t (nI_le (Nat.le_refl _) (by omega)) (hp fr cu vl tk)
  | succ d ih =>
    intro i n fr cu vl tk hi hn
    obtain ⟨n, rfl⟩ : ∃ m, n = m + 1 := ⟨n - 1, by omega⟩
    have v3 := hv i (by omega)
    have ev := hvd i (by omega)
    obtain ⟨c, hc, ec⟩ := sq_rT2 hs h0 hv i (by omega)
    refine ⟨hin, ?_⟩
    rw [hoc, es]
    refine br_f (nI_ge (by omega) (by omega)) (yw_truth C CE S (Nat.zero_le i) (by omega) hs (by omega) (fun fr' cu' vl' tk' hf hcu => ?_))
    have ih' := ih (i + 1) n fr' cu' vl' tk' (by omega) (by omega)
    rw [sq_ix0, ← ev]
    have e1' : sq_rT vd tl0 i 2 * 2 = nI (c * 2) := by rw [ec, zz_lit2, pk_mul]
    have e2' : nI (c * 2) + 1 = nI (c * 2 + 1) := nI_1 _
    refine nm_r e1' ?_
    by_cases z : vd i = 2
    · have eR : sq_rR vd e0 e1 rs0 tl0 (i + 1) = upd (upd (sq_rR vd e0 e1 rs0 tl0 i) (c * 2) (e0 i)) (c * 2 + 1) (e1 i) := by
        simp only [sq_rR]
        rw [if_pos z, ec, nI_clamp (by omega)]
      rw [eR] at ih'
      have ok : sq_ok sz ks ys o (sq_r3 i 0 0) 0 := by
        intro k hk
        have k0 : k = 0 := Nat.le_zero.mp hk
        rw [k0, sq_Sc0 C.1 hN, hsc]
        show i < s
        omega
      have E : ∀ q, sq_OpOK q 0 → sq_ov cx (sq_Sc ks ys o 0) (sq_r3 i 0 0) q = sq_ov cy (sq_Sc ks ys o 0) (sq_r3 i 0 0) q := fun q hq => sq_ov_c (r := sq_r3 i 0 0) C.1 o3 CE hN ok hq
      have F0 := he0 i (by omega)
      have F1 := he1 i (by omega)
      rw [E q0 hq0] at F0
      rw [E q1 hq1] at F1
      rw [F0, F1] at ih'
      have gf : ∀ k, k ≤ 0 → fr' k = nI (sq_Sc ks ys o 0 k) := by
        intro k hk
        have k0 : k = 0 := Nat.le_zero.mp hk
        rw [k0, sq_Sc0 C.1 hN]
        exact hf
      have gc : ∀ k, k ≤ 0 → cu' k = nI (sq_r3 i 0 0 k) := by
        intro k hk
        have k0 : k = 0 := Nat.le_zero.mp hk
        rw [k0]
        exact hcu
      have gr : ∀ k, k ≤ 0 → sq_r3 i 0 0 k < 8 := by
        intro k hk
        have k0 : k = 0 := Nat.le_zero.mp hk
        rw [k0]
        show i < 8
        omega
      have gs : ∀ k, k ≤ 0 → sq_Sc ks ys o 0 k < 3 := fun k _ => sq_Sc_lt C.1 o3 (Nat.zero_le N) k
      refine br_t z (yw_operand (l := 0) (s := sq_Sc ks ys o 0) (r := sq_r3 i 0 0) (by omega) hq0 gf gs gc gr ⟨vp_in_nI (by omega) (by omega), nm_e (yw_operand (l := 0) (s := sq_Sc ks ys o 0) (r := sq_r3 i 0 0) (by omega) hq1 gf gs gc gr ⟨zz_in e2' (by omega) (by omega), nm_e ?_⟩)⟩)
      rw [zz_cl e2' (by omega), nI_clamp (by omega : c * 2 < 2 ^ 31)]
      exact yw_run102 v3 ih'
    · have eR : sq_rR vd e0 e1 rs0 tl0 (i + 1) = sq_rR vd e0 e1 rs0 tl0 i := by
        simp only [sq_rR]
        rw [if_neg z]
      rw [eR] at ih'
      exact br_f z (yw_run102 v3 ih')
theorem yw_run19 {post : Int32 → SY → Prop} (hp : ∃ n39 : Nat, wY_run_39 post n39 (nI 0) rc nc bg nn ou q0 q1 cy sz rs (upd (upd (upd tl 0 0) 1 0) 2 0) ks os xs ys fr cu vl tk) : wY_run_19 post rc nc bg nn ou q0 q1 4 (nI 0) cy sz rs tl ks os xs ys fr cu vl tk :=
  br_f (by decide) ⟨vp_in_nI (by omega) (by omega), nm_e (nm_r (nI_1 0) (br_f (by decide) ⟨vp_in_nI (by omega) (by omega), nm_e (nm_r (nI_1 1) (br_f (by decide) ⟨vp_in_nI (by omega) (by omega), nm_e (nm_r (nI_1 2) (br_t (by decide) hp))⟩))⟩))⟩
end
theorem i_vc_run {k : Nat} {u : SX} {v : SY} (I : i_Rel k u v) (hk : k + 5 ≤ 2562) : wpX_run (fun r u' => wpY_run (fun r' v' => r' = r ∧ i_Rel (k + 5) u' v') v) u := by
  refine sq_el (P := fun u v => wpX_run (fun r u' => wpY_run (fun r' v' => r' = r ∧ i_Rel (k + 5) u' v') v) u) I ?_
  intro R NC N o t bg q0 q1 op cx cy sz rs tl ks os xs ys lv rt sc pL pO pS tr fr cu vl tk D Q
  have I' : i_Rel (k + 5) (nI R, nI NC, bg, nI o, q0, q1, nI N, op, cx, sz, rs, tl, ks, os, xs, ys, lv, rt, sc, pL, pO, pS, tr) (nI R, nI NC, bg, nI N, nI o, q0, q1, cy, sz, rs, tl, ks, os, xs, ys, fr, cu, vl, tk) := sq_in D Q
  have N16 := sq_N16 D Q
  have Q' := Q
  rcases Q with ⟨rfl, rfl, hN⟩ | ⟨rfl, B⟩
  · exact br_t rfl (br_t rfl ⟨rfl, I'⟩)
  · have B' := B
    obtain ⟨rfl, h1, T, hq0, hq1, _⟩ := B
    have hb := sq_h_le ks N
    have n1 : ¬ (1 : Int32) = 0 := by decide
    refine br_f n1 ?_
    by_cases z : sq_h ks N = 0
    · have C := sq_XC_of D B' z
      have y0 : nI (sq_h ks N) ≤ 0 := by rw [z]; decide
      obtain ⟨R1, R8, M1, M2, o3, et, tR, SZ, CE⟩ := D
      have hin : vp_in (nI o) 3 := vp_in_nI o3 (by omega)
      have hoc : (nI o).toNatClampNeg = o := nI_clamp (by omega)
      obtain ⟨s, hs, es⟩ := SZ o o3
      have es' : sz (nI o).toNatClampNeg = nI s := by rw [hoc, es]
      have hN0 : 0 < N := by
        by_cases zz : N = 0
        · rw [zz] at z
          exact absurd (show (1 : Nat) = 0 from z) (by decide)
        · omega
      refine br_t y0 ⟨hin, nm_r es' ?_⟩
      refine xw_evaluate (f := 0) (e := s) C (by omega) (by omega) (fun tr' S => nm_e (nm_e (nm_e ⟨9, ?_⟩)))
      have h3 : ∀ i, i < s → sq_v3 (tr' (i * 64)) := by
        intro i hi
        have h := sq_sol3 C S N 0 (by omega) hN0 i 0 0 (by omega) hi Nat.one_pos Nat.one_pos
        rw [sq_ix0] at h
        exact h
      have t0 : upd (upd (upd tl 0 0) 1 0) 2 0 2 = nI 0 := pk_us
      have X := fun post hp => xw_run56 (post := post) (rc := nI R) (nc := nI NC) (bg := 1) (ou := nI o) (q0 := q0) (q1 := q1) (nn := nI N) (op := nI (sq_h ks N)) (cx := cx) (sz := sz) (ks := ks) (os := os) (xs := xs) (ys := ys) (lv := lv) (rt := rt) (sc := sc) (pL := pL) (pO := pO) (pS := pS) (tr := tr') (vd := fun i => tr' (i * 64)) (e0 := fun i => sq_ov cx (sq_Sc ks ys o 0) (sq_r3 i 0 0) q0) (e1 := fun i => sq_ov cx (sq_Sc ks ys o 0) (sq_r3 i 0 0) q1) (rs0 := rs) (tl0 := upd (upd (upd tl 0 0) 1 0) 2 0) (s := s)
        C hN0 hq0 hq1 (by omega) t0 h3 (fun _ _ => rfl) (fun _ _ => rfl) (fun _ _ => rfl) hp s 0 9 (by omega) (by omega)
      refine X _ ?_
      unfold wpY_run
      refine br_f n1 (yw_places T.1 N16 (br_t y0 ⟨4, yw_run19 ⟨9, ?_⟩⟩))
      refine yw_run39 (vd := fun i => tr' (i * 64)) (e0 := fun i => sq_ov cx (sq_Sc ks ys o 0) (sq_r3 i 0 0) q0) (e1 := fun i => sq_ov cx (sq_Sc ks ys o 0) (sq_r3 i 0 0) q1) (rs0 := rs) (tl0 := upd (upd (upd tl 0 0) 1 0) 2 0) (s := s)
        C CE hN0 hq0 hq1 (by omega) es S t0 h3 (fun _ _ => rfl) (fun _ _ => rfl) (fun _ _ => rfl) (fun fr' cu' vl' tk' => ⟨rfl, ?_⟩) s 0 9 fr cu vl tk (by omega) (by omega)
      obtain ⟨c, hc, ec⟩ := sq_rT2 (vd := fun i => tr' (i * 64)) (s := s) (by omega) t0 h3 s (Nat.le_refl s)
      exact sq_in (t := c) ⟨R1, R8, M1, M2, o3, ec, by omega, SZ, CE⟩ Q'
    · have y0 : ¬ nI (sq_h ks N) ≤ 0 := nI_nle (by omega) (by omega)
      refine br_f y0 ?_
      unfold wpY_run
      exact br_f n1 (yw_places T.1 N16 (br_f y0 ⟨rfl, I'⟩))
end
section
/-! node: the faults, for both sides -/
def sq_nO (k : Int32) : Int32 := if k = 3 then 1 else if k < 8 then 0 else 1
def sq_nX (k : Int32) : Int32 := if k = 3 then 1 else if k = 4 then 1 else if k < 6 then 0 else 1
def sq_f5 (k : Int32) (l : Nat) : Int32 := if k < 5 then 0 else if nI l < 2 then 0 else -12
def sq_f4 (k y : Int32) (l : Nat) : Int32 := if k < 5 then sq_f5 k l else if y < 0 then -11 else if y ≤ 5 then sq_f5 k l else -11
def sq_f3 (k y : Int32) (l : Nat) : Int32 := if k = 3 then (if y < -1 then -7 else if nI (101 + 2 * l) < y then -7 else sq_f4 k y l) else sq_f4 k y l
def sq_f2 (k x y : Int32) (l : Nat) : Int32 := if sq_nX k = 0 then sq_f3 k y l else (if x < -1 then -7 else if nI (101 + 2 * l) < x then -7 else sq_f3 k y l)
def sq_f1 (k p x y : Int32) (l : Nat) : Int32 := if sq_nO k = 0 then sq_f2 k x y l else (if p < 0 then -10 else if p ≤ 5 then sq_f2 k x y l else -10)
theorem sq_f0 {k p x y : Int32} {l : Nat} (h : sq_f1 k p x y l = 0) : (¬ sq_nX k = 0 → ¬ nI (101 + 2 * l) < x) ∧ (k = 3 → ¬ nI (101 + 2 * l) < y) ∧ (¬ k < 5 → ¬ y < 0 ∧ y ≤ 5 ∧ nI l < 2) := by
  have h2 : sq_f2 k x y l = 0 := by
    unfold sq_f1 at h
    by_cases a : sq_nO k = 0
    · rw [if_pos a] at h
      exact h
    · rw [if_neg a] at h
      by_cases b : p < 0
      · rw [if_pos b] at h
        exact absurd h (by decide)
      · rw [if_neg b] at h
        by_cases c : p ≤ 5
        · rw [if_pos c] at h
          exact h
        · rw [if_neg c] at h
          exact absurd h (by decide)
  have h3 : sq_f3 k y l = 0 ∧ (¬ sq_nX k = 0 → ¬ nI (101 + 2 * l) < x) := by
    unfold sq_f2 at h2
    by_cases a : sq_nX k = 0
    · rw [if_pos a] at h2
      exact ⟨h2, fun z => absurd a z⟩
    · rw [if_neg a] at h2
      by_cases b : x < -1
      · rw [if_pos b] at h2
        exact absurd h2 (by decide)
      · rw [if_neg b] at h2
        by_cases c : nI (101 + 2 * l) < x
        · rw [if_pos c] at h2
          exact absurd h2 (by decide)
        · rw [if_neg c] at h2
          exact ⟨h2, fun _ => c⟩
  have h4 : sq_f4 k y l = 0 ∧ (k = 3 → ¬ nI (101 + 2 * l) < y) := by
    have h3' := h3.1
    unfold sq_f3 at h3'
    by_cases a : k = 3
    · rw [if_pos a] at h3'
      by_cases b : y < -1
      · rw [if_pos b] at h3'
        exact absurd h3' (by decide)
      · rw [if_neg b] at h3'
        by_cases c : nI (101 + 2 * l) < y
        · rw [if_pos c] at h3'
          exact absurd h3' (by decide)
        · rw [if_neg c] at h3'
          exact ⟨h3', fun _ => c⟩
    · rw [if_neg a] at h3'
      exact ⟨h3', fun z => absurd z a⟩
  refine ⟨h3.2, h4.2, fun g5 => ?_⟩
  have h4' := h4.1
  unfold sq_f4 at h4'
  rw [if_neg g5] at h4'
  by_cases b : y < 0
  · rw [if_pos b] at h4'
    exact absurd h4' (by decide)
  · rw [if_neg b] at h4'
    by_cases c : y ≤ 5
    · rw [if_pos c] at h4'
      unfold sq_f5 at h4'
      rw [if_neg g5] at h4'
      by_cases d : nI l < 2
      · exact ⟨b, c, d⟩
      · rw [if_neg d] at h4'
        exact absurd h4' (by decide)
    · rw [if_neg c] at h4'
      exact absurd h4' (by decide)
section
variable {rc nc bg ou q0 q1 nn op : Int32} {cx sz rs tl ks os xs ys lv rt sc pL pO pS tr : Nat → Int32}
theorem xw_needsOp {post : Int32 → Prop} {k : Int32} (hp : post (sq_nO k)) : wpX_needsOp post (rc, nc, bg, ou, q0, q1, nn, op, cx, sz, rs, tl, ks, os, xs, ys, lv, rt, sc, pL, pO, pS, tr) k := by
  unfold sq_nO at hp
  refine br_c (fun a => ?_) (fun a => br_c (fun b => ?_) (fun b => ?_))
  · rw [if_pos a] at hp
    exact hp
  · rw [if_neg a, if_pos b] at hp
    exact hp
  · rw [if_neg a, if_neg b] at hp
    exact hp
theorem xw_needsX {post : Int32 → Prop} {k : Int32} (hp : post (sq_nX k)) : wpX_needsX post (rc, nc, bg, ou, q0, q1, nn, op, cx, sz, rs, tl, ks, os, xs, ys, lv, rt, sc, pL, pO, pS, tr) k := by
  unfold sq_nX at hp
  refine br_c (fun a => ?_) (fun a => br_c (fun b => ?_) (fun b => br_c (fun c => ?_) (fun c => ?_)))
  · rw [if_pos a] at hp
    exact hp
  · rw [if_neg a, if_pos b] at hp
    exact hp
  · rw [if_neg a, if_neg b, if_pos c] at hp
    exact hp
  · rw [if_neg a, if_neg b, if_neg c] at hp
    exact hp
theorem xw_f5 {post : Int32 → Prop} {k : Int32} {l : Nat} (hp : post (sq_f5 k l)) : wX_faultOf_79 post k (nI l) rc nc bg ou q0 q1 nn op cx sz rs tl ks os xs ys lv rt sc pL pO pS tr := by
  unfold sq_f5 at hp
  refine br_c (fun a => ?_) (fun a => br_c (fun b => ?_) (fun b => ?_))
  · rw [if_pos a] at hp
    exact hp
  · rw [if_neg a, if_pos b] at hp
    exact hp
  · rw [if_neg a, if_neg b] at hp
    exact hp
theorem xw_f4 {post : Int32 → Prop} {k y : Int32} {l : Nat} (hp : post (sq_f4 k y l)) : wX_faultOf_60 post k y (nI l) rc nc bg ou q0 q1 nn op cx sz rs tl ks os xs ys lv rt sc pL pO pS tr := by
  unfold sq_f4 at hp
  refine br_c (fun a => xw_f5 ?_) (fun a => br_c (fun b => ?_) (fun b => br_c (fun c => xw_f5 ?_) (fun c => ?_)))
  · rw [if_pos a] at hp
    exact hp
  · rw [if_neg a, if_pos b] at hp
    exact hp
  · rw [if_neg a, if_neg b, if_pos c] at hp
    exact hp
  · rw [if_neg a, if_neg b, if_neg c] at hp
    exact hp
theorem xw_f3 {post : Int32 → Prop} {k y : Int32} {l : Nat} (hp : post (sq_f3 k y l)) : wX_faultOf_41 post k y (nI l) rc nc bg ou q0 q1 nn op cx sz rs tl ks os xs ys lv rt sc pL pO pS tr := by
  unfold sq_f3 at hp
  refine br_c (fun a => xw_allowed (fun b => br_t rfl ?_) (fun b c => br_t rfl ?_) (fun b c => br_f (by decide) (xw_f4 ?_))) (fun a => xw_f4 ?_)
  · rw [if_pos a, if_pos b] at hp
    exact hp
  · rw [if_pos a, if_neg b, if_pos c] at hp
    exact hp
  · rw [if_pos a, if_neg b, if_neg c] at hp
    exact hp
  · rw [if_neg a] at hp
    exact hp
theorem xw_f2 {post : Int32 → Prop} {k x y : Int32} {l : Nat} (hp : post (sq_f2 k x y l)) : wX_faultOf_20 post k x y (nI l) rc nc bg ou q0 q1 nn op cx sz rs tl ks os xs ys lv rt sc pL pO pS tr := by
  unfold sq_f2 at hp
  unfold wX_faultOf_20
  refine xw_needsX (br_c (fun a => xw_f3 ?_) (fun a => xw_allowed (fun b => br_t rfl ?_) (fun b c => br_t rfl ?_) (fun b c => br_f (by decide) (xw_f3 ?_))))
  · rw [if_pos a] at hp
    exact hp
  · rw [if_neg a, if_pos b] at hp
    exact hp
  · rw [if_neg a, if_neg b, if_pos c] at hp
    exact hp
  · rw [if_neg a, if_neg b, if_neg c] at hp
    exact hp
theorem xw_f1 {post : Int32 → Prop} {k p x y : Int32} {l : Nat} (hp : post (sq_f1 k p x y l)) : wpX_faultOf post (rc, nc, bg, ou, q0, q1, nn, op, cx, sz, rs, tl, ks, os, xs, ys, lv, rt, sc, pL, pO, pS, tr) k p x y (nI l) := by
  unfold sq_f1 at hp
  unfold wpX_faultOf
  dsimp only
  refine xw_needsOp (br_c (fun a => xw_f2 ?_) (fun a => br_c (fun b => ?_) (fun b => br_c (fun c => xw_f2 ?_) (fun c => ?_))))
  · rw [if_pos a] at hp
    exact hp
  · rw [if_neg a, if_pos b] at hp
    exact hp
  · rw [if_neg a, if_neg b, if_pos c] at hp
    exact hp
  · rw [if_neg a, if_neg b, if_neg c] at hp
    exact hp
theorem xw_childCount {post : Int32 → Prop} {x : Int32} (hp : post (nI (sq_ch x))) : wpX_childCount post (rc, nc, bg, ou, q0, q1, nn, op, cx, sz, rs, tl, ks, os, xs, ys, lv, rt, sc, pL, pO, pS, tr) x := by
  unfold sq_ch at hp
  refine br_c (fun a => ?_) (fun a => br_c (fun b => ?_) (fun b => br_c (fun c => ?_) (fun c => br_c (fun d => ?_) (fun d => ?_))))
  · rw [if_pos a] at hp
    exact hp
  · rw [if_neg a, if_pos b] at hp
    exact hp
  · rw [if_neg a, if_neg b, if_pos c] at hp
    exact hp
  · rw [if_neg a, if_neg b, if_neg c, if_pos d] at hp
    exact hp
  · rw [if_neg a, if_neg b, if_neg c, if_neg d] at hp
    exact hp
end
/-! three cells at once -/
def sq_u3 (f g : Nat → Int32) (a b : Nat) : Nat → Int32 := upd (upd (upd f (a * 3 + 0) (g (b * 3 + 0))) (a * 3 + 1) (g (b * 3 + 1))) (a * 3 + 2) (g (b * 3 + 2))
theorem sq_u3_i {f g : Nat → Int32} {a b k : Nat} (hk : k < 3) : sq_u3 f g a b (a * 3 + k) = g (b * 3 + k) := by
  unfold sq_u3
  rcases (by omega : k = 0 ∨ k = 1 ∨ k = 2) with e | e | e <;> subst e
  · rw [pk_un (by omega), pk_un (by omega), pk_us]
  · rw [pk_un (by omega), pk_us]
  · rw [pk_us]
theorem sq_u3_o {f g : Nat → Int32} {a b q : Nat} (h : q < a * 3 ∨ a * 3 + 3 ≤ q) : sq_u3 f g a b q = f q := by
  unfold sq_u3
  rw [pk_un (by omega), pk_un (by omega), pk_un (by omega)]
section
variable {rc nc bg ou q0 q1 nn op : Int32} {cx sz rs tl ks os xs ys lv rt sc pL pO pS tr : Nat → Int32}
theorem xw_push1 {post : SX → Prop} {N m q n : Nat} (hN : N < 16) (hm : m < 17) (hq : q < 3)
    (hp : wX_pushPlace_23 post (nI N) rc nc bg ou q0 q1 nn (nI m) n (nI (q + 1)) cx sz rs tl ks os xs ys lv rt sc pL pO (upd pS (m * 3 + q) (sc (N * 3 + q))) tr) : wX_pushPlace_23 post (nI N) rc nc bg ou q0 q1 nn (nI m) (n + 1) (nI q) cx sz rs tl ks os xs ys lv rt sc pL pO pS tr := by
  have e1 := sq_j3 N q
  have e2 := sq_j3 m q
  refine br_f (nI_ge (b := 3) hq (by omega)) ⟨zz_in e1 (by omega) (by omega), zz_in e2 (by omega) (by omega), nm_e (nm_r (nI_1 q) ?_)⟩
  rw [zz_cl e1 (by omega), zz_cl e2 (by omega)]
  exact hp
theorem xw_push {post : SX → Prop} {N m : Nat} {ow le : Int32} (hN : N < 16) (hm : m < 17)
    (hp : post (rc, nc, bg, ou, q0, q1, nn, nI (m + 1), cx, sz, rs, tl, ks, os, xs, ys, lv, rt, sc, upd pL m le, upd pO m ow, sq_u3 pS sc m N, tr)) : wpX_pushPlace post (rc, nc, bg, ou, q0, q1, nn, nI m, cx, sz, rs, tl, ks, os, xs, ys, lv, rt, sc, pL, pO, pS, tr) (nI N) ow le := by
  have hin : vp_in (nI m) 17 := vp_in_nI hm (by omega)
  have hmc : (nI m).toNatClampNeg = m := nI_clamp (by omega)
  unfold wpX_pushPlace
  dsimp only
  rw [hmc]
  exact ⟨hin, nm_e ⟨hin, nm_e ⟨4, xw_push1 (q := 0) hN hm (by omega) (xw_push1 (q := 1) hN hm (by omega) (xw_push1 (q := 2) hN hm (by omega) (br_t (by decide) (nm_r (nI_1 m) hp))))⟩⟩⟩
theorem xw_take1 {post : Int32 → SX → Prop} {N m q n : Nat} (hN : N < 16) (hm : m < 17) (hq : q < 3)
    (hp : wX_takePlace_26 post (nI N) (nI m) rc nc bg ou q0 q1 nn op n (nI (q + 1)) cx sz rs tl ks os xs ys lv rt (upd sc (N * 3 + q) (pS (m * 3 + q))) pL pO pS tr) : wX_takePlace_26 post (nI N) (nI m) rc nc bg ou q0 q1 nn op (n + 1) (nI q) cx sz rs tl ks os xs ys lv rt sc pL pO pS tr := by
  have e1 := sq_j3 N q
  have e2 := sq_j3 m q
  refine br_f (nI_ge (b := 3) hq (by omega)) ⟨zz_in e2 (by omega) (by omega), zz_in e1 (by omega) (by omega), nm_e (nm_r (nI_1 q) ?_)⟩
  rw [zz_cl e1 (by omega), zz_cl e2 (by omega)]
  exact hp
def sq_own' (w : Int32) (rt : Nat → Int32) (N : Nat) : Nat → Int32 := if w < 0 then rt else upd rt w.toNatClampNeg (nI N)
theorem xw_take {post : Int32 → SX → Prop} {N m : Nat} (hN : N < 16) (hm : m < 17) (hw : pO m < 0 ∨ vp_in (pO m) 16)
    (hp : post (nI N) (rc, nc, bg, ou, q0, q1, nI (N + 1), nI m, cx, sz, rs, tl, ks, os, xs, ys, upd lv N (pL m), sq_own' (pO m) rt N, sq_u3 sc pS N m, pL, pO, pS, tr)) : wpX_takePlace post (rc, nc, bg, ou, q0, q1, nI N, nI (m + 1), cx, sz, rs, tl, ks, os, xs, ys, lv, rt, sc, pL, pO, pS, tr) := by
  have hin : vp_in (nI m) 17 := vp_in_nI hm (by omega)
  have hmc : (nI m).toNatClampNeg = m := nI_clamp (by omega)
  have hNc : (nI N).toNatClampNeg = N := nI_clamp (by omega)
  unfold wpX_takePlace
  dsimp only
  refine nm_r (nI_pred m) ⟨hin, vp_in_nI hN (by omega), nm_e ⟨4, ?_⟩⟩
  rw [hmc, hNc]
  refine xw_take1 (q := 0) hN hm (by omega) (xw_take1 (q := 1) hN hm (by omega) (xw_take1 (q := 2) hN hm (by omega) (br_t (by decide) ⟨hin, ?_⟩)))
  rw [hmc]
  unfold sq_own' at hp
  refine br_c (fun a => nm_r (nI_1 N) ?_) (fun a => ⟨hin, ?_, nm_e (nm_r (nI_1 N) ?_)⟩)
  · rw [if_pos a] at hp
    exact hp
  · rcases hw with h | h
    · exact absurd h a
    · exact h
  · rw [if_neg a] at hp
    exact hp
end
end
section
/-! node: X opens the children; what is written -/
def sq_PN (pL pO pS sc pL' pO' pS' : Nat → Int32) (k y2 : Int32) (N m l : Nat) : Prop :=
  (∀ p, p < m → pL' p = pL p ∧ pO' p = pO p ∧ ∀ q, q < 3 → pS' (p * 3 + q) = pS (p * 3 + q)) ∧
  (∀ p, m ≤ p → p < m + sq_ch k → pL' p = nI (l + (if k < 5 then 0 else 1)) ∧ pO' p = (if (k = 1 ∨ k = 2) ∧ p = m then nI N else -1) ∧ ∀ q, q < 3 → pS' (p * 3 + q) = if ¬ k < 5 ∧ q = l + 1 then y2 else sc (N * 3 + q))
def sq_wo (k p : Int32) : Int32 := if sq_nO k = 0 then 0 else p
def sq_wx (k x : Int32) : Int32 := if sq_nX k = 0 then 0 else x
def sq_wy (k y : Int32) : Int32 := if k = 3 then y else if k < 5 then 0 else y
section
variable {rc nc bg ou q0 q1 nn op : Int32} {cx sz rs tl ks os xs ys lv rt sc pL pO pS tr : Nat → Int32}
theorem xw_open {post : SX → Prop} {N m l y : Nat} {k : Int32} (hN : N < 16) (hm : m + sq_ch k ≤ 16) (hk0 : ¬ k < 0) (ek : ks N = k) (el : lv N = nI l) (hy : ¬ k < 5 → l ≤ 1 ∧ y ≤ 5 ∧ ys N = nI y)
    (hp : ∀ pL' pO' pS', sq_PN pL pO pS sc pL' pO' pS' k (nI (y / 2)) N m l → post (rc, nc, bg, ou, q0, q1, nn, nI (m + sq_ch k), cx, sz, rs, tl, ks, os, xs, ys, lv, rt, sc, pL', pO', pS', tr)) : wpX_openChildren post (rc, nc, bg, ou, q0, q1, nn, nI m, cx, sz, rs, tl, ks, os, xs, ys, lv, rt, sc, pL, pO, pS, tr) (nI N) := by
  have hin : vp_in (nI N) 16 := vp_in_nI hN (by omega)
  have hNc : (nI N).toNatClampNeg = N := nI_clamp (by omega)
  have P12 : (k = 1 ∨ k = 2) → wX_openChildren_17 post (nI N) k rc nc bg ou q0 q1 nn (nI m) cx sz rs tl ks os xs ys lv rt sc pL pO pS tr := by
    intro k12
    have hc := sq_ch12 k12
    have l5 := sq_lt5 k12
    rw [hc] at hm hp
    unfold wX_openChildren_17
    rw [hNc, el]
    refine ⟨hin, xw_push hN (by omega) ?_⟩
    refine br_f (by rcases k12 with e | e <;> rw [e] <;> decide) ⟨hin, ?_⟩
    rw [hNc, el]
    refine xw_push hN (by omega) (hp _ _ _ ⟨fun p hpm => ?_, fun p h1 h2 => ?_⟩)
    · rw [pk_un (by omega), pk_un (by omega), pk_un (by omega), pk_un (by omega)]
      refine ⟨rfl, rfl, fun q hq => ?_⟩
      rw [sq_u3_o (by omega), sq_u3_o (by omega)]
    · rw [hc] at h2
      rw [if_pos l5]
      by_cases e : p = m
      · rw [e, if_pos ⟨k12, rfl⟩, pk_un (k := m + 1) (by omega), pk_un (k := m + 1) (by omega), pk_us, pk_us]
        refine ⟨rfl, rfl, fun q hq => ?_⟩
        rw [if_neg (fun hh => hh.1 l5), sq_u3_o (by omega), sq_u3_i hq]
      · have e' : p = m + 1 := by omega
        rw [e', if_neg (fun hh => by omega), pk_us, pk_us]
        refine ⟨rfl, rfl, fun q hq => ?_⟩
        rw [if_neg (fun hh => hh.1 l5), sq_u3_i hq]
  have P29 : ¬ k = 1 → ¬ k = 2 → wX_openChildren_29 post (nI N) k rc nc bg ou q0 q1 nn (nI m) cx sz rs tl ks os xs ys lv rt sc pL pO pS tr := by
    intro n1 n2
    refine br_c (fun g2 => br_c (fun l5 => ?_) (fun g5 => ⟨hin, ?_⟩)) (fun l2 => ⟨hin, ?_⟩)
    · have k34 : k = 3 ∨ k = 4 := by
        by_cases a : k = 3
        · exact Or.inl a
        · by_cases b : k = 4
          · exact Or.inr b
          · have n0 : ¬ k = 0 := fun e => by rw [e] at g2; exact absurd g2 (by decide)
            exact absurd l5 (sq_ge5 hk0 n0 n1 n2 a b)
      have hc := sq_ch34 k34
      have hp' := hp pL pO pS ⟨fun p _ => ⟨rfl, rfl, fun _ _ => rfl⟩, fun p h1 h2 => by omega⟩
      rw [hc] at hp'
      exact hp'
    · obtain ⟨hl, hy5, ey⟩ := hy g5
      have hc := sq_ch5 g5
      rw [hc] at hm hp
      rw [hNc, el]
      refine nm_r (nI_1 l) (xw_push hN (by omega) ⟨hin, by decide, ?_⟩)
      have e1 : (nI (m + 1) - 1) * 3 + nI (l + 1) = nI (m * 3 + (l + 1)) := by rw [nI_pred, sq_j3]
      have e2 : ys N / 2 = nI (y / 2) := by rw [ey]; exact sq_half (by omega)
      refine ⟨zz_in e1 (by omega) (by omega), nm_e ?_⟩
      rw [e2, zz_cl e1 (by omega)]
      refine hp _ _ _ ⟨fun p hpm => ?_, fun p h1 h2 => ?_⟩
      · rw [pk_un (by omega), pk_un (by omega)]
        refine ⟨rfl, rfl, fun q hq => ?_⟩
        rw [pk_un (by omega), sq_u3_o (by omega)]
      · rw [hc] at h2
        have e : p = m := by omega
        rw [e, if_neg g5, pk_us, pk_us, if_neg (fun hh => by rcases hh.1 with z | z; exact n1 z; exact n2 z)]
        refine ⟨rfl, rfl, fun q hq => ?_⟩
        by_cases eq : q = l + 1
        · rw [if_pos ⟨g5, eq⟩, eq, pk_us]
        · rw [if_neg (fun hh => eq hh.2), pk_un (by omega), sq_u3_i hq]
    · have l5 : k < 5 := Int32.lt_of_le_of_lt (Int32.not_lt.mp l2) (by decide)
      have n3 : ¬ k = 3 := fun e => by rw [e] at l2; exact absurd (by decide) l2
      have n4 : ¬ k = 4 := fun e => by rw [e] at l2; exact absurd (by decide) l2
      have hc := sq_ch1 n1 n2 n3 n4
      rw [hc] at hm hp
      rw [hNc, el]
      refine xw_push hN (by omega) (hp _ _ _ ⟨fun p hpm => ?_, fun p h1 h2 => ?_⟩)
      · rw [pk_un (by omega), pk_un (by omega)]
        refine ⟨rfl, rfl, fun q hq => ?_⟩
        rw [sq_u3_o (by omega)]
      · rw [hc] at h2
        have e : p = m := by omega
        rw [e, if_pos l5, pk_us, pk_us, if_neg (fun hh => by rcases hh.1 with z | z; exact n1 z; exact n2 z)]
        refine ⟨rfl, rfl, fun q hq => ?_⟩
        rw [if_neg (fun hh => hh.1 l5), sq_u3_i hq]
  unfold wpX_openChildren
  dsimp only
  rw [hNc, ek]
  exact ⟨hin, nm_e (br_c (fun k1 => P12 (Or.inl k1)) (fun k1 => br_c (fun k2 => P12 (Or.inr k2)) (fun k2 => P29 k1 k2)))⟩
theorem xw_162 {post : Int32 → SX → Prop} {N m l y : Nat} {k w : Int32} (hN : N < 16) (hm : m + sq_ch k ≤ 16) (hk0 : ¬ k < 0) (ek : ks N = k) (el : lv N = nI l) (hy : ¬ k < 5 → l ≤ 1 ∧ y ≤ 5 ∧ w = nI y)
    (hp : ∀ pL' pO' pS', sq_PN pL pO pS sc pL' pO' pS' k (nI (y / 2)) N m l → post (nI (m + sq_ch k)) (rc, nc, bg, ou, q0, q1, nn, nI (m + sq_ch k), cx, sz, rs, tl, ks, os, xs, upd ys N w, lv, rt, sc, pL', pO', pS', tr)) : wX_node_162 post (nI N) w (nI N) rc nc bg ou q0 q1 nn (nI m) cx sz rs tl ks os xs ys lv rt sc pL pO pS tr := by
  have hin : vp_in (nI N) 16 := vp_in_nI hN (by omega)
  have hNc : (nI N).toNatClampNeg = N := nI_clamp (by omega)
  unfold wX_node_162
  rw [hNc]
  exact ⟨hin, nm_e (xw_open hN hm hk0 ek el (fun g => ⟨(hy g).1, (hy g).2.1, by rw [pk_us]; exact (hy g).2.2⟩) hp)⟩
theorem xw_139 {post : Int32 → SX → Prop} {N m l y : Nat} {k v w : Int32} (hN : N < 16) (hm : m + sq_ch k ≤ 16) (hk0 : ¬ k < 0) (ek : ks N = k) (el : lv N = nI l) (hy : ¬ k < 5 → l ≤ 1 ∧ y ≤ 5 ∧ w = nI y)
    (hp : ∀ pL' pO' pS', sq_PN pL pO pS sc pL' pO' pS' k (nI (y / 2)) N m l → post (nI (m + sq_ch k)) (rc, nc, bg, ou, q0, q1, nn, nI (m + sq_ch k), cx, sz, rs, tl, ks, os, upd xs N v, upd ys N (sq_wy k w), lv, rt, sc, pL', pO', pS', tr)) : wX_node_139 post k w (nI N) v (nI N) rc nc bg ou q0 q1 nn (nI m) cx sz rs tl ks os xs ys lv rt sc pL pO pS tr := by
  have hin : vp_in (nI N) 16 := vp_in_nI hN (by omega)
  have hNc : (nI N).toNatClampNeg = N := nI_clamp (by omega)
  unfold wX_node_139
  rw [hNc]
  unfold sq_wy at hp
  refine ⟨hin, nm_e (br_c (fun k3 => ?_) (fun k3 => br_c (fun l5 => ?_) (fun l5 => ?_)))⟩
  · rw [if_pos k3] at hp
    exact xw_162 hN hm hk0 ek el hy hp
  · rw [if_neg k3, if_pos l5] at hp
    exact xw_162 hN hm hk0 ek el (fun g => absurd l5 g) hp
  · rw [if_neg k3, if_neg l5] at hp
    exact xw_162 hN hm hk0 ek el hy hp
theorem xw_119 {post : Int32 → SX → Prop} {N m l y : Nat} {k p v w : Int32} (hN : N < 16) (hm : m + sq_ch k ≤ 16) (hk0 : ¬ k < 0) (ek : ks N = k) (el : lv N = nI l) (hy : ¬ k < 5 → l ≤ 1 ∧ y ≤ 5 ∧ w = nI y)
    (hp : ∀ pL' pO' pS', sq_PN pL pO pS sc pL' pO' pS' k (nI (y / 2)) N m l → post (nI (m + sq_ch k)) (rc, nc, bg, ou, q0, q1, nn, nI (m + sq_ch k), cx, sz, rs, tl, ks, upd os N p, upd xs N (sq_wx k v), upd ys N (sq_wy k w), lv, rt, sc, pL', pO', pS', tr)) : wX_node_119 post k v w (nI N) p (nI N) rc nc bg ou q0 q1 nn (nI m) cx sz rs tl ks os xs ys lv rt sc pL pO pS tr := by
  have hin : vp_in (nI N) 16 := vp_in_nI hN (by omega)
  have hNc : (nI N).toNatClampNeg = N := nI_clamp (by omega)
  unfold wX_node_119
  rw [hNc]
  unfold sq_wx at hp
  refine ⟨hin, nm_e (xw_needsX (br_c (fun a => ?_) (fun a => ?_)))⟩
  · rw [if_pos a] at hp
    exact xw_139 hN hm hk0 ek el hy hp
  · rw [if_neg a] at hp
    exact xw_139 hN hm hk0 ek el hy hp
end
/-! node: Y's side -/
section
variable {rc nc bg nn ou q0 q1 : Int32} {cy sz rs tl ks os xs ys fr cu vl tk : Nat → Int32}
theorem yw_173 {post : Int32 → SY → Prop} {N m NC : Nat} {k p x y : Int32} (hN : N < 16) (hm : m ≤ 16) (hNC : NC ≤ 16)
    (hp : N + 1 + (m + sq_ch k) ≤ NC → post (nI (m + sq_ch k)) (rc, nI NC, bg, nI (N + 1), ou, q0, q1, cy, sz, rs, tl, upd ks N k, upd os N (sq_wo k p), upd xs N (sq_wx k x), upd ys N (sq_wy k y), fr, cu, vl, tk))
    (hn : ¬ N + 1 + (m + sq_ch k) ≤ NC → post (-4) (rc, nI NC, bg, nI N, ou, q0, q1, cy, sz, rs, tl, ks, os, xs, ys, fr, cu, vl, tk)) : wY_node_173 post k p x y (nI (m + 1)) (sq_nO k) (sq_nX k) rc (nI NC) bg (nI N) ou q0 q1 cy sz rs tl ks os xs ys fr cu vl tk := by
  have hin : vp_in (nI N) 16 := vp_in_nI hN (by omega)
  have hNc : (nI N).toNatClampNeg = N := nI_clamp (by omega)
  have hch := sq_ch_le k
  have e1 : nI (m + 1) - 1 + nI (sq_ch k) = nI (m + sq_ch k) := by rw [nI_pred, nI_add]
  have e2 : nI N + 1 + nI (m + sq_ch k) = nI (N + 1 + (m + sq_ch k)) := by rw [nI_1, nI_add]
  unfold wY_node_173
  refine yw_children (nm_r e1 ?_)
  rw [e2]
  refine br_c (fun a => ?_) (fun a => hn (fun h => a (nI_le h (by omega))))
  have hp := hp ((nI_leI (by omega) (by omega)).mp a)
  rw [hNc]
  have P276 : ∀ ks' os' xs' w, post (nI (m + sq_ch k)) (rc, nI NC, bg, nI (N + 1), ou, q0, q1, cy, sz, rs, tl, ks', os', xs', upd ys N w, fr, cu, vl, tk) → wY_node_276 post (nI (m + sq_ch k)) w (nI N) rc (nI NC) bg (nI N) ou q0 q1 cy sz rs tl ks' os' xs' ys fr cu vl tk := by
    intro ks' os' xs' w h
    unfold wY_node_276
    rw [hNc]
    exact ⟨hin, nm_e (nm_r (nI_1 N) h)⟩
  have P251 : ∀ ks' os' v, post (nI (m + sq_ch k)) (rc, nI NC, bg, nI (N + 1), ou, q0, q1, cy, sz, rs, tl, ks', os', upd xs N v, upd ys N (sq_wy k y), fr, cu, vl, tk) → wY_node_251 post k y (nI (m + sq_ch k)) v (nI N) rc (nI NC) bg (nI N) ou q0 q1 cy sz rs tl ks' os' xs ys fr cu vl tk := by
    intro ks' os' v h
    unfold wY_node_251
    rw [hNc]
    unfold sq_wy at h
    refine ⟨hin, nm_e (br_c (fun k3 => P276 _ _ _ _ ?_) (fun k3 => br_c (fun l5 => P276 _ _ _ _ ?_) (fun l5 => P276 _ _ _ _ ?_)))⟩
    · rw [if_pos k3] at h
      exact h
    · rw [if_neg k3, if_pos l5] at h
      exact h
    · rw [if_neg k3, if_neg l5] at h
      exact h
  have P232 : ∀ ks' w, post (nI (m + sq_ch k)) (rc, nI NC, bg, nI (N + 1), ou, q0, q1, cy, sz, rs, tl, ks', upd os N w, upd xs N (sq_wx k x), upd ys N (sq_wy k y), fr, cu, vl, tk) → wY_node_232 post k x y (sq_nX k) (nI (m + sq_ch k)) w (nI N) rc (nI NC) bg (nI N) ou q0 q1 cy sz rs tl ks' os xs ys fr cu vl tk := by
    intro ks' w h
    unfold wY_node_232
    rw [hNc]
    unfold sq_wx at h
    refine ⟨hin, nm_e (br_c (fun a => P251 _ _ _ ?_) (fun a => P251 _ _ _ ?_))⟩
    · rw [if_pos a] at h
      exact h
    · rw [if_neg a] at h
      exact h
  unfold sq_wo at hp
  refine ⟨hin, nm_e (br_c (fun a => P232 _ _ ?_) (fun a => P232 _ _ ?_))⟩
  · rw [if_pos a] at hp
    exact hp
  · rw [if_neg a] at hp
    exact hp
theorem yw_159 {post : Int32 → SY → Prop} {k p x y M b8 b9 : Int32} {l : Nat} (hl : l ≤ 2) (hp : (sq_f5 k l = 0 → wY_node_173 post k p x y M b8 b9 rc nc bg nn ou q0 q1 cy sz rs tl ks os xs ys fr cu vl tk) ∧ (¬ sq_f5 k l = 0 → post (sq_f5 k l) (rc, nc, bg, nn, ou, q0, q1, cy, sz, rs, tl, ks, os, xs, ys, fr, cu, vl, tk))) : wY_node_159 post k p x y M (nI l) b8 b9 rc nc bg nn ou q0 q1 cy sz rs tl ks os xs ys fr cu vl tk := by
  unfold sq_f5 at hp
  refine br_c (fun a => ?_) (fun a => br_c (fun e => ?_) (fun e => ?_))
  · rw [if_pos a] at hp
    exact hp.1 rfl
  · have n : ¬ nI l < 2 := by rw [e]; decide
    rw [if_neg a, if_neg n] at hp
    exact hp.2 (by decide)
  · have n : nI l < 2 := by
      have l2 : l ≠ 2 := fun z => e (by rw [z]; rfl)
      exact nI_lt (b := 2) (by omega) (by omega)
    rw [if_neg a, if_pos n] at hp
    exact hp.1 rfl
theorem yw_140 {post : Int32 → SY → Prop} {k p x y M b8 b9 : Int32} {l : Nat} (hl : l ≤ 2) (hp : (sq_f4 k y l = 0 → wY_node_173 post k p x y M b8 b9 rc nc bg nn ou q0 q1 cy sz rs tl ks os xs ys fr cu vl tk) ∧ (¬ sq_f4 k y l = 0 → post (sq_f4 k y l) (rc, nc, bg, nn, ou, q0, q1, cy, sz, rs, tl, ks, os, xs, ys, fr, cu, vl, tk))) : wY_node_140 post k p x y M (nI l) b8 b9 rc nc bg nn ou q0 q1 cy sz rs tl ks os xs ys fr cu vl tk := by
  unfold sq_f4 at hp
  refine br_c (fun a => yw_159 hl ?_) (fun a => br_c (fun b => ?_) (fun b => br_c (fun c => yw_159 hl ?_) (fun c => ?_)))
  · rw [if_pos a] at hp
    exact hp
  · rw [if_neg a, if_pos b] at hp
    exact hp.2 (by decide)
  · rw [if_neg a, if_neg b, if_pos c] at hp
    exact hp
  · rw [if_neg a, if_neg b, if_neg c] at hp
    exact hp.2 (by decide)
theorem yw_119n {post : Int32 → SY → Prop} {k p x y M b8 b9 : Int32} {l : Nat} (hl : l ≤ 2) (hp : (sq_f3 k y l = 0 → wY_node_173 post k p x y M b8 b9 rc nc bg nn ou q0 q1 cy sz rs tl ks os xs ys fr cu vl tk) ∧ (¬ sq_f3 k y l = 0 → post (sq_f3 k y l) (rc, nc, bg, nn, ou, q0, q1, cy, sz, rs, tl, ks, os, xs, ys, fr, cu, vl, tk))) : wY_node_119 post k p x y M (nI l) (nI (101 + 2 * l)) b8 b9 rc nc bg nn ou q0 q1 cy sz rs tl ks os xs ys fr cu vl tk := by
  unfold sq_f3 at hp
  refine br_c (fun a => br_c (fun b => ?_) (fun b => br_c (fun c => yw_140 hl ?_) (fun c => ?_))) (fun a => yw_140 hl ?_)
  · rw [if_pos a, if_pos b] at hp
    exact hp.2 (by decide)
  · rw [if_pos a, if_neg b, if_neg (Int32.not_lt.mpr c)] at hp
    exact hp
  · rw [if_pos a, if_neg b, if_pos (Int32.not_le.mp c)] at hp
    exact hp.2 (by decide)
  · rw [if_neg a] at hp
    exact hp
theorem yw_100n {post : Int32 → SY → Prop} {k p x y M b8 : Int32} {l : Nat} (hl : l ≤ 2) (hp : (sq_f2 k x y l = 0 → wY_node_173 post k p x y M b8 (sq_nX k) rc nc bg nn ou q0 q1 cy sz rs tl ks os xs ys fr cu vl tk) ∧ (¬ sq_f2 k x y l = 0 → post (sq_f2 k x y l) (rc, nc, bg, nn, ou, q0, q1, cy, sz, rs, tl, ks, os, xs, ys, fr, cu, vl, tk))) : wY_node_100 post k p x y M (nI l) (nI (101 + 2 * l)) b8 (sq_nX k) rc nc bg nn ou q0 q1 cy sz rs tl ks os xs ys fr cu vl tk := by
  unfold sq_f2 at hp
  refine br_c (fun a => yw_119n hl ?_) (fun a => br_c (fun b => ?_) (fun b => br_c (fun c => yw_119n hl ?_) (fun c => ?_)))
  · rw [if_pos a] at hp
    exact hp
  · rw [if_neg a, if_pos b] at hp
    exact hp.2 (by decide)
  · rw [if_neg a, if_neg b, if_neg (Int32.not_lt.mpr c)] at hp
    exact hp
  · rw [if_neg a, if_neg b, if_pos (Int32.not_le.mp c)] at hp
    exact hp.2 (by decide)
theorem yw_60n {post : Int32 → SY → Prop} {k p x y M : Int32} {l : Nat} (hl : l ≤ 2) (hM : ¬ M = 0) (h0 : ¬ k < 0) (h11 : k ≤ 11)
    (hp : (sq_f1 k p x y l = 0 → wY_node_173 post k p x y M (sq_nO k) (sq_nX k) rc nc bg nn ou q0 q1 cy sz rs tl ks os xs ys fr cu vl tk) ∧ (¬ sq_f1 k p x y l = 0 → post (sq_f1 k p x y l) (rc, nc, bg, nn, ou, q0, q1, cy, sz, rs, tl, ks, os, xs, ys, fr, cu, vl, tk))) : wY_node_60 post k p x y M (nI l) (nI (101 + 2 * l)) (sq_nO k) (sq_nX k) rc nc bg nn ou q0 q1 cy sz rs tl ks os xs ys fr cu vl tk := by
  unfold sq_f1 at hp
  refine br_f hM (br_f h0 (br_t h11 (br_c (fun a => yw_100n hl ?_) (fun a => br_c (fun b => ?_) (fun b => br_c (fun c => yw_100n hl ?_) (fun c => ?_))))))
  · rw [if_pos a] at hp
    exact hp
  · rw [if_neg a, if_pos b] at hp
    exact hp.2 (by decide)
  · rw [if_neg a, if_neg b, if_pos c] at hp
    exact hp
  · rw [if_neg a, if_neg b, if_neg c] at hp
    exact hp.2 (by decide)
theorem yw_37n {post : Int32 → SY → Prop} {k p x y M L T b8 : Int32} (hp : wY_node_60 post k p x y M L T b8 (sq_nX k) rc nc bg nn ou q0 q1 cy sz rs tl ks os xs ys fr cu vl tk) : wY_node_37 post k p x y M L T b8 rc nc bg nn ou q0 q1 cy sz rs tl ks os xs ys fr cu vl tk := by
  unfold sq_nX at hp
  refine br_c (fun a => ?_) (fun a => br_c (fun b => ?_) (fun b => br_c (fun c => ?_) (fun c => ?_)))
  · rw [if_pos a] at hp
    exact hp
  · rw [if_neg a, if_pos b] at hp
    exact hp
  · rw [if_neg a, if_neg b, if_pos c] at hp
    exact hp
  · rw [if_neg a, if_neg b, if_neg c] at hp
    exact hp
theorem yw_hd {post : Int32 → SY → Prop} {k p x y M L T : Int32} (hp : wY_node_60 post k p x y M L T (sq_nO k) (sq_nX k) rc nc bg nn ou q0 q1 cy sz rs tl ks os xs ys fr cu vl tk) :
    (k = 3 → wY_node_32 post k p x y M L T rc nc bg nn ou q0 q1 cy sz rs tl ks os xs ys fr cu vl tk) ∧ (¬ k = 3 → (k < 8 → wY_node_37 post k p x y M L T 0 rc nc bg nn ou q0 q1 cy sz rs tl ks os xs ys fr cu vl tk) ∧ (¬ k < 8 → wY_node_32 post k p x y M L T rc nc bg nn ou q0 q1 cy sz rs tl ks os xs ys fr cu vl tk)) := by
  unfold sq_nO at hp
  refine br_c (fun a => ?_) (fun a => br_c (fun b => yw_37n ?_) (fun b => ?_))
  · rw [if_pos a] at hp
    exact yw_37n hp
  · rw [if_neg a, if_pos b] at hp
    exact hp
  · rw [if_neg a, if_neg b] at hp
    exact yw_37n hp
end
end
section
/-! node: the tree grows by a node -/
theorem sq_step {ks xs ys lv rt sc pL pO pS pL' pO' pS' : Nat → Int32} {N m o y : Nat} {k xv yv : Int32} (T : sq_T ks xs ys N) (hN16 : N ≤ 16) (ho : o < 3) (XA : sq_XA ks ys lv rt sc o N) (XP : sq_XP ks ys pL pO pS o N) (hm : sq_h ks N = m + 1)
    (hk0 : ¬ k < 0) (hx : sq_OpOK xv (sq_Lv ks N)) (hy3 : k = 3 → sq_OpOK yv (sq_Lv ks N)) (hy5 : ¬ k < 5 → sq_Lv ks N ≤ 1 ∧ y ≤ 5 ∧ yv = nI y)
    (PN : sq_PN pL pO pS (sq_u3 sc pS N m) pL' pO' pS' k (nI (y / 2)) N m (sq_Lv ks N)) :
    sq_T (upd ks N k) (upd xs N xv) (upd ys N yv) (N + 1) ∧ sq_h (upd ks N k) (N + 1) = m + sq_ch k ∧
    sq_XA (upd ks N k) (upd ys N yv) (upd lv N (pL m)) (sq_own' (pO m) rt N) (sq_u3 sc pS N m) o (N + 1) ∧ sq_XP (upd ks N k) (upd ys N yv) pL' pO' pS' o (N + 1) := by
  have cK : ∀ j, j < N → upd ks N k j = ks j := fun j hj => pk_un (by omega)
  have cY : ∀ j, j < N → upd ys N yv j = ys j := fun j hj => pk_un (by omega)
  have hh : ∀ e, e ≤ N → sq_h (upd ks N k) e = sq_h ks e := fun e he => sq_h_c e (fun j hj => cK j (by omega))
  have hL : ∀ e, e ≤ N → ∀ p, sq_L (upd ks N k) e p = sq_L ks e p := fun e he => sq_L_c e (fun j hj => cK j (by omega))
  have hLv : ∀ e, e ≤ N → sq_Lv (upd ks N k) e = sq_Lv ks e := fun e he => sq_Lv_c e (fun j hj => cK j (by omega))
  have hS : ∀ e, e ≤ N → ∀ p q, sq_S (upd ks N k) (upd ys N yv) o e p q = sq_S ks ys o e p q := fun e he => sq_S_c e (fun j hj => cK j (by omega)) (fun j hj => cY j (by omega))
  have hSc : ∀ e, e ≤ N → ∀ q, sq_Sc (upd ks N k) (upd ys N yv) o e q = sq_Sc ks ys o e q := fun e he => sq_Sc_c e (fun j hj => cK j (by omega)) (fun j hj => cY j (by omega))
  have hO : ∀ e, e ≤ N → ∀ p, sq_O (upd ks N k) e p = sq_O ks e p := fun e he => sq_O_c e (fun j hj => cK j (by omega))
  have kN : upd ks N k N = k := pk_us
  have yN : upd ys N yv N = yv := pk_us
  have xN : upd xs N xv N = xv := pk_us
  have hNN := hh N (Nat.le_refl N)
  have hS1 := sq_hS (upd ks N k) N
  rw [hNN, hm, kN] at hS1
  have top := XP m (by omega)
  have mm : m + 1 - 1 = m := by omega
  have eLv : sq_L ks N m = sq_Lv ks N := by unfold sq_Lv; rw [hm]; rfl
  have eSc : ∀ q, sq_S ks ys o N m q = sq_Sc ks ys o N q := by intro q; unfold sq_Sc; rw [hm]; rfl
  refine ⟨⟨fun e he => ?_, fun j hj => ?_⟩, by omega, ⟨fun j hj => ?_, fun j q hj hq => ?_, fun j r hr k12 R => ?_⟩, fun p hp => ?_⟩
  · rw [hh e (by omega)]
    by_cases z : e = N
    · rw [z]
      omega
    · exact T.1 e (by omega)
  · unfold sq_Nd
    rw [hLv j (by omega)]
    by_cases z : j = N
    · rw [z, kN, yN, xN]
      refine ⟨hk0, hx, hy3, fun g5 => ?_⟩
      obtain ⟨a, b, c⟩ := hy5 g5
      exact ⟨a, y, b, c⟩
    · rw [cK j (by omega), cY j (by omega), pk_un z]
      exact T.2 j (by omega)
  · rw [hLv j (by omega)]
    by_cases z : j = N
    · rw [z, pk_us, top.1, eLv]
    · rw [pk_un z]
      exact XA.1 j (by omega)
  · rw [hSc j (by omega)]
    by_cases z : j = N
    · rw [z, sq_u3_i hq, top.2.2 q hq, eSc]
    · rw [sq_u3_o (by omega)]
      exact XA.2.1 j q (by omega) hq
  · obtain ⟨r1, r2, r3⟩ := R
    have R' : sq_Rt ks j r := by
      refine ⟨r1, ?_, fun m m1 m2 => ?_⟩
      · rw [← hh r (by omega), ← hh j (by omega)]
        exact r2
      · rw [← hh m (by omega), ← hh j (by omega)]
        exact r3 m m1 m2
    rw [cK j (by omega)] at k12
    have hw := sq_own T.1 N (Nat.le_refl N) m (by omega)
    rw [← top.2.1] at hw
    by_cases z : r = N
    · rw [z] at R' ⊢
      have h3 := (sq_rtL (T.1 j (by omega)) k12 R').2.2
      rw [hm, mm, ← top.2.1] at h3
      unfold sq_own'
      rw [h3, if_neg (nI_pos (by omega)), nI_clamp (by omega), pk_us]
    · have old := XA.2.2 j r (by omega) k12 R'
      unfold sq_own'
      rcases hw with w | ⟨i, i1, i2, i3, i4, i5⟩
      · rw [w, if_pos (by decide)]
        exact old
      · rw [i3, if_neg (nI_pos (by omega)), nI_clamp (by omega)]
        by_cases ij : j = i
        · have := i5 r (by omega) (by omega)
          have := R'.2.1
          rw [ij] at this
          omega
        · rw [pk_un ij]
          exact old
  · rw [hS1, mm] at hp
    simp only [sq_L, sq_O, sq_S]
    rw [hNN, hm, kN, yN, mm, hO N (Nat.le_refl N), hL N (Nat.le_refl N), hL N (Nat.le_refl N), eLv]
    by_cases z : p < m
    · obtain ⟨a, b, c⟩ := PN.1 p z
      obtain ⟨a', b', c'⟩ := XP p (by omega)
      rw [if_pos (by omega), if_pos (by omega), a, b]
      refine ⟨a', b', fun q hq => ?_⟩
      rw [if_pos (by omega), hS N (Nat.le_refl N), c q hq]
      exact c' q hq
    · obtain ⟨a, b, c⟩ := PN.2 p (by omega) hp
      have np : ¬ p + 1 < m + 1 := by omega
      rw [if_neg np, if_neg np, a, b]
      refine ⟨rfl, ?_, fun q hq => ?_⟩
      · by_cases w : (k = 1 ∨ k = 2) ∧ p = m
        · rw [if_pos w, if_pos ⟨w.1, by omega⟩]
        · rw [if_neg w, if_neg (fun hh => w ⟨hh.1, by omega⟩)]
      · rw [if_neg np, c q hq]
        by_cases w : ¬ k < 5 ∧ q = sq_Lv ks N + 1
        · obtain ⟨_, y5, ey⟩ := hy5 w.1
          rw [if_pos w, if_pos w, ey, nI_clamp (by omega)]
        · rw [if_neg w, if_neg w, sq_u3_i hq, top.2.2 q hq, hS N (Nat.le_refl N)]
theorem i_vc_node {k : Nat} {u : SX} {v : SY} (I : i_Rel k u v) (hk : k + 5 ≤ 2562) (v1 : Int32) (v2 : Int32) (v3 : Int32) (v4 : Int32) : wpX_node (fun r u' => wpY_node (fun r' v' => r' = r ∧ i_Rel (k + 5) u' v') v v1 v2 v3 v4) u v1 v2 v3 v4 := by
  refine sq_el (P := fun u v => wpX_node (fun r u' => wpY_node (fun r' v' => r' = r ∧ i_Rel (k + 5) u' v') v v1 v2 v3 v4) u v1 v2 v3 v4) I ?_
  intro R NC N o t bg q0 q1 op cx cy sz rs tl ks os xs ys lv rt sc pL pO pS tr fr cu vl tk D Q
  have I' : ∀ fr, i_Rel (k + 5) (nI R, nI NC, bg, nI o, q0, q1, nI N, op, cx, sz, rs, tl, ks, os, xs, ys, lv, rt, sc, pL, pO, pS, tr) (nI R, nI NC, bg, nI N, nI o, q0, q1, cy, sz, rs, tl, ks, os, xs, ys, fr, cu, vl, tk) := fun fr => sq_in D Q
  have N16 := sq_N16 D Q
  rcases Q with ⟨rfl, rfl, hN⟩ | ⟨rfl, B⟩
  · refine br_t rfl ?_
    unfold wpY_node
    dsimp only
    refine br_t rfl ?_
    unfold wpY_level
    dsimp only
    exact br_t rfl (br_t rfl (nm_e (yw_hd (br_t rfl ⟨rfl, I' fr⟩))))
  · obtain ⟨rfl, h1, T, hq0, hq1, XA, XP⟩ := B
    obtain ⟨R1, R8, M1, M2, o3, et, tR, SZ, CE⟩ := D
    have hb := sq_h_le ks N
    by_cases z : sq_h ks N = 0
    · have z0 : nI (sq_h ks N) = 0 := by rw [z]; rfl
      refine br_t z0 ?_
      unfold wpY_node
      dsimp only
      refine yw_places T.1 N16 ?_
      unfold wpY_level
      dsimp only
      exact yw_places T.1 N16 (br_t z0 (nm_e (yw_hd (br_t z0 ⟨rfl, I' fr⟩))))
    · obtain ⟨m, hm⟩ : ∃ m, sq_h ks N = m + 1 := ⟨sq_h ks N - 1, by omega⟩
      rw [hm] at h1 I' ⊢
      have nz : ¬ nI (m + 1) = 0 := nI_ne0 (by omega) (by omega)
      have hl := sq_Lv_le T (Nat.le_refl N)
      have e7 : 101 + 2 * nI (sq_Lv ks N) = nI (101 + 2 * sq_Lv ks N) := by
        rw [zz_lit2, pk_mul]
        exact nI_add 101 (2 * sq_Lv ks N)
      have Y : ∀ post : Int32 → SY → Prop, (∀ fr', wY_node_60 post v1 v2 v3 v4 (nI (m + 1)) (nI (sq_Lv ks N)) (nI (101 + 2 * sq_Lv ks N)) (sq_nO v1) (sq_nX v1) (nI R) (nI NC) 1 (nI N) (nI o) q0 q1 cy sz rs tl ks os xs ys fr' cu vl tk) → wpY_node post (nI R, nI NC, 1, nI N, nI o, q0, q1, cy, sz, rs, tl, ks, os, xs, ys, fr, cu, vl, tk) v1 v2 v3 v4 := by
        intro post H
        unfold wpY_node
        dsimp only
        refine yw_places T.1 N16 ?_
        rw [hm]
        unfold wpY_level
        dsimp only
        refine yw_places T.1 N16 ?_
        rw [hm]
        exact br_f nz (yw_levelAt (o := o) T N16 (Nat.le_refl N) (by omega) (fun fr' _ => nm_r e7 (yw_hd (H fr'))))
      have top := XP m (by omega)
      have eLv : sq_L ks N m = sq_Lv ks N := by unfold sq_Lv; rw [hm]; rfl
      refine br_f nz (br_c (fun a => Y _ (fun fr' => br_f nz (br_t a ⟨rfl, I' fr'⟩))) (fun a => br_c (fun b => ?_) (fun b => Y _ (fun fr' => br_f nz (br_f a (br_f b ⟨rfl, I' fr'⟩))))))
      rw [nI_pred, nI_clamp (by omega), top.1, eLv]
      have hch := sq_ch_le v1
      refine ⟨vp_in_nI (by omega) (by omega), xw_f1 (br_c (fun f0 => xw_childCount (nm_r (nI_add m (sq_ch v1)) ?_)) (fun fn => Y _ (fun fr' => yw_60n hl nz a b ⟨fun h => absurd h fn, fun _ => ⟨rfl, I' fr'⟩⟩)))⟩
      have e2 : nI N + 1 + nI (m + sq_ch v1) = nI (N + 1 + (m + sq_ch v1)) := by rw [nI_1, nI_add]
      rw [e2]
      refine br_c (fun c => ?_) (fun c => Y _ (fun fr' => yw_60n hl nz a b ⟨fun _ => yw_173 (by omega) (by omega) M2 (fun h => absurd (nI_le h (by omega)) c) (fun _ => ⟨rfl, I' fr'⟩), fun h => absurd f0 h⟩))
      have hNC : N + 1 + (m + sq_ch v1) ≤ NC := (nI_leI (by omega) (by omega)).mp c
      obtain ⟨g1, g2, g3⟩ := sq_f0 f0
      have hw : pO m < 0 ∨ vp_in (pO m) 16 := by
        rw [top.2.1]
        rcases sq_own T.1 N (Nat.le_refl N) m (by omega) with w | ⟨i, i1, _, i3, _, _⟩
        · rw [w]
          exact Or.inl (by decide)
        · rw [i3]
          exact Or.inr (vp_in_nI (by omega) (by omega))
      have hy5 : ∃ y, ¬ v1 < 5 → sq_Lv ks N ≤ 1 ∧ y ≤ 5 ∧ v4 = nI y := by
        by_cases h5 : v1 < 5
        · exact ⟨0, fun h => absurd h5 h⟩
        · obtain ⟨b1, b2, b3⟩ := g3 h5
          obtain ⟨y, hy, rfl⟩ := nI_of b1
          have l2 : sq_Lv ks N < 2 := (nI_ltI (b := 2) (by omega) (by omega)).mp b3
          exact ⟨y, fun _ => ⟨by omega, (nI_leI (b := 5) hy (by omega)).mp b2, rfl⟩⟩
      obtain ⟨y, hy⟩ := hy5
      have hin : vp_in (nI N) 16 := vp_in_nI (by omega) (by omega)
      have hNc : (nI N).toNatClampNeg = N := nI_clamp (by omega)
      have hwy : ¬ v1 < 5 → sq_wy v1 v4 = v4 := by
        intro h5
        unfold sq_wy
        rw [if_neg h5]
        by_cases k3 : v1 = 3
        · rw [if_pos k3]
        · rw [if_neg k3]
      have hwx : sq_OpOK (sq_wx v1 v3) (sq_Lv ks N) := by
        unfold sq_wx
        by_cases h : sq_nX v1 = 0
        · rw [if_pos h]
          exact sq_OpOK_0
        · rw [if_neg h]
          exact sq_OpOK_of hl (g1 h)
      have hw3 : v1 = 3 → sq_OpOK (sq_wy v1 v4) (sq_Lv ks N) := by
        intro k3
        unfold sq_wy
        rw [if_pos k3]
        exact sq_OpOK_of hl (g2 k3)
      refine xw_take (by omega) (by omega) hw ⟨hin, nm_e ?_⟩
      rw [hNc, top.1, eLv]
      have X : ∀ w, w = sq_wo v1 v2 → wX_node_119 (fun r u' => wpY_node (fun r' v' => r' = r ∧ i_Rel (k + 5) u' v') (nI R, nI NC, 1, nI N, nI o, q0, q1, cy, sz, rs, tl, ks, os, xs, ys, fr, cu, vl, tk) v1 v2 v3 v4) v1 v3 v4 (nI N) w (nI N) (nI R) (nI NC) 1 (nI o) q0 q1 (nI (N + 1)) (nI m) cx sz rs tl (upd ks N v1) os xs ys (upd lv N (nI (sq_Lv ks N))) (sq_own' (pO m) rt N) (sq_u3 sc pS N m) pL pO pS tr := by
        intro w ew
        refine xw_119 (l := sq_Lv ks N) (y := y) (by omega) (by omega) a pk_us pk_us hy (fun pL' pO' pS' PN => Y _ (fun fr' => yw_60n hl nz a b ⟨fun _ => yw_173 (by omega) (by omega) M2 (fun _ => ⟨rfl, ?_⟩) (fun h => absurd hNC h), fun h => absurd f0 h⟩))
        obtain ⟨T', h', XA', XP'⟩ := sq_step T N16 o3 XA XP hm a hwx hw3 (fun h5 => ⟨(hy h5).1, (hy h5).2.1, (hwy h5).trans (hy h5).2.2⟩) PN
        rw [top.1, eLv] at XA'
        rw [ew]
        exact sq_in (t := t) ⟨R1, R8, M1, M2, o3, et, tR, SZ, CE⟩ (Or.inr ⟨rfl, by rw [h'], by rw [h']; exact hNC, T', hq0, hq1, XA', XP'⟩)
      refine xw_needsOp (br_c (fun n0 => X 0 ?_) (fun n0 => X v2 ?_))
      · unfold sq_wo
        rw [if_pos n0]
      · unfold sq_wo
        rw [if_neg n0]
end
