section
theorem pk_us {f : Nat → Int32} {k : Nat} {x : Int32} : upd f k x k = x := if_pos rfl
theorem pk_un {f : Nat → Int32} {k j : Nat} {x : Int32} (h : j ≠ k) : upd f k x j = f j := if_neg h
theorem pk_sub {a b : Nat} (h : b ≤ a) : nI a - nI b = nI (a - b) := by
  obtain ⟨c, rfl⟩ : ∃ c, a = c + b := ⟨a - b, by omega⟩
  rw [← nI_add, Int32.add_sub_cancel, Nat.add_sub_cancel]
theorem pk_mul (a b : Nat) : nI a * nI b = nI (a * b) := (Int32.ofNat_mul a b).symm
theorem pk_div {a d : Nat} (ha : a < 2 ^ 31) (h0 : 0 < d) (hd : d < 2 ^ 31) : nI a / nI d = nI (a / d) := by
  apply Int32.toInt_inj.mp
  rw [lg_idiv_nonneg (by rw [nI_toInt ha]; omega) (by rw [nI_toInt hd]; omega), nI_toInt ha, nI_toInt hd, nI_toInt (Nat.lt_of_le_of_lt (Nat.div_le_self a d) ha)]
  first | rfl | exact (Int.natCast_ediv _ _).symm
theorem pk_rem {a d : Nat} (ha : a < 2 ^ 31) (h0 : 0 < d) (hd : d < 2 ^ 31) : nI a - nI a / nI d * nI d = nI (a % d) := by
  rw [pk_div ha h0 hd, pk_mul, pk_sub (Nat.div_mul_le_self a d)]
  exact congrArg nI (by have := Nat.div_add_mod' a d; omega)
theorem pk_le {x y : Int32} {A B : Prop} (a b : Nat) (f : a ≤ b → A) (g : b < a → B) (hx : x = nI a := by rfl) (hy : y = nI b := by rfl) (ha : a < 2 ^ 31 := by omega) (hb : b < 2 ^ 31 := by omega) : (x ≤ y → A) ∧ (¬ x ≤ y → B) := by
  subst hx hy
  rw [nI_leI ha hb]
  exact ⟨f, fun z => g (by omega)⟩
theorem pk_lt {x y : Int32} {A B : Prop} (a b : Nat) (f : a < b → A) (g : b ≤ a → B) (hx : x = nI a := by rfl) (hy : y = nI b := by rfl) (ha : a < 2 ^ 31 := by omega) (hb : b < 2 ^ 31 := by omega) : (x < y → A) ∧ (¬ x < y → B) := by
  subst hx hy
  rw [nI_ltI ha hb]
  exact ⟨f, fun z => g (by omega)⟩
theorem pk_eq {x y : Int32} {A B : Prop} (a b : Nat) (f : a = b → A) (g : a ≠ b → B) (hx : x = nI a := by rfl) (hy : y = nI b := by rfl) (ha : a < 2 ^ 31 := by omega) (hb : b < 2 ^ 31 := by omega) : (x = y → A) ∧ (¬ x = y → B) := by
  subst hx hy
  rw [nI_eq ha hb]
  exact ⟨f, g⟩
theorem pk_in {x : Int32} (n N : Nat) (h : n < N) (hx : x = nI n := by rfl) (hN : N < 2 ^ 31 := by omega) : vp_in x N := by
  subst hx
  exact vp_in_nI h hN
theorem pk_cl {x : Int32} (n : Nat) (hx : x = nI n := by rfl) (h : n < 2 ^ 31 := by omega) : x.toNatClampNeg = n := by
  subst hx
  exact nI_clamp h
theorem pk_tn {n : Nat} (h : n < 2 ^ 32) : (nI n).toBitVec.toNat = n := Nat.mod_eq_of_lt h
theorem pk_and (x : Int32) {m : Int32} (k : Nat) (hm : m.toBitVec.toNat = 2 ^ k - 1) : x &&& m = nI (x.toBitVec.toNat % 2 ^ k) := by
  apply Int32.toBitVec_inj.mp
  apply BitVec.eq_of_toNat_eq
  rw [Int32.toBitVec_and, BitVec.toNat_and, hm, Nat.and_two_pow_sub_one_eq_mod]
  show _ = (BitVec.ofNat 32 _).toNat
  rw [BitVec.toNat_ofNat]
  exact (Nat.mod_eq_of_lt (Nat.lt_of_le_of_lt (Nat.mod_le _ _) x.toBitVec.isLt)).symm
theorem pk_andN {n : Nat} (h : n < 2 ^ 32) {m : Int32} (k : Nat) (hm : m.toBitVec.toNat = 2 ^ k - 1) : nI n &&& m = nI (n % 2 ^ k) := by
  rw [pk_and _ k hm, pk_tn h]
theorem pk_shr (a s : Int32) (k : Nat) (hs : (s.toBitVec.smod 32).toNat = k) : (a >>> s).toInt = a.toInt >>> k := by
  show (a.toBitVec.sshiftRight (s.toBitVec.smod 32).toNat).toInt = _
  rw [hs, BitVec.toInt_sshiftRight]
  rfl
theorem pk_shrN {n : Nat} (h : n < 2 ^ 31) (s : Int32) (k : Nat) (hs : (s.toBitVec.smod 32).toNat = k) : nI n >>> s = nI (n / 2 ^ k) := by
  apply Int32.toInt_inj.mp
  have h2 : n / 2 ^ k ≤ n := Nat.div_le_self _ _
  rw [pk_shr _ _ k hs, nI_toInt h, nI_toInt (by omega), Int.shiftRight_eq_div_pow]
  rfl
/-! signed numbers: zi_I z is the int z -/
def zi_I (z : Int) : Int32 := Int32.ofInt z
theorem zi_n (n : Nat) : zi_I (n : Int) = nI n := Int32.ofInt_eq_ofNat
theorem zi_add (a b : Int) : zi_I a + zi_I b = zi_I (a + b) := (Int32.ofInt_add a b).symm
theorem zi_sub (a b : Int) : zi_I a - zi_I b = zi_I (a - b) := (Int32.ofInt_sub a b).symm
theorem zi_neg (a : Int) : - zi_I a = zi_I (-a) := (Int32.ofInt_neg a).symm
theorem zi_t {z : Int} (h : -1000 ≤ z ∧ z ≤ 1000) : (zi_I z).toInt = z :=
  Int32.toInt_ofInt_of_le (by omega) (by omega)
theorem zi_le {a b : Int} (ha : -1000 ≤ a ∧ a ≤ 1000) (hb : -1000 ≤ b ∧ b ≤ 1000) : zi_I a ≤ zi_I b ↔ a ≤ b := by
  rw [Int32.le_iff_toInt_le, zi_t ha, zi_t hb]
theorem zi_lt {a b : Int} (ha : -1000 ≤ a ∧ a ≤ 1000) (hb : -1000 ≤ b ∧ b ≤ 1000) : zi_I a < zi_I b ↔ a < b := by
  rw [Int32.lt_iff_toInt_lt, zi_t ha, zi_t hb]
theorem zi_ble {x y : Int32} {A B : Prop} (a b : Int) (hx : x = zi_I a) (hy : y = zi_I b) (ha : -1000 ≤ a ∧ a ≤ 1000) (hb : -1000 ≤ b ∧ b ≤ 1000) (f : a ≤ b → A) (g : b < a → B) : (x ≤ y → A) ∧ (¬ x ≤ y → B) := by
  subst hx hy
  rw [zi_le ha hb]
  exact ⟨f, fun z => g (by omega)⟩
theorem zi_blt {x y : Int32} {A B : Prop} (a b : Int) (hx : x = zi_I a) (hy : y = zi_I b) (ha : -1000 ≤ a ∧ a ≤ 1000) (hb : -1000 ≤ b ∧ b ≤ 1000) (f : a < b → A) (g : b ≤ a → B) : (x < y → A) ∧ (¬ x < y → B) := by
  subst hx hy
  rw [zi_lt ha hb]
  exact ⟨f, fun z => g (by omega)⟩
theorem zi_us {f : Nat → Int32} {k : Nat} {x : Int32} (h : f k = x) : upd f k x = f := by
  funext j
  by_cases e : j = k
  · subst e; rw [pk_us, h]
  · rw [pk_un e]
theorem zi_ix (b k i : Nat) (c : Int32) (hc : c = nI k) : nI b * c + nI i = nI (b * k + i) := by
  rw [hc, pk_mul, nI_add]
theorem zi_s1 {a : Nat} (h : 1 ≤ a) : nI a - 1 = nI (a - 1) := by
  rw [show (1 : Int32) = nI 1 from rfl, pk_sub h]
end
section
/-! mathematics: the LCS table, the edit table, the strands -/
def mt_row (p : Nat → Nat) (q : Nat → Bool) : Nat → Nat
  | 0 => 0
  | y + 1 => if q y = true then p y + 1 else max (p (y + 1)) (mt_row p q y)
def mt_lc (e : Nat → Nat → Bool) : Nat → Nat → Nat
  | 0 => fun _ => 0
  | x + 1 => mt_row (mt_lc e x) (e x)
theorem mt_lc0 (e : Nat → Nat → Bool) (y : Nat) : mt_lc e 0 y = 0 := rfl
theorem mt_lcz (e : Nat → Nat → Bool) (x : Nat) : mt_lc e x 0 = 0 := by cases x <;> rfl
theorem mt_lcs (e : Nat → Nat → Bool) (x y : Nat) : mt_lc e (x + 1) (y + 1) = if e x y = true then mt_lc e x y + 1 else max (mt_lc e x (y + 1)) (mt_lc e (x + 1) y) := rfl
theorem mt_lcc {e g : Nat → Nat → Bool} : ∀ x y : Nat, (∀ i j, i < x → j < y → e i j = g i j) → mt_lc e x y = mt_lc g x y := by
  intro x
  induction x with
  | zero => intro y _; rfl
  | succ x ihx =>
    intro y
    induction y with
    | zero => intro _; rfl
    | succ y ihy =>
      intro h
      rw [mt_lcs, mt_lcs, h x y (by omega) (by omega), ihx y (fun i j hi hj => h i j (by omega) (by omega)), ihx (y + 1) (fun i j hi hj => h i j (by omega) hj), ihy (fun i j hi hj => h i j hi (by omega))]
def mt_erow (x : Nat) (p : Nat → Nat) (q : Nat → Bool) : Nat → Nat
  | 0 => x + 1
  | y + 1 => min (p y + if q y = true then 0 else 1) (min (p (y + 1)) (mt_erow x p q y) + 1)
def mt_ed (e : Nat → Nat → Bool) : Nat → Nat → Nat
  | 0 => fun y => y
  | x + 1 => mt_erow x (mt_ed e x) (e x)
theorem mt_ed0 (e : Nat → Nat → Bool) (y : Nat) : mt_ed e 0 y = y := rfl
theorem mt_edz (e : Nat → Nat → Bool) (x : Nat) : mt_ed e x 0 = x := by cases x <;> rfl
theorem mt_eds (e : Nat → Nat → Bool) (x y : Nat) : mt_ed e (x + 1) (y + 1) = min (mt_ed e x y + if e x y = true then 0 else 1) (min (mt_ed e x (y + 1)) (mt_ed e (x + 1) y) + 1) := rfl
def mt_dn (q : Nat → Bool) (R : Nat → Int) (d0 : Int) : Nat → Int
  | 0 => d0
  | i + 1 => if q i = true ∨ mt_dn q R d0 i < R i then R i else mt_dn q R d0 i
def mt_R (e : Nat → Nat → Bool) : Nat → Nat → Int
  | 0 => fun i => -1 - (i : Int)
  | j + 1 => fun i => if e i j = true ∨ mt_dn (fun k => e k j) (mt_R e j) (j : Int) i < mt_R e j i then mt_dn (fun k => e k j) (mt_R e j) (j : Int) i else mt_R e j i
def mt_D (e : Nat → Nat → Bool) (i j : Nat) : Int := mt_dn (fun k => e k j) (mt_R e j) (j : Int) i
theorem mt_R0 (e : Nat → Nat → Bool) (i : Nat) : mt_R e 0 i = -1 - (i : Int) := rfl
theorem mt_D0 (e : Nat → Nat → Bool) (j : Nat) : mt_D e 0 j = (j : Int) := rfl
theorem mt_Rs (e : Nat → Nat → Bool) (j i : Nat) : mt_R e (j + 1) i = if e i j = true ∨ mt_D e i j < mt_R e j i then mt_D e i j else mt_R e j i := rfl
theorem mt_Ds (e : Nat → Nat → Bool) (i j : Nat) : mt_D e (i + 1) j = if e i j = true ∨ mt_D e i j < mt_R e j i then mt_R e j i else mt_D e i j := rfl
theorem mt_bdD (e : Nat → Nat → Bool) (j : Nat) (h : ∀ i : Nat, -1 - (i : Int) ≤ mt_R e j i ∧ mt_R e j i < (j : Int)) : ∀ i : Nat, -(i : Int) ≤ mt_D e i j ∧ mt_D e i j ≤ (j : Int) := by
  intro i
  induction i with
  | zero => rw [mt_D0]; omega
  | succ i ih =>
    have h1 := h i
    rw [mt_Ds]
    split <;> omega
theorem mt_bdR (e : Nat → Nat → Bool) : ∀ j i : Nat, -1 - (i : Int) ≤ mt_R e j i ∧ mt_R e j i < (j : Int) := by
  intro j
  induction j with
  | zero => intro i; rw [mt_R0]; omega
  | succ j ih =>
    intro i
    have h1 := ih i
    have h2 := mt_bdD e j ih i
    rw [mt_Rs]
    split <;> omega
theorem mt_bdD' (e : Nat → Nat → Bool) (i j : Nat) : -(i : Int) ≤ mt_D e i j ∧ mt_D e i j ≤ (j : Int) := mt_bdD e j (mt_bdR e j) i
theorem mt_cgD {e g : Nat → Nat → Bool} {M j : Nat} (h : ∀ i, i < M → e i j = g i j) (hR : ∀ i, i < M → mt_R e j i = mt_R g j i) : ∀ i, i ≤ M → mt_D e i j = mt_D g i j := by
  intro i
  induction i with
  | zero => intro _; rfl
  | succ i ih =>
    intro hi
    rw [mt_Ds, mt_Ds, ih (by omega), h i (by omega), hR i (by omega)]
theorem mt_cgR {e g : Nat → Nat → Bool} {M : Nat} : ∀ j : Nat, (∀ i k, i < M → k < j → e i k = g i k) → ∀ i, i < M → mt_R e j i = mt_R g j i := by
  intro j
  induction j with
  | zero => intro _ i _; rfl
  | succ j ih =>
    intro h i hi
    have hR := ih (fun i k hi hk => h i k hi (by omega))
    rw [mt_Rs, mt_Rs, mt_cgD (fun i hi => h i j hi (by omega)) hR i (by omega), h i j hi (by omega), hR i hi]
theorem mt_cgD' {e g : Nat → Nat → Bool} {M N : Nat} (h : ∀ i k, i < M → k < N → e i k = g i k) : ∀ j, j < N → mt_D e M j = mt_D g M j := by
  intro j hj
  exact mt_cgD (fun i hi => h i j hi hj) (mt_cgR j (fun i k hi hk => h i k hi (by omega))) M (Nat.le_refl M)
theorem mt_cell (f r d T0 T1 T2 T3 : Int) (E : Bool) (h1 : T1 = T0 + (if f ≤ r then 1 else 0)) (h2 : T2 = T0 + (if f ≤ d then 0 else 1)) (h3 : T3 = if E = true then T0 + 1 else max T2 T1) :
    T3 = T2 + (if f ≤ (if E = true ∨ d < r then d else r) then 1 else 0) ∧ T3 = T1 + (if f ≤ (if E = true ∨ d < r then r else d) then 0 else 1) := by
  by_cases hE : E = true
  · rw [if_pos hE] at h3
    rw [if_pos (Or.inl hE), if_pos (Or.inl hE)]
    by_cases hr : f ≤ r <;> by_cases hd : f ≤ d <;> simp only [hr, hd, if_true, if_false] at h1 h2 ⊢ <;> omega
  · rw [if_neg hE] at h3
    by_cases hx : d < r
    · rw [if_pos (Or.inr hx), if_pos (Or.inr hx)]
      by_cases hr : f ≤ r <;> by_cases hd : f ≤ d <;> simp only [hr, hd, if_true, if_false] at h1 h2 ⊢ <;> omega
    · have hn : ¬ (E = true ∨ d < r) := fun z => z.elim hE hx
      rw [if_neg hn, if_neg hn]
      by_cases hr : f ≤ r <;> by_cases hd : f ≤ d <;> simp only [hr, hd, if_true, if_false] at h1 h2 ⊢ <;> omega
/-- for one threshold the bits of the strands are the differences of any table with these borders and the LCS rule -/
theorem mt_bits (e : Nat → Nat → Bool) (f : Int) (T : Nat → Nat → Int)
    (h0 : ∀ j : Nat, T 0 (j + 1) = T 0 j + (if f ≤ (j : Int) then 0 else 1))
    (hl : ∀ i : Nat, T (i + 1) 0 = T i 0 + (if f ≤ -1 - (i : Int) then 1 else 0))
    (hs : ∀ i j : Nat, T (i + 1) (j + 1) = if e i j = true then T i j + 1 else max (T i (j + 1)) (T (i + 1) j)) :
    ∀ j : Nat, (∀ i, T (i + 1) j = T i j + (if f ≤ mt_R e j i then 1 else 0)) ∧ (∀ i, T i (j + 1) = T i j + (if f ≤ mt_D e i j then 0 else 1)) := by
  have hB : ∀ j : Nat, (∀ i, T (i + 1) j = T i j + (if f ≤ mt_R e j i then 1 else 0)) → ∀ i, T i (j + 1) = T i j + (if f ≤ mt_D e i j then 0 else 1) := by
    intro j hA i
    induction i with
    | zero => rw [mt_D0]; exact h0 j
    | succ i ih =>
      rw [mt_Ds]
      exact (mt_cell f _ _ _ _ _ _ (e i j) (hA i) ih (hs i j)).2
  have hA : ∀ j i : Nat, T (i + 1) j = T i j + (if f ≤ mt_R e j i then 1 else 0) := by
    intro j
    induction j with
    | zero => intro i; rw [mt_R0]; exact hl i
    | succ j ih =>
      intro i
      rw [mt_Rs]
      exact (mt_cell f _ _ _ _ _ _ (e i j) (ih i) (hB j ih i) (hs i j)).1
  exact fun j => ⟨hA j, hB j (hA j)⟩
/-! counts -/
def mt_cn (p : Nat → Bool) : Nat → Nat
  | 0 => 0
  | n + 1 => mt_cn p n + (if p n = true then 1 else 0)
theorem mt_cns (p : Nat → Bool) (n : Nat) : mt_cn p (n + 1) = mt_cn p n + (if p n = true then 1 else 0) := rfl
theorem mt_cnle (p : Nat → Bool) (n : Nat) : mt_cn p n ≤ n := by
  induction n with
  | zero => exact Nat.le_refl 0
  | succ n ih => rw [mt_cns]; split <;> omega
def mt_pD (e : Nat → Nat → Bool) (M : Nat) (f t : Int) (j : Nat) : Bool := decide (f ≤ mt_D e M j ∧ (j : Int) < t)
def mt_pR (e : Nat → Nat → Bool) (M N : Nat) (f t : Int) (i : Nat) : Bool := decide (f ≤ mt_R e N i ∧ (N : Int) + M - 1 - i < t)
/-- what the component's count gives -/
def mt_val (e : Nat → Nat → Bool) (M N : Nat) (f t : Int) : Int := t - f - (mt_cn (mt_pD e M f t) N + mt_cn (mt_pR e M N f t) M : Nat)
section
variable {e : Nat → Nat → Bool} {f : Int} {T : Nat → Nat → Int}
theorem mt_cD (M t : Nat) (hB : ∀ j : Nat, T M (j + 1) = T M j + (if f ≤ mt_D e M j then 0 else 1)) : ∀ N : Nat, (mt_cn (mt_pD e M f (t : Int)) N : Int) = (min N t : Nat) - (T M (min N t) - T M 0) := by
  intro N
  induction N with
  | zero =>
    have : min 0 t = 0 := by omega
    rw [this]
    show ((0 : Nat) : Int) = _
    omega
  | succ N ih =>
    rw [mt_cns]
    by_cases h : N < t
    · have h1 : min (N + 1) t = N + 1 := by omega
      have h2 : min N t = N := by omega
      rw [h2] at ih
      rw [h1, hB N]
      by_cases hd : f ≤ mt_D e M N
      · have : mt_pD e M f (t : Int) N = true := decide_eq_true ⟨hd, by omega⟩
        rw [if_pos this, if_pos hd]
        omega
      · have : ¬ mt_pD e M f (t : Int) N = true := fun z => hd (of_decide_eq_true z).1
        rw [if_neg this, if_neg hd]
        omega
    · have h1 : min (N + 1) t = t := by omega
      have h2 : min N t = t := by omega
      rw [h2] at ih
      rw [h1]
      have : ¬ mt_pD e M f (t : Int) N = true := fun z => h (by have := (of_decide_eq_true z).2; omega)
      rw [if_neg this]
      omega
theorem mt_cR (M N b : Nat) (hb : b ≤ M) (hA : ∀ i : Nat, T (i + 1) N = T i N + (if f ≤ mt_R e N i then 1 else 0)) : ∀ k : Nat, (mt_cn (mt_pR e M N f ((N + b : Nat) : Int)) k : Int) = T (max k (M - b)) N - T (M - b) N := by
  intro k
  induction k with
  | zero =>
    have : max 0 (M - b) = M - b := by omega
    rw [this]
    show ((0 : Nat) : Int) = _
    omega
  | succ k ih =>
    rw [mt_cns]
    by_cases h : M - b ≤ k
    · have h1 : max (k + 1) (M - b) = k + 1 := by omega
      have h2 : max k (M - b) = k := by omega
      rw [h2] at ih
      rw [h1, hA k]
      by_cases hd : f ≤ mt_R e N k
      · have : mt_pR e M N f ((N + b : Nat) : Int) k = true := decide_eq_true ⟨hd, by omega⟩
        rw [if_pos this, if_pos hd]
        omega
      · have : ¬ mt_pR e M N f ((N + b : Nat) : Int) k = true := fun z => hd (of_decide_eq_true z).1
        rw [if_neg this, if_neg hd]
        omega
    · have h1 : max (k + 1) (M - b) = M - b := by omega
      have h2 : max k (M - b) = M - b := by omega
      rw [h2] at ih
      rw [h1]
      have : ¬ mt_pR e M N f ((N + b : Nat) : Int) k = true := fun z => h (by have := (of_decide_eq_true z).2; omega)
      rw [if_neg this]
      omega
theorem mt_cR0 (M N t : Nat) (ht : t ≤ N) : ∀ k : Nat, k ≤ M → mt_cn (mt_pR e M N f (t : Int)) k = 0 := by
  intro k
  induction k with
  | zero => intro _; rfl
  | succ k ih =>
    intro hk
    have : ¬ mt_pR e M N f (t : Int) k = true := fun z => by have := (of_decide_eq_true z).2; omega
    rw [mt_cns, if_neg this, ih (by omega)]
theorem mt_val1 (M N t : Nat) (ht : t ≤ N) (hB : ∀ j : Nat, T M (j + 1) = T M j + (if f ≤ mt_D e M j then 0 else 1)) : mt_val e M N f (t : Int) = T M t - T M 0 - f := by
  have h1 := mt_cD M t hB N
  have h2 : mt_cn (mt_pR e M N f (t : Int)) M = 0 := mt_cR0 M N t ht M (Nat.le_refl M)
  have h3 : min N t = t := by omega
  rw [h3] at h1
  unfold mt_val
  rw [h2]
  omega
theorem mt_val2 (M N b : Nat) (hb : b ≤ M) (hA : ∀ i : Nat, T (i + 1) N = T i N + (if f ≤ mt_R e N i then 1 else 0)) (hB : ∀ j : Nat, T M (j + 1) = T M j + (if f ≤ mt_D e M j then 0 else 1)) : mt_val e M N f ((N + b : Nat) : Int) = b + T (M - b) N - T M 0 - f := by
  have h1 := mt_cD M (N + b) hB N
  have h2 := mt_cR M N b hb hA M
  have h3 : min N (N + b) = N := by omega
  have h4 : max M (M - b) = M := by omega
  rw [h3] at h1
  rw [h4] at h2
  unfold mt_val
  omega
end
end
section
/-! the two tables, and the values of the component's count -/
def mt_T1 (e : Nat → Nat → Bool) (s : Nat) (i j : Nat) : Int := (mt_lc (fun x y => e x (s + y)) i (j - s) : Int) - ((s - j : Nat) : Int)
def mt_T2 (e : Nat → Nat → Bool) (p : Nat) (i j : Nat) : Int := ((min i p : Nat) : Int) + (mt_lc (fun x y => e (p + x) y) (i - p) j : Int)
theorem mt_T1b (e : Nat → Nat → Bool) (s : Nat) : ∀ j : Nat, (∀ i, mt_T1 e s (i + 1) j = mt_T1 e s i j + (if (s : Int) ≤ mt_R e j i then 1 else 0)) ∧ (∀ i, mt_T1 e s i (j + 1) = mt_T1 e s i j + (if (s : Int) ≤ mt_D e i j then 0 else 1)) := by
  apply mt_bits
  · intro j
    unfold mt_T1
    rw [mt_lc0, mt_lc0]
    split <;> omega
  · intro i
    unfold mt_T1
    rw [Nat.zero_sub, mt_lcz, mt_lcz, if_neg (by omega)]
    omega
  · intro i j
    unfold mt_T1
    by_cases h : j < s
    · have h1 : j + 1 - s = 0 := by omega
      have h2 : j - s = 0 := by omega
      rw [h1, h2, mt_lcz, mt_lcz]
      split <;> omega
    · obtain ⟨k, rfl⟩ : ∃ k, j = s + k := ⟨j - s, by omega⟩
      have h1 : s + k + 1 - s = k + 1 := by omega
      have h2 : s + k - s = k := by omega
      have h3 : s - (s + k + 1) = 0 := by omega
      have h4 : s - (s + k) = 0 := by omega
      have h5 := mt_lcs (fun x y => e x (s + y)) i k
      rw [h1, h2, h3, h4]
      by_cases hE : e i (s + k) = true
      · rw [if_pos hE] at h5 ⊢
        omega
      · rw [if_neg hE] at h5 ⊢
        omega
theorem mt_T2b (e : Nat → Nat → Bool) (p : Nat) : ∀ j : Nat, (∀ i, mt_T2 e p (i + 1) j = mt_T2 e p i j + (if (-(p : Int)) ≤ mt_R e j i then 1 else 0)) ∧ (∀ i, mt_T2 e p i (j + 1) = mt_T2 e p i j + (if (-(p : Int)) ≤ mt_D e i j then 0 else 1)) := by
  apply mt_bits
  · intro j
    unfold mt_T2
    rw [Nat.zero_sub, mt_lc0, mt_lc0, if_pos (by omega)]
    omega
  · intro i
    unfold mt_T2
    rw [mt_lcz, mt_lcz]
    split <;> omega
  · intro i j
    unfold mt_T2
    by_cases h : i < p
    · have h1 : i + 1 - p = 0 := by omega
      have h2 : i - p = 0 := by omega
      rw [h1, h2, mt_lc0, mt_lc0]
      split <;> omega
    · obtain ⟨k, rfl⟩ : ∃ k, i = p + k := ⟨i - p, by omega⟩
      have h1 : p + k + 1 - p = k + 1 := by omega
      have h2 : p + k - p = k := by omega
      have h3 : min (p + k + 1) p = p := by omega
      have h4 : min (p + k) p = p := by omega
      have h5 := mt_lcs (fun x y => e (p + x) y) k j
      rw [h1, h2, h3, h4]
      by_cases hE : e (p + k) j = true
      · rw [if_pos hE] at h5 ⊢
        omega
      · rw [if_neg hE] at h5 ⊢
        omega
theorem mt_T10 (e : Nat → Nat → Bool) (s i : Nat) : mt_T1 e s i 0 = -(s : Int) := by
  unfold mt_T1
  rw [Nat.zero_sub, mt_lcz]
  omega
theorem mt_T20 (e : Nat → Nat → Bool) (p i : Nat) (h : p ≤ i) : mt_T2 e p i 0 = (p : Int) := by
  unfold mt_T2
  rw [mt_lcz]
  omega
/-- a stretch of the columns -/
theorem mt_vB (e : Nat → Nat → Bool) (M N s t : Nat) (hs : s ≤ t) (ht : t ≤ N) : mt_val e M N (s : Int) (t : Int) = (mt_lc (fun x y => e x (s + y)) M (t - s) : Nat) := by
  rw [mt_val1 (T := mt_T1 e s) M N t ht (fun j => (mt_T1b e s j).2 M), mt_T10]
  unfold mt_T1
  omega
/-- a stretch of the rows, against all columns -/
theorem mt_vA (e : Nat → Nat → Bool) (M N p b : Nat) (h : p + b ≤ M) : mt_val e M N (-(p : Int)) ((N + b : Nat) : Int) = ((p + b + mt_lc (fun x y => e (p + x) y) (M - b - p) N : Nat) : Int) := by
  rw [mt_val2 (T := mt_T2 e p) M N b (by omega) (mt_T2b e p N).1 (fun j => (mt_T2b e p j).2 M), mt_T20 e p M (by omega)]
  unfold mt_T2
  omega
/-- the last rows against the first columns -/
theorem mt_vE (e : Nat → Nat → Bool) (M N p t : Nat) (h : p ≤ M) (ht : t ≤ N) : mt_val e M N (-(p : Int)) (t : Int) = ((p + mt_lc (fun x y => e (p + x) y) (M - p) t : Nat) : Int) := by
  rw [mt_val1 (T := mt_T2 e p) M N t ht (fun j => (mt_T2b e p j).2 M), mt_T20 e p M h]
  unfold mt_T2
  omega
/-- the first rows against the last columns -/
theorem mt_vG (e : Nat → Nat → Bool) (M N s b : Nat) (hs : s ≤ N) (hb : b ≤ M) : mt_val e M N (s : Int) ((N + b : Nat) : Int) = ((b + mt_lc (fun x y => e x (s + y)) (M - b) (N - s) : Nat) : Int) := by
  rw [mt_val2 (T := mt_T1 e s) M N b hb (mt_T1b e s N).1 (fun j => (mt_T1b e s j).2 M), mt_T10]
  unfold mt_T1
  omega
/-! steps of the LCS table -/
theorem mt_st (e : Nat → Nat → Bool) (x y : Nat) : (mt_lc e x y ≤ mt_lc e (x + 1) y ∧ mt_lc e (x + 1) y ≤ mt_lc e x y + 1) ∧ (mt_lc e x y ≤ mt_lc e x (y + 1) ∧ mt_lc e x (y + 1) ≤ mt_lc e x y + 1) := by
  have h := mt_T2b e 0 y
  have h1 := h.1 x
  have h2 := h.2 x
  have e1 : (fun x y => e (0 + x) y) = e := by funext i j; rw [Nat.zero_add]
  unfold mt_T2 at h1 h2
  rw [e1, Nat.sub_zero, Nat.sub_zero] at h1
  rw [e1, Nat.sub_zero] at h2
  constructor
  · split at h1 <;> omega
  · split at h2 <;> omega
theorem mt_sh (e : Nat → Nat → Bool) : ∀ x y : Nat, mt_lc (fun i j => e i (j + 1)) x y ≤ mt_lc e x (y + 1) := by
  intro x
  induction x with
  | zero => intro y; exact Nat.le_refl 0
  | succ x ihx =>
    intro y
    induction y with
    | zero => rw [mt_lcz]; exact Nat.zero_le _
    | succ y ihy =>
      have h1 := ihx y
      have h2 := ihx (y + 1)
      have h3 := mt_lcs (fun i j => e i (j + 1)) x y
      have h4 := mt_lcs e x (y + 1)
      by_cases hE : e x (y + 1) = true
      · rw [if_pos hE] at h3 h4
        omega
      · rw [if_neg hE] at h3 h4
        omega
/-! words with blanks -/
def mt_sp (g : Nat → Nat → Bool) (i j : Nat) : Bool := if i % 2 = 0 then decide (j % 2 = 0) else if j % 2 = 0 then false else g (i / 2) (j / 2)
theorem mt_spl (g : Nat → Nat → Bool) : ∀ x y : Nat, mt_lc (mt_sp g) (2 * x) (2 * y) + mt_ed g x y = x + y := by
  intro x
  induction x with
  | zero =>
    intro y
    rw [Nat.mul_zero, mt_lc0, mt_ed0]
  | succ x ihx =>
    intro y
    induction y with
    | zero =>
      rw [Nat.mul_zero, mt_lcz, mt_edz]
      omega
    | succ y ihy =>
      have i1 := ihx y
      have i2 := ihx (y + 1)
      have e1 : 2 * (x + 1) = 2 * x + 1 + 1 := by omega
      have e2 : 2 * (y + 1) = 2 * y + 1 + 1 := by omega
      rw [e1] at ihy
      rw [e2] at i2
      rw [e1, e2]
      have c1 : mt_sp g (2 * x + 1) (2 * y + 1) = g x y := by
        unfold mt_sp
        rw [if_neg (by omega), if_neg (by omega)]
        have a1 : (2 * x + 1) / 2 = x := by omega
        have a2 : (2 * y + 1) / 2 = y := by omega
        rw [a1, a2]
      have c2 : mt_sp g (2 * x) (2 * y) = true := by
        unfold mt_sp
        rw [if_pos (by omega)]
        exact decide_eq_true (by omega)
      have c3 : ¬ mt_sp g (2 * x) (2 * y + 1) = true := by
        unfold mt_sp
        rw [if_pos (by omega)]
        exact fun z => absurd (of_decide_eq_true z) (by omega)
      have c4 : ¬ mt_sp g (2 * x + 1) (2 * y) = true := by
        unfold mt_sp
        rw [if_neg (by omega), if_pos (by omega)]
        exact Bool.false_ne_true
      have l1 := mt_lcs (mt_sp g) (2 * x + 1) (2 * y + 1)
      have l2 := mt_lcs (mt_sp g) (2 * x) (2 * y)
      have l3 := mt_lcs (mt_sp g) (2 * x) (2 * y + 1)
      have l4 := mt_lcs (mt_sp g) (2 * x + 1) (2 * y)
      rw [c1] at l1
      rw [if_pos c2] at l2
      rw [if_neg c3] at l3
      rw [if_neg c4] at l4
      have d := mt_eds g x y
      have s1 := (mt_st (mt_sp g) (2 * x) (2 * y)).2.2
      have s2 := (mt_st (mt_sp g) (2 * x) (2 * y + 1)).2.2
      have s3 := (mt_st (mt_sp g) (2 * x) (2 * y)).1.2
      have s4 := (mt_st (mt_sp g) (2 * x + 1) (2 * y)).1.2
      have t1 := (mt_st (mt_sp g) (2 * x + 1) (2 * y)).1.1
      by_cases hE : g x y = true
      · rw [if_pos hE] at l1 d
        omega
      · rw [if_neg hE] at l1 d
        omega
end
section
/-! the component's combing -/
def xl_A (b : Nat) (a : Nat → Int32) (i : Nat) : Int32 := if b = 1 then (if i % 2 = 0 then 9 else a (i / 2)) else a i
def xl_B (b n : Nat) (s : Nat → Int32) (j : Nat) : Int32 := if b = 0 then s j else if b = 1 then (if j % 2 = 0 then 9 else s (j / 2)) else if n ≤ j then s (j - n) else s j
def xl_E (b n : Nat) (a s : Nat → Int32) (i j : Nat) : Bool := decide (xl_A b a i = xl_B b n s j)
theorem xl_and1 {i : Nat} (h : i < 100) : nI i &&& 1 = nI (i % 2) := pk_andN (by omega) 1 (by decide)
theorem xl_shr1 {i : Nat} (h : i < 100) : nI i >>> ((1 : Int32) &&& 31) = nI (i / 2) := pk_shrN (by omega) _ 1 (by decide)
section
variable {fm fn : Int32} {a s ro co ri dn : Nat → Int32}
theorem xl_wA {post : Int32 → Prop} {b i : Nat} (hb : b < 3) (hi : i < 20) (hi' : b ≠ 1 → i < 10) (K : post (xl_A b a i)) : wpX_letterA post (fm, fn, a, s, ro, co, ri, dn) (nI b) (nI i) := by
  unfold wpX_letterA
  dsimp only
  rw [xl_and1 (by omega), xl_shr1 (by omega)]
  unfold xl_A at K
  refine pk_eq b 1 (fun h1 => ?_) (fun h1 => ?_)
  · rw [if_pos h1] at K
    refine pk_eq (i % 2) 0 (fun h => ?_) (fun h => ?_)
    · rw [if_pos h] at K
      exact K
    · rw [if_neg h] at K
      refine ⟨vp_in_nI (by omega) (by omega), ?_⟩
      rw [nI_clamp (by omega)]
      exact K
  · rw [if_neg h1] at K
    have := hi' h1
    refine ⟨vp_in_nI (by omega) (by omega), ?_⟩
    rw [nI_clamp (by omega)]
    exact K
theorem xl_wB {post : Int32 → Prop} {b j n : Nat} (hb : b < 3) (hn : n ≤ 14) (hj : j < 28) (hj0 : b = 0 → j < 14) (hj2 : b = 2 → j < 2 * n) (K : post (xl_B b n s j)) : wpX_letterB post (fm, nI n, a, s, ro, co, ri, dn) (nI b) (nI j) := by
  unfold wpX_letterB
  dsimp only
  rw [xl_and1 (by omega), xl_shr1 (by omega)]
  unfold xl_B at K
  refine pk_eq b 0 (fun h0 => ?_) (fun h0 => ?_)
  · rw [if_pos h0] at K
    have := hj0 h0
    refine ⟨vp_in_nI (by omega) (by omega), ?_⟩
    rw [nI_clamp (by omega)]
    exact K
  · rw [if_neg h0] at K
    refine pk_eq b 1 (fun h1 => ?_) (fun h1 => ?_)
    · rw [if_pos h1] at K
      refine pk_eq (j % 2) 0 (fun h => ?_) (fun h => ?_)
      · rw [if_pos h] at K
        exact K
      · rw [if_neg h] at K
        refine ⟨vp_in_nI (by omega) (by omega), ?_⟩
        rw [nI_clamp (by omega)]
        exact K
    · rw [if_neg h1] at K
      have := hj2 (by omega)
      refine pk_le n j (fun h => ?_) (fun h => ?_)
      · rw [if_pos h] at K
        rw [pk_sub h]
        refine ⟨vp_in_nI (by omega) (by omega), ?_⟩
        rw [nI_clamp (by omega)]
        exact K
      · rw [if_neg (by omega)] at K
        refine ⟨vp_in_nI (by omega) (by omega), ?_⟩
        rw [nI_clamp (by omega)]
        exact K
theorem xl_cell {post : SX → Prop} {b i j n : Nat} {x y : Int} (hb : b < 3) (hi : i < 20) (hi' : b ≠ 1 → i < 10) (hn : n ≤ 14) (hj : j < 28) (hj0 : b = 0 → j < 14) (hj2 : b = 2 → j < 2 * n)
    (hx : ri (b * 20 + i) = zi_I x) (hy : dn (b * 28 + j) = zi_I y) (bx : -1000 ≤ x ∧ x ≤ 1000) (b2 : -1000 ≤ y ∧ y ≤ 1000)
    (K : post (fm, nI n, a, s, ro, co, upd ri (b * 20 + i) (zi_I (if xl_E b n a s i j = true ∨ y < x then y else x)), upd dn (b * 28 + j) (zi_I (if xl_E b n a s i j = true ∨ y < x then x else y)))) :
    wpX_cell post (fm, nI n, a, s, ro, co, ri, dn) (nI b) (nI i) (nI j) := by
  have e1 : nI b * 20 + nI i = nI (b * 20 + i) := zi_ix b 20 i 20 rfl
  have e2 : nI b * 28 + nI j = nI (b * 28 + j) := zi_ix b 28 j 28 rfl
  unfold wpX_cell wX_cell_56
  dsimp only
  rw [e1, e2, nI_clamp (n := b * 20 + i) (by omega), nI_clamp (n := b * 28 + j) (by omega)]
  refine ⟨vp_in_nI (by omega) (by omega), nm_r hx ⟨vp_in_nI (by omega) (by omega), nm_r hy ?_⟩⟩
  refine xl_wA hb hi hi' (xl_wB hb hn hj hj0 hj2 ?_)
  refine br_c (fun h => ?_) (fun h => ?_)
  · have hE : xl_E b n a s i j = true := decide_eq_true h
    rw [if_pos (Or.inl hE), if_pos (Or.inl hE)] at K
    exact ⟨vp_in_nI (by omega) (by omega), nm_e ⟨vp_in_nI (by omega) (by omega), nm_e K⟩⟩
  · have hE : ¬ xl_E b n a s i j = true := fun z => h (of_decide_eq_true z)
    refine zi_ble x y rfl rfl bx b2 (fun hxy => ?_) (fun hxy => ?_)
    · have hn : ¬ (xl_E b n a s i j = true ∨ y < x) := fun z => z.elim hE (fun z => by omega)
      rw [if_neg hn, if_neg hn, zi_us hx, zi_us hy] at K
      exact K
    · rw [if_pos (Or.inr hxy), if_pos (Or.inr hxy)] at K
      exact ⟨vp_in_nI (by omega) (by omega), nm_e ⟨vp_in_nI (by omega) (by omega), nm_e K⟩⟩
end
/-- braid b is the comb of M rows and N columns under the match table e -/
def xb_B (e : Nat → Nat → Bool) (b M N : Nat) (ro co ri dn : Nat → Int32) : Prop :=
  ro b = nI M ∧ co b = nI N ∧ (∀ i, i < M → ri (b * 20 + i) = zi_I (mt_R e N i)) ∧ (∀ j, j < N → dn (b * 28 + j) = zi_I (mt_D e M j))
/-- nothing but braid b has changed -/
def xb_F (b : Nat) (ro co ri dn ro' co' ri' dn' : Nat → Int32) : Prop :=
  (∀ k, k ≠ b → ro' k = ro k ∧ co' k = co k) ∧ (∀ k, (k < b * 20 ∨ b * 20 + 20 ≤ k) → ri' k = ri k) ∧ (∀ k, (k < b * 28 ∨ b * 28 + 28 ≤ k) → dn' k = dn k)
theorem xb_Frf {b : Nat} {ro co ri dn : Nat → Int32} : xb_F b ro co ri dn ro co ri dn := ⟨fun _ _ => ⟨rfl, rfl⟩, fun _ _ => rfl, fun _ _ => rfl⟩
theorem xb_Ftr {b : Nat} {ro co ri dn ro' co' ri' dn' ro2 co2 ri2 dn2 : Nat → Int32} (h : xb_F b ro co ri dn ro' co' ri' dn') (g : xb_F b ro' co' ri' dn' ro2 co2 ri2 dn2) : xb_F b ro co ri dn ro2 co2 ri2 dn2 :=
  ⟨fun k hk => ⟨((g.1 k hk).1).trans (h.1 k hk).1, ((g.1 k hk).2).trans (h.1 k hk).2⟩, fun k hk => (g.2.1 k hk).trans (h.2.1 k hk), fun k hk => (g.2.2 k hk).trans (h.2.2 k hk)⟩
theorem xb_BF {e : Nat → Nat → Bool} {b c M N : Nat} {ro co ri dn ro' co' ri' dn' : Nat → Int32} (hc : c ≠ b) (hM : M ≤ 20) (hN : N ≤ 28) (h : xb_B e c M N ro co ri dn) (g : xb_F b ro co ri dn ro' co' ri' dn') : xb_B e c M N ro' co' ri' dn' := by
  obtain ⟨h1, h2, h3, h4⟩ := h
  refine ⟨(g.1 c hc).1.trans h1, (g.1 c hc).2.trans h2, fun i hi => ?_, fun j hj => ?_⟩
  · rw [g.2.1 (c * 20 + i) (by omega)]
    exact h3 i hi
  · rw [g.2.2 (c * 28 + j) (by omega)]
    exact h4 j hj
theorem xb_Bc {e g : Nat → Nat → Bool} {b M N : Nat} {ro co ri dn : Nat → Int32} (h : xb_B e b M N ro co ri dn) (hg : ∀ i j, i < M → j < N → e i j = g i j) : xb_B g b M N ro co ri dn := by
  obtain ⟨h1, h2, h3, h4⟩ := h
  refine ⟨h1, h2, fun i hi => ?_, fun j hj => ?_⟩
  · rw [h3 i hi, mt_cgR N hg i hi]
  · rw [h4 j hj, mt_cgD' hg j hj]
section
variable {fm : Int32} {a s : Nat → Int32} {b n : Nat}
theorem xr_loop {post : SX → Prop} {i N : Nat} {ro co ri0 dn0 : Nat → Int32} (hb : b < 3) (hi : i < 20) (hi' : b ≠ 1 → i < 10) (hn : n ≤ 14) (hN : N ≤ 28) (hN0 : b = 0 → N ≤ 14) (hN2 : b = 2 → N ≤ 2 * n) (hc : co b = nI N)
    (K : ∀ ri dn : Nat → Int32, ri (b * 20 + i) = zi_I (mt_R (xl_E b n a s) N i) → (∀ k, k < N → dn (b * 28 + k) = zi_I (mt_D (xl_E b n a s) (i + 1) k)) → (∀ k, k ≠ b * 20 + i → ri k = ri0 k) → (∀ k, (k < b * 28 ∨ b * 28 + 28 ≤ k) → dn k = dn0 k) → post (fm, nI n, a, s, ro, co, ri, dn)) :
    ∀ (d j fuel : Nat) (ri dn : Nat → Int32), j + d = N → d < fuel → ri (b * 20 + i) = zi_I (mt_R (xl_E b n a s) j i) → (∀ k, k < j → dn (b * 28 + k) = zi_I (mt_D (xl_E b n a s) (i + 1) k)) → (∀ k, j ≤ k → k < N → dn (b * 28 + k) = zi_I (mt_D (xl_E b n a s) i k)) → (∀ k, k ≠ b * 20 + i → ri k = ri0 k) → (∀ k, (k < b * 28 ∨ b * 28 + 28 ≤ k) → dn k = dn0 k) → wX_addRow_32 post (nI b) (nI i) fuel (nI j) fm (nI n) a s ro co ri dn := by
  intro d
  induction d with
  | zero =>
    intro j fuel ri dn hj hf h1 h2 h3 h4 h5
    obtain ⟨q, rfl⟩ : ∃ q, fuel = q + 1 := ⟨fuel - 1, by omega⟩
    rw [wX_addRow_32]
    refine ⟨vp_in_nI (by omega) (by omega), ?_⟩
    rw [nI_clamp (n := b) (by omega), hc]
    have hj' : j = N := by omega
    rw [hj'] at h1 h2 ⊢
    exact br_t (nI_le (Nat.le_refl _) (by omega)) (K ri dn h1 h2 h4 h5)
  | succ d ih =>
    intro j fuel ri dn hj hf h1 h2 h3 h4 h5
    obtain ⟨q, rfl⟩ : ∃ q, fuel = q + 1 := ⟨fuel - 1, by omega⟩
    have b1 := mt_bdR (xl_E b n a s) j i
    have b2 := mt_bdD' (xl_E b n a s) i j
    rw [wX_addRow_32]
    refine ⟨vp_in_nI (by omega) (by omega), ?_⟩
    rw [nI_clamp (n := b) (by omega), hc]
    refine br_f (nI_ge (by omega) (by omega)) ?_
    refine xl_cell (x := mt_R (xl_E b n a s) j i) (y := mt_D (xl_E b n a s) i j) hb hi hi' hn (by omega) (fun z => by have := hN0 z; omega) (fun z => by have := hN2 z; omega) h1 (h3 j (by omega) (by omega)) (by omega) (by omega) ?_
    refine nm_r (nI_1 j) ?_
    refine ih (j + 1) q _ _ (by omega) (by omega) ?_ ?_ ?_ ?_ ?_
    · rw [pk_us, mt_Rs]
    · intro k hk
      by_cases e : k = j
      · subst e
        rw [pk_us, mt_Ds]
      · rw [pk_un (by omega)]
        exact h2 k (by omega)
    · intro k hk hk2
      rw [pk_un (by omega)]
      exact h3 k (by omega) hk2
    · intro k hk
      rw [pk_un hk]
      exact h4 k hk
    · intro k hk
      rw [pk_un (by omega)]
      exact h5 k hk
theorem xr_addRow {post : SX → Prop} {M N : Nat} {ro co ri dn : Nat → Int32} (hb : b < 3) (hM : M < 20) (hM' : b ≠ 1 → M < 10) (hn : n ≤ 14) (hN : N ≤ 28) (hN0 : b = 0 → N ≤ 14) (hN2 : b = 2 → N ≤ 2 * n)
    (H : xb_B (xl_E b n a s) b M N ro co ri dn)
    (K : ∀ ro' ri' dn' : Nat → Int32, xb_B (xl_E b n a s) b (M + 1) N ro' co ri' dn' → xb_F b ro co ri dn ro' co ri' dn' → post (fm, nI n, a, s, ro', co, ri', dn')) :
    wpX_addRow post (fm, nI n, a, s, ro, co, ri, dn) (nI b) := by
  obtain ⟨h1, h2, h3, h4⟩ := H
  unfold wpX_addRow
  dsimp only
  rw [nI_clamp (n := b) (by omega)]
  refine ⟨vp_in_nI (by omega) (by omega), nm_r h1 ?_⟩
  rw [zi_ix b 20 M 20 rfl, nI_clamp (n := b * 20 + M) (by omega)]
  refine ⟨vp_in_nI (by omega) (by omega), nm_e ⟨vp_in_nI (by omega) (by omega), nm_e ⟨N + 1, ?_⟩⟩⟩
  refine xr_loop (ri0 := ri) (dn0 := dn) hb hM hM' hn hN hN0 hN2 h2 ?_ N 0 (N + 1) _ _ (by omega) (by omega) ?_ ?_ ?_ ?_ ?_
  · intro ri' dn' k1 k2 k3 k4
    refine K _ ri' dn' ⟨?_, h2, ?_, k2⟩ ⟨?_, ?_, k4⟩
    · rw [pk_us, nI_1]
    · intro i hi
      by_cases e : i = M
      · subst e
        exact k1
      · rw [k3 _ (by omega)]
        exact h3 i (by omega)
    · intro k hk
      exact ⟨pk_un hk, rfl⟩
    · intro k hk
      exact k3 k (by omega)
  · rw [pk_us, mt_R0, show (-1 : Int32) = zi_I (-1) from rfl, ← zi_n, zi_sub]
  · intro k hk
    omega
  · intro k _ hk
    exact h4 k hk
  · intro k hk
    exact pk_un hk
  · intro k _
    rfl
theorem xk_loop {post : SX → Prop} {j M : Nat} {ro co ri0 dn0 : Nat → Int32} (hb : b < 3) (hM : M ≤ 20) (hM' : b ≠ 1 → M ≤ 10) (hn : n ≤ 14) (hj : j < 28) (hj0 : b = 0 → j < 14) (hj2 : b = 2 → j < 2 * n) (hc : ro b = nI M)
    (K : ∀ ri dn : Nat → Int32, dn (b * 28 + j) = zi_I (mt_D (xl_E b n a s) M j) → (∀ k, k < M → ri (b * 20 + k) = zi_I (mt_R (xl_E b n a s) (j + 1) k)) → (∀ k, k ≠ b * 28 + j → dn k = dn0 k) → (∀ k, (k < b * 20 ∨ b * 20 + 20 ≤ k) → ri k = ri0 k) → post (fm, nI n, a, s, ro, co, ri, dn)) :
    ∀ (d i fuel : Nat) (ri dn : Nat → Int32), i + d = M → d < fuel → dn (b * 28 + j) = zi_I (mt_D (xl_E b n a s) i j) → (∀ k, k < i → ri (b * 20 + k) = zi_I (mt_R (xl_E b n a s) (j + 1) k)) → (∀ k, i ≤ k → k < M → ri (b * 20 + k) = zi_I (mt_R (xl_E b n a s) j k)) → (∀ k, k ≠ b * 28 + j → dn k = dn0 k) → (∀ k, (k < b * 20 ∨ b * 20 + 20 ≤ k) → ri k = ri0 k) → wX_addColumn_30 post (nI b) (nI j) fuel (nI i) fm (nI n) a s ro co ri dn := by
  intro d
  induction d with
  | zero =>
    intro i fuel ri dn hi hf h1 h2 h3 h4 h5
    obtain ⟨q, rfl⟩ : ∃ q, fuel = q + 1 := ⟨fuel - 1, by omega⟩
    rw [wX_addColumn_30]
    refine ⟨vp_in_nI (by omega) (by omega), ?_⟩
    rw [nI_clamp (n := b) (by omega), hc]
    have hi' : i = M := by omega
    rw [hi'] at h1 h2 ⊢
    exact br_t (nI_le (Nat.le_refl _) (by omega)) (K ri dn h1 h2 h4 h5)
  | succ d ih =>
    intro i fuel ri dn hi hf h1 h2 h3 h4 h5
    obtain ⟨q, rfl⟩ : ∃ q, fuel = q + 1 := ⟨fuel - 1, by omega⟩
    have b1 := mt_bdR (xl_E b n a s) j i
    have b2 := mt_bdD' (xl_E b n a s) i j
    rw [wX_addColumn_30]
    refine ⟨vp_in_nI (by omega) (by omega), ?_⟩
    rw [nI_clamp (n := b) (by omega), hc]
    refine br_f (nI_ge (by omega) (by omega)) ?_
    refine xl_cell (x := mt_R (xl_E b n a s) j i) (y := mt_D (xl_E b n a s) i j) hb (by omega) (fun z => by have := hM' z; omega) hn hj hj0 hj2 (h3 i (by omega) (by omega)) h1 (by omega) (by omega) ?_
    refine nm_r (nI_1 i) ?_
    refine ih (i + 1) q _ _ (by omega) (by omega) ?_ ?_ ?_ ?_ ?_
    · rw [pk_us, mt_Ds]
    · intro k hk
      by_cases e : k = i
      · subst e
        rw [pk_us, mt_Rs]
      · rw [pk_un (by omega)]
        exact h2 k (by omega)
    · intro k hk hk2
      rw [pk_un (by omega)]
      exact h3 k (by omega) hk2
    · intro k hk
      rw [pk_un hk]
      exact h4 k hk
    · intro k hk
      rw [pk_un (by omega)]
      exact h5 k hk
theorem xk_addColumn {post : SX → Prop} {M N : Nat} {ro co ri dn : Nat → Int32} (hb : b < 3) (hM : M ≤ 20) (hM' : b ≠ 1 → M ≤ 10) (hn : n ≤ 14) (hN : N < 28) (hN0 : b = 0 → N < 14) (hN2 : b = 2 → N < 2 * n)
    (H : xb_B (xl_E b n a s) b M N ro co ri dn)
    (K : ∀ co' ri' dn' : Nat → Int32, xb_B (xl_E b n a s) b M (N + 1) ro co' ri' dn' → xb_F b ro co ri dn ro co' ri' dn' → post (fm, nI n, a, s, ro, co', ri', dn')) :
    wpX_addColumn post (fm, nI n, a, s, ro, co, ri, dn) (nI b) := by
  obtain ⟨h1, h2, h3, h4⟩ := H
  unfold wpX_addColumn
  dsimp only
  rw [nI_clamp (n := b) (by omega)]
  refine ⟨vp_in_nI (by omega) (by omega), nm_r h2 ?_⟩
  rw [zi_ix b 28 N 28 rfl, nI_clamp (n := b * 28 + N) (by omega)]
  refine ⟨vp_in_nI (by omega) (by omega), nm_e ⟨vp_in_nI (by omega) (by omega), nm_e ⟨M + 1, ?_⟩⟩⟩
  refine xk_loop (ri0 := ri) (dn0 := dn) hb hM hM' hn hN hN0 hN2 h1 ?_ M 0 (M + 1) _ _ (by omega) (by omega) ?_ ?_ ?_ ?_ ?_
  · intro ri' dn' k1 k2 k3 k4
    refine K _ ri' dn' ⟨h1, ?_, k2, ?_⟩ ⟨?_, k4, ?_⟩
    · rw [pk_us, nI_1]
    · intro j hj
      by_cases e : j = N
      · subst e
        exact k1
      · rw [k3 _ (by omega)]
        exact h4 j (by omega)
    · intro k hk
      exact ⟨rfl, pk_un hk⟩
    · intro k hk
      exact k3 k (by omega)
  · rw [pk_us, mt_D0, zi_n]
  · intro k hk
    omega
  · intro k _ hk
    exact h3 k hk
  · intro k hk
    exact pk_un hk
  · intro k _
    rfl
end
end
section
/-! combing all, and the count of strands -/
section
variable {fm : Int32} {a s : Nat → Int32} {b n : Nat}
theorem xa_37 {post : SX → Prop} {M N : Nat} {ro0 co0 ri0 dn0 : Nat → Int32} (hb : b < 3) (hM : M ≤ 20) (hM' : b ≠ 1 → M ≤ 10) (hn : n ≤ 14) (hN : N ≤ 28) (hN0 : b = 0 → N ≤ 14) (hN2 : b = 2 → N ≤ 2 * n)
    (K : ∀ ro co ri dn : Nat → Int32, xb_B (xl_E b n a s) b M N ro co ri dn → xb_F b ro0 co0 ri0 dn0 ro co ri dn → post (fm, nI n, a, s, ro, co, ri, dn)) :
    ∀ (d j fuel : Nat) (ro co ri dn : Nat → Int32), j + d = N → d < fuel → xb_B (xl_E b n a s) b M j ro co ri dn → xb_F b ro0 co0 ri0 dn0 ro co ri dn → wX_combAll_37 post (nI b) (nI N) fuel (nI j) fm (nI n) a s ro co ri dn := by
  intro d
  induction d with
  | zero =>
    intro j fuel ro co ri dn hj hf hB hF
    obtain ⟨q, rfl⟩ : ∃ q, fuel = q + 1 := ⟨fuel - 1, by omega⟩
    rw [wX_combAll_37]
    have hj' : j = N := by omega
    rw [hj'] at hB ⊢
    exact br_t (nI_le (Nat.le_refl _) (by omega)) (K ro co ri dn hB hF)
  | succ d ih =>
    intro j fuel ro co ri dn hj hf hB hF
    obtain ⟨q, rfl⟩ : ∃ q, fuel = q + 1 := ⟨fuel - 1, by omega⟩
    rw [wX_combAll_37]
    refine br_f (nI_ge (by omega) (by omega)) ?_
    refine xk_addColumn hb hM hM' hn (by omega) (fun z => by have := hN0 z; omega) (fun z => by have := hN2 z; omega) hB ?_
    intro co' ri' dn' hB' hF'
    exact nm_r (nI_1 j) (ih (j + 1) q ro co' ri' dn' (by omega) (by omega) hB' (xb_Ftr hF hF'))
theorem xa_17 {post : SX → Prop} {M N : Nat} {ro0 co0 ri0 dn0 : Nat → Int32} (hb : b < 3) (hM : M ≤ 20) (hM' : b ≠ 1 → M ≤ 10) (hn : n ≤ 14) (hN : N ≤ 28) (hN0 : b = 0 → N ≤ 14) (hN2 : b = 2 → N ≤ 2 * n)
    (K : ∀ ro co ri dn : Nat → Int32, xb_B (xl_E b n a s) b M N ro co ri dn → xb_F b ro0 co0 ri0 dn0 ro co ri dn → post (fm, nI n, a, s, ro, co, ri, dn)) :
    ∀ (d i fuel : Nat) (ro co ri dn : Nat → Int32), i + d = M → d < fuel → xb_B (xl_E b n a s) b i 0 ro co ri dn → xb_F b ro0 co0 ri0 dn0 ro co ri dn → wX_combAll_17 post (nI b) (nI M) (nI N) fuel (nI i) fm (nI n) a s ro co ri dn := by
  intro d
  induction d with
  | zero =>
    intro i fuel ro co ri dn hi hf hB hF
    obtain ⟨q, rfl⟩ : ∃ q, fuel = q + 1 := ⟨fuel - 1, by omega⟩
    rw [wX_combAll_17]
    have hi' : i = M := by omega
    rw [hi'] at hB ⊢
    exact br_t (nI_le (Nat.le_refl _) (by omega)) ⟨N + 1, xa_37 hb hM hM' hn hN hN0 hN2 K N 0 (N + 1) ro co ri dn (by omega) (by omega) hB hF⟩
  | succ d ih =>
    intro i fuel ro co ri dn hi hf hB hF
    obtain ⟨q, rfl⟩ : ∃ q, fuel = q + 1 := ⟨fuel - 1, by omega⟩
    rw [wX_combAll_17]
    refine br_f (nI_ge (by omega) (by omega)) ?_
    refine xr_addRow hb (by omega) (fun z => by have := hM' z; omega) hn (by omega) (fun _ => by omega) (fun _ => by omega) hB ?_
    intro ro' ri' dn' hB' hF'
    exact nm_r (nI_1 i) (ih (i + 1) q ro' co ri' dn' (by omega) (by omega) hB' (xb_Ftr hF hF'))
theorem xa_all {post : SX → Prop} {M N : Nat} {ro co ri dn : Nat → Int32} (hb : b < 3) (hM : M ≤ 20) (hM' : b ≠ 1 → M ≤ 10) (hn : n ≤ 14) (hN : N ≤ 28) (hN0 : b = 0 → N ≤ 14) (hN2 : b = 2 → N ≤ 2 * n)
    (K : ∀ ro' co' ri' dn' : Nat → Int32, xb_B (xl_E b n a s) b M N ro' co' ri' dn' → xb_F b ro co ri dn ro' co' ri' dn' → post (fm, nI n, a, s, ro', co', ri', dn')) :
    wpX_combAll post (fm, nI n, a, s, ro, co, ri, dn) (nI b) (nI M) (nI N) := by
  unfold wpX_combAll
  dsimp only
  rw [nI_clamp (n := b) (by omega)]
  refine ⟨vp_in_nI (by omega) (by omega), nm_e ⟨vp_in_nI (by omega) (by omega), nm_e ⟨M + 1, ?_⟩⟩⟩
  refine xa_17 hb hM hM' hn hN hN0 hN2 K M 0 (M + 1) _ _ ri dn (by omega) (by omega) ⟨pk_us, pk_us, fun i hi => by omega, fun j hj => by omega⟩ ⟨fun k hk => ⟨pk_un hk, pk_un hk⟩, fun _ _ => rfl, fun _ _ => rfl⟩
end
theorem xa_2 (m : Nat) : (2 : Int32) * nI m = nI (2 * m) := by rw [show (2 : Int32) = nI 2 from rfl, pk_mul]
theorem xa_again {post : SX → Prop} {m n : Nat} {a s ro co ri dn : Nat → Int32} (hm : m ≤ 10) (hn : n ≤ 14)
    (K : ∀ ro' co' ri' dn' : Nat → Int32, xb_B (xl_E 0 n a s) 0 m n ro' co' ri' dn' → xb_B (xl_E 1 n a s) 1 (2 * m) (2 * n) ro' co' ri' dn' → post (nI m, nI n, a, s, ro', co', ri', dn')) :
    wpX_combAgain post (nI m, nI n, a, s, ro, co, ri, dn) := by
  unfold wpX_combAgain
  dsimp only
  refine xa_all (b := 0) (M := m) (N := n) (by omega) (by omega) (by omega) hn (by omega) (by omega) (by omega) ?_
  intro ro1 co1 ri1 dn1 hB hF
  dsimp only
  rw [xa_2, xa_2]
  refine xa_all (b := 1) (M := 2 * m) (N := 2 * n) (by omega) (by omega) (by omega) hn (by omega) (by omega) (by omega) ?_
  intro ro2 co2 ri2 dn2 hB2 hF2
  exact K ro2 co2 ri2 dn2 (xb_BF (by omega) (by omega) (by omega) hB hF2) hB2
/-! the count -/
section
variable {e : Nat → Nat → Bool} {fm fn : Int32} {a s ro co ri dn : Nat → Int32} {b M N : Nat} {f t : Int}
theorem xv_68 {post : Int32 → Prop} (hb : b < 3) (hM : M ≤ 20) (hN : N ≤ 28) (H : xb_B e b M N ro co ri dn) (hf : -100 ≤ f ∧ f ≤ 100) (ht : -100 ≤ t ∧ t ≤ 100) (c : Nat)
    (K : post (zi_I (t - f - (c + mt_cn (mt_pR e M N f t) M : Nat)))) :
    ∀ d i fuel : Nat, i + d = M → d < fuel → wX_common_68 post (nI b) (zi_I f) (zi_I t) (zi_I ((N : Int) + M - 1)) fm fn a s ro co ri dn fuel (nI (c + mt_cn (mt_pR e M N f t) i)) (nI i) := by
  intro d
  induction d with
  | zero =>
    intro i fuel hi hfu
    obtain ⟨q, rfl⟩ : ∃ q, fuel = q + 1 := ⟨fuel - 1, by omega⟩
    rw [wX_common_68]
    refine ⟨vp_in_nI (by omega) (by omega), ?_⟩
    rw [nI_clamp (n := b) (by omega), H.1]
    have hi' : i = M := by omega
    rw [hi']
    refine br_t (nI_le (Nat.le_refl _) (by omega)) ?_
    rw [zi_sub, ← zi_n, zi_sub]
    exact K
  | succ d ih =>
    intro i fuel hi hfu
    obtain ⟨q, rfl⟩ : ∃ q, fuel = q + 1 := ⟨fuel - 1, by omega⟩
    have hs := mt_cns (mt_pR e M N f t) i
    have b1 := mt_bdR e N i
    rw [wX_common_68]
    refine ⟨vp_in_nI (by omega) (by omega), ?_⟩
    rw [nI_clamp (n := b) (by omega), H.1]
    refine br_f (nI_ge (by omega) (by omega)) ?_
    rw [zi_ix b 20 i 20 rfl, nI_clamp (n := b * 20 + i) (by omega), H.2.2.1 i (by omega)]
    refine ⟨vp_in_nI (by omega) (by omega), ?_⟩
    refine zi_blt _ _ rfl rfl (by omega) (by omega) (fun h => ?_) (fun h => ?_)
    · have hp : ¬ mt_pR e M N f t i = true := fun z => by have := (of_decide_eq_true z).1; omega
      rw [if_neg hp] at hs
      have := ih (i + 1) q (by omega) (by omega)
      rw [hs] at this
      exact nm_r (nI_1 i) this
    · refine zi_ble t ((N : Int) + M - 1 - i) rfl (by rw [← zi_n, zi_sub]) (by omega) (by omega) (fun h2 => ?_) (fun h2 => ?_)
      · have hp : ¬ mt_pR e M N f t i = true := fun z => by have := (of_decide_eq_true z).2; omega
        rw [if_neg hp] at hs
        have := ih (i + 1) q (by omega) (by omega)
        rw [hs] at this
        exact nm_r (nI_1 i) this
      · have hp : mt_pR e M N f t i = true := decide_eq_true ⟨h, h2⟩
        rw [if_pos hp] at hs
        have := ih (i + 1) q (by omega) (by omega)
        rw [hs] at this
        exact nm_r (nI_1 _) (nm_r (nI_1 i) this)
theorem xv_23 {post : Int32 → Prop} (hb : b < 3) (hM : M ≤ 20) (hN : N ≤ 28) (H : xb_B e b M N ro co ri dn) (hf : -100 ≤ f ∧ f ≤ 100) (ht : -100 ≤ t ∧ t ≤ 100)
    (K : post (zi_I (mt_val e M N f t))) :
    ∀ d j fuel : Nat, j + d = N → d < fuel → wX_common_23 post (nI b) (zi_I f) (zi_I t) (zi_I ((N : Int) + M - 1)) fm fn a s ro co ri dn fuel (nI (mt_cn (mt_pD e M f t) j)) (nI j) := by
  intro d
  induction d with
  | zero =>
    intro j fuel hj hfu
    obtain ⟨q, rfl⟩ : ∃ q, fuel = q + 1 := ⟨fuel - 1, by omega⟩
    rw [wX_common_23]
    refine ⟨vp_in_nI (by omega) (by omega), ?_⟩
    rw [nI_clamp (n := b) (by omega), H.2.1]
    have hj' : j = N := by omega
    rw [hj']
    exact br_t (nI_le (Nat.le_refl _) (by omega)) ⟨M + 1, xv_68 hb hM hN H hf ht _ K M 0 (M + 1) (by omega) (by omega)⟩
  | succ d ih =>
    intro j fuel hj hfu
    obtain ⟨q, rfl⟩ : ∃ q, fuel = q + 1 := ⟨fuel - 1, by omega⟩
    have hs := mt_cns (mt_pD e M f t) j
    have b1 := mt_bdD' e M j
    rw [wX_common_23]
    refine ⟨vp_in_nI (by omega) (by omega), ?_⟩
    rw [nI_clamp (n := b) (by omega), H.2.1]
    refine br_f (nI_ge (by omega) (by omega)) ?_
    rw [zi_ix b 28 j 28 rfl, nI_clamp (n := b * 28 + j) (by omega), H.2.2.2 j (by omega)]
    refine ⟨vp_in_nI (by omega) (by omega), ?_⟩
    refine zi_blt _ _ rfl rfl (by omega) (by omega) (fun h => ?_) (fun h => ?_)
    · have hp : ¬ mt_pD e M f t j = true := fun z => by have := (of_decide_eq_true z).1; omega
      rw [if_neg hp] at hs
      have := ih (j + 1) q (by omega) (by omega)
      rw [hs] at this
      exact nm_r (nI_1 j) this
    · refine zi_ble t (j : Int) rfl (zi_n j).symm (by omega) (by omega) (fun h2 => ?_) (fun h2 => ?_)
      · have hp : ¬ mt_pD e M f t j = true := fun z => by have := (of_decide_eq_true z).2; omega
        rw [if_neg hp] at hs
        have := ih (j + 1) q (by omega) (by omega)
        rw [hs] at this
        exact nm_r (nI_1 j) this
      · have hp : mt_pD e M f t j = true := decide_eq_true ⟨h, h2⟩
        rw [if_pos hp] at hs
        have := ih (j + 1) q (by omega) (by omega)
        rw [hs] at this
        exact nm_r (nI_1 _) (nm_r (nI_1 j) this)
theorem xv_common {post : Int32 → Prop} {x2 x3 : Int32} (hb : b < 3) (hM : M ≤ 20) (hN : N ≤ 28) (H : xb_B e b M N ro co ri dn) (hf : -100 ≤ f ∧ f ≤ 100) (ht : -100 ≤ t ∧ t ≤ 100) (h2 : x2 = zi_I f) (h3 : x3 = zi_I t)
    (K : post (zi_I (mt_val e M N f t))) : wpX_common post (fm, fn, a, s, ro, co, ri, dn) (nI b) x2 x3 := by
  subst h2 h3
  unfold wpX_common
  dsimp only
  rw [nI_clamp (n := b) (by omega), H.1, H.2.1]
  refine ⟨vp_in_nI (by omega) (by omega), vp_in_nI (by omega) (by omega), nm_r (e' := zi_I ((N : Int) + M - 1)) ?_ ⟨N + 1, xv_23 hb hM hN H hf ht K N 0 (N + 1) (by omega) (by omega)⟩⟩
  rw [← zi_n, ← zi_n, show (1 : Int32) = zi_I 1 from rfl, zi_add, zi_sub]
/-- a stretch of the columns -/
theorem xv_B {post : Int32 → Prop} {i j : Nat} (hb : b < 3) (hM : M ≤ 20) (hN : N ≤ 28) (H : xb_B e b M N ro co ri dn) (hi : i ≤ j) (hj : j ≤ N)
    (K : post (nI (mt_lc (fun x y => e x (i + y)) M (j - i)))) : wpX_common post (fm, fn, a, s, ro, co, ri, dn) (nI b) (nI i) (nI j) := by
  refine xv_common (f := (i : Int)) (t := (j : Int)) hb hM hN H (by omega) (by omega) (zi_n i).symm (zi_n j).symm ?_
  rw [mt_vB e M N i j hi hj, zi_n]
  exact K
/-- a stretch of the rows -/
theorem xv_A {post : Int32 → Prop} {i j : Nat} (hb : b < 3) (hM : M ≤ 20) (hN : N ≤ 28) (H : xb_B e b M N ro co ri dn) (hi : i ≤ j) (hj : j ≤ M)
    (K : post (nI (mt_lc (fun x y => e (i + x) y) (j - i) N))) : wpX_commonRows post (fm, fn, a, s, ro, co, ri, dn) (nI b) (nI i) (nI j) := by
  unfold wpX_commonRows
  dsimp only
  rw [nI_clamp (n := b) (by omega), H.1, H.2.1]
  refine ⟨vp_in_nI (by omega) (by omega), nm_r (pk_sub hj) ⟨vp_in_nI (by omega) (by omega), ?_⟩⟩
  refine xv_common (f := -(i : Int)) (t := ((N + (M - j) : Nat) : Int)) hb hM hN H (by omega) (by omega) (by rw [← zi_n, zi_neg]) (by rw [nI_add, zi_n]) ?_
  rw [mt_vA e M N i (M - j) (by omega), zi_n, pk_sub (by omega), pk_sub (by omega)]
  have e1 : i + (M - j) + mt_lc (fun x y => e (i + x) y) (M - (M - j) - i) N - i - (M - j) = mt_lc (fun x y => e (i + x) y) (j - i) N := by
    have : M - (M - j) - i = j - i := by omega
    rw [this]
    omega
  rw [e1]
  exact K
end
end
section
/-! the reference's tables -/
def yt_I (g : Nat → Nat → Nat) (j x y : Nat) (tb : Nat → Int32) : Prop := ∀ x' y' : Nat, y' ≤ j → (x' < x ∨ (x' = x ∧ y' < y)) → tb (x' * 15 + y') = nI (g x' y')
theorem yt_up {g : Nat → Nat → Nat} {j x y : Nat} {tb : Nat → Int32} (hj : j ≤ 14) (hy : y ≤ j) (h : yt_I g j x y tb) : yt_I g j x (y + 1) (upd tb (x * 15 + y) (nI (g x y))) := by
  intro x' y' hy' hc
  by_cases e : x' = x ∧ y' = y
  · obtain ⟨rfl, rfl⟩ := e
    rw [pk_us]
  · rw [pk_un (by omega)]
    exact h x' y' hy' (by omega)
theorem yt_nx {g : Nat → Nat → Nat} {j x : Nat} {tb : Nat → Int32} (h : yt_I g j x (j + 1) tb) : yt_I g j (x + 1) 0 tb :=
  fun x' y' hy' _ => h x' y' hy' (by omega)
theorem yt_lcle (e : Nat → Nat → Bool) (y : Nat) : ∀ x : Nat, mt_lc e x y ≤ x := by
  intro x
  induction x with
  | zero => exact Nat.le_refl 0
  | succ x ih =>
    have := (mt_st e x y).1.2
    omega
theorem yt_edle (e : Nat → Nat → Bool) : ∀ x y : Nat, mt_ed e x y ≤ x + y := by
  intro x y
  have := mt_spl e x y
  omega
theorem yt_ix (x y : Nat) : nI (x + 1) * 15 + nI (y + 1) - 1 = nI ((x + 1) * 15 + y) := by
  rw [zi_ix (x + 1) 15 (y + 1) 15 rfl, zi_s1 (by omega)]
  exact congrArg nI (by omega)
theorem yt_ix2 (x y : Nat) : (nI (x + 1) - 1) * 15 + nI (y + 1) = nI (x * 15 + (y + 1)) := by
  rw [nI_pred, zi_ix x 15 (y + 1) 15 rfl]
theorem yt_ix3 (x y : Nat) : (nI (x + 1) - 1) * 15 + nI (y + 1) - 1 = nI (x * 15 + y) := by
  rw [yt_ix2, zi_s1 (by omega)]
  exact congrArg nI (by omega)
theorem yt_ix4 (t y : Nat) : nI t + nI (y + 1) - 1 = nI (t + y) := by
  rw [nI_add, zi_s1 (by omega)]
  exact congrArg nI (by omega)
section
variable {post : Int32 → SY → Prop} {J3 J12 : Int32 → (Nat → Int32) → (Nat → Int32) → (Nat → Int32) → (Nat → Int32) → Prop} {fm fn : Int32} {a s tb od : Nat → Int32} {p k t j n : Nat}
theorem yc_133 {x1 x2 x3 x4 v : Int32} {x y w : Nat} (hx : x ≤ 10) (hy : y ≤ 14) (hv : v = nI w) (K : J12 (nI (y + 1)) a s (upd tb (x * 15 + y) (nI w)) od) : wY_common_133 post J3 J12 x1 x2 x3 x4 (nI x) (nI y) v fm fn a s tb od := by
  subst hv
  unfold wY_common_133
  rw [zi_ix x 15 y 15 rfl, nI_clamp (n := x * 15 + y) (by omega)]
  exact ⟨vp_in_nI (by omega) (by omega), nm_e (nm_r (nI_1 y) K)⟩
theorem yc_80 {e : Nat → Nat → Bool} {x2 x4 z0 : Int32} {x y : Nat} (hx : p + x < 10) (hy : y < 14) (ht : t ≤ 100) (hn0 : 0 < n) (hn : n ≤ 14) (he : e x y = decide (a (p + x) = s ((t + y) % n)))
    (hd : tb (x * 15 + y) = nI (mt_lc e x y)) (hz : z0 = nI (max (mt_lc e x (y + 1)) (mt_lc e (x + 1) y)))
    (K : J12 (nI (y + 1 + 1)) a s (upd tb ((x + 1) * 15 + (y + 1)) (nI (mt_lc e (x + 1) (y + 1)))) od) : wY_common_80 post J3 J12 (nI p) x2 (nI t) x4 (nI (x + 1)) (nI (y + 1)) z0 fm (nI n) a s tb od := by
  have hm : (t + y) % n < n := Nat.mod_lt _ hn0
  unfold wY_common_80
  rw [yt_ix4, yt_ix4, yt_ix3, pk_rem (by omega) hn0 (by omega), nI_clamp (n := p + x) (by omega), nI_clamp (n := (t + y) % n) (by omega), nI_clamp (n := x * 15 + y) (by omega)]
  have hl := mt_lcs e x y
  refine ⟨vp_in_nI (by omega) (by omega), nI_ne0 hn0 (by omega), vp_in_nI (by omega) (by omega), br_c (fun h => ?_) (fun h => ?_)⟩
  · rw [he, if_pos (decide_eq_true h)] at hl
    refine ⟨vp_in_nI (by omega) (by omega), nm_r (e' := nI (mt_lc e (x + 1) (y + 1))) ?_ (yc_133 (by omega) (by omega) rfl K)⟩
    rw [hd, nI_1, hl]
  · rw [he, if_neg (fun z => h (of_decide_eq_true z))] at hl
    rw [← hl] at hz
    exact yc_133 (by omega) (by omega) hz K
theorem yc_12 {e : Nat → Nat → Bool} {x : Nat} (hk : p + k ≤ 10) (hj : j ≤ 14) (ht : t ≤ 100) (hn : n ≤ 14) (hn0 : j = 0 ∨ 0 < n) (he : ∀ x y, x < k → y < j → e x y = decide (a (p + x) = s ((t + y) % n))) (hx : x ≤ k)
    (K : ∀ tb : Nat → Int32, yt_I (mt_lc e) j (x + 1) 0 tb → J3 (nI (x + 1)) a s tb od) :
    ∀ (d y fuel : Nat) (tb : Nat → Int32), y + d = j + 1 → d < fuel → yt_I (mt_lc e) j x y tb → wY_common_12 post J3 (nI p) (nI k) (nI t) (nI j) (nI x) fm (nI n) fuel (nI y) a s tb od := by
  intro d
  induction d with
  | zero =>
    intro y fuel tb hy hf hI
    obtain ⟨q, rfl⟩ : ∃ q, fuel = q + 1 := ⟨fuel - 1, by omega⟩
    rw [wY_common_12]
    have hy' : y = j + 1 := by omega
    rw [hy'] at hI ⊢
    exact br_t (nI_lt (by omega) (by omega)) (nm_r (nI_1 x) (K tb (yt_nx hI)))
  | succ d ih =>
    intro y fuel tb hy hf hI
    obtain ⟨q, rfl⟩ : ∃ q, fuel = q + 1 := ⟨fuel - 1, by omega⟩
    have nxt := ih (y + 1) q _ (by omega) (by omega) (yt_up hj (by omega) hI)
    rw [wY_common_12]
    refine br_f (nI_nlt (by omega) (by omega)) ?_
    refine pk_le x 0 (fun h => ?_) (fun h => ?_)
    · have h0 : x = 0 := by omega
      refine yc_133 (w := mt_lc e x y) (by omega) (by omega) ?_ nxt
      rw [h0]
      rfl
    · refine pk_le y 0 (fun h2 => ?_) (fun h2 => ?_)
      · have h0 : y = 0 := by omega
        refine yc_133 (w := mt_lc e x y) (by omega) (by omega) ?_ nxt
        rw [h0, mt_lcz]
        rfl
      · obtain ⟨x', rfl⟩ : ∃ x', x = x' + 1 := ⟨x - 1, by omega⟩
        obtain ⟨y', rfl⟩ : ∃ y', y = y' + 1 := ⟨y - 1, by omega⟩
        have t1 := hI x' (y' + 1) (by omega) (by omega)
        have t2 := hI (x' + 1) y' (by omega) (by omega)
        have t3 := hI x' y' (by omega) (by omega)
        have l1 := yt_lcle e (y' + 1) x'
        have l2 := yt_lcle e y' (x' + 1)
        rw [yt_ix2, yt_ix, nI_clamp (n := x' * 15 + (y' + 1)) (by omega), nI_clamp (n := (x' + 1) * 15 + y') (by omega)]
        refine ⟨vp_in_nI (by omega) (by omega), nm_r t1 ⟨vp_in_nI (by omega) (by omega), nm_r t2 ?_⟩⟩
        refine pk_le _ _ (fun h3 => ?_) (fun h3 => ?_)
        · exact yc_80 (e := e) (by omega) (by omega) ht (by omega) hn (he x' y' (by omega) (by omega)) t3 (congrArg nI (by omega)) nxt
        · exact yc_80 (e := e) (by omega) (by omega) ht (by omega) hn (he x' y' (by omega) (by omega)) t3 (congrArg nI (by omega)) nxt
theorem yc_3 {e : Nat → Nat → Bool} (hk : p + k ≤ 10) (hj : j ≤ 14) (ht : t ≤ 100) (hn : n ≤ 14) (hn0 : j = 0 ∨ 0 < n) (he : ∀ x y, x < k → y < j → e x y = decide (a (p + x) = s ((t + y) % n)))
    (K : ∀ tb : Nat → Int32, post (nI (mt_lc e k j)) (fm, nI n, a, s, tb, od)) :
    ∀ (d x fuel : Nat) (tb : Nat → Int32), x + d = k + 1 → d < fuel → yt_I (mt_lc e) j x 0 tb → wY_common_3 post (nI p) (nI k) (nI t) (nI j) fm (nI n) fuel (nI x) a s tb od := by
  intro d
  induction d with
  | zero =>
    intro x fuel tb hx hf hI
    obtain ⟨q, rfl⟩ : ∃ q, fuel = q + 1 := ⟨fuel - 1, by omega⟩
    rw [wY_common_3]
    refine br_t (nI_lt (by omega) (by omega)) ?_
    rw [zi_ix k 15 j 15 rfl, nI_clamp (n := k * 15 + j) (by omega), hI k j (by omega) (by omega)]
    exact ⟨vp_in_nI (by omega) (by omega), K tb⟩
  | succ d ih =>
    intro x fuel tb hx hf hI
    obtain ⟨q, rfl⟩ : ∃ q, fuel = q + 1 := ⟨fuel - 1, by omega⟩
    rw [wY_common_3]
    refine br_f (nI_nlt (by omega) (by omega)) ⟨j + 2, ?_⟩
    exact yc_12 hk hj ht hn hn0 he (by omega) (fun tb' h => ih (x + 1) q tb' (by omega) (by omega) h) (j + 1) 0 (j + 2) tb (by omega) (by omega) hI
theorem yc_common {e : Nat → Nat → Bool} (hk : p + k ≤ 10) (hj : j ≤ 14) (ht : t ≤ 100) (hn : n ≤ 14) (hn0 : j = 0 ∨ 0 < n) (he : ∀ x y, x < k → y < j → e x y = decide (a (p + x) = s ((t + y) % n)))
    (K : ∀ tb : Nat → Int32, post (nI (mt_lc e k j)) (fm, nI n, a, s, tb, od)) : wpY_common post (fm, nI n, a, s, tb, od) (nI p) (nI k) (nI t) (nI j) := by
  unfold wpY_common
  dsimp only
  exact ⟨k + 2, yc_3 hk hj ht hn hn0 he K (k + 1) 0 (k + 2) tb (by omega) (by omega) (fun x' y' _ h => by omega)⟩
/-! the edit table -/
theorem yl_min {post : Int32 → Prop} {u : SY} {x y : Nat} (hx : x < 1000) (hy : y < 1000) (K : post (nI (min x y))) : wpY_least post u (nI x) (nI y) := by
  unfold wpY_least
  refine pk_le y x (fun h => ?_) (fun h => ?_)
  · have e : min x y = y := by omega
    rw [e] at K
    exact K
  · have e : min x y = x := by omega
    rw [e] at K
    exact K
theorem yg_141 {x1 x2 x3 x4 v : Int32} {x y w : Nat} (hx : x ≤ 10) (hy : y ≤ 14) (hv : v = nI w) (K : J12 (nI (y + 1)) a s (upd tb (x * 15 + y) (nI w)) od) : wY_changes_141 post J3 J12 x1 x2 x3 x4 (nI x) (nI y) v fm fn a s tb od := by
  subst hv
  unfold wY_changes_141
  rw [zi_ix x 15 y 15 rfl, nI_clamp (n := x * 15 + y) (by omega)]
  exact ⟨vp_in_nI (by omega) (by omega), nm_e (nm_r (nI_1 y) K)⟩
theorem yg_73 {e : Nat → Nat → Bool} {x1 x2 x3 x4 z0 : Int32} {x y z : Nat} (hx : x < 10) (hy : y < 14) (hz0 : z0 = nI z) (hz : z = if e x y = true then 0 else 1)
    (t1 : tb (x * 15 + (y + 1)) = nI (mt_ed e x (y + 1))) (t2 : tb ((x + 1) * 15 + y) = nI (mt_ed e (x + 1) y)) (t3 : tb (x * 15 + y) = nI (mt_ed e x y))
    (K : J12 (nI (y + 1 + 1)) a s (upd tb ((x + 1) * 15 + (y + 1)) (nI (mt_ed e (x + 1) (y + 1)))) od) : wY_changes_73 post J3 J12 x1 x2 x3 x4 (nI (x + 1)) (nI (y + 1)) z0 fm fn a s tb od := by
  have l1 := yt_edle e x (y + 1)
  have l2 := yt_edle e (x + 1) y
  have l3 := yt_edle e x y
  have hz1 : z ≤ 1 := by rw [hz]; split <;> omega
  subst hz0
  unfold wY_changes_73
  rw [yt_ix3, yt_ix2, yt_ix, nI_clamp (n := x * 15 + (y + 1)) (by omega), nI_clamp (n := (x + 1) * 15 + y) (by omega), nI_clamp (n := x * 15 + y) (by omega), t1, t2, t3, nI_add]
  refine ⟨vp_in_nI (by omega) (by omega), vp_in_nI (by omega) (by omega), ?_⟩
  refine yl_min (by omega) (by omega) ?_
  refine nm_r (nI_1 _) ⟨vp_in_nI (by omega) (by omega), ?_⟩
  refine yl_min (by omega) (by omega) ?_
  refine yg_141 (w := mt_ed e (x + 1) (y + 1)) (by omega) (by omega) ?_ K
  rw [mt_eds, ← hz]
theorem yg_12 {e : Nat → Nat → Bool} {x : Nat} (hk : p + k ≤ 10) (hj : t + j ≤ 14) (he : ∀ x y, x < k → y < j → e x y = decide (a (p + x) = s (t + y))) (hx : x ≤ k)
    (K : ∀ tb : Nat → Int32, yt_I (mt_ed e) j (x + 1) 0 tb → J3 (nI (x + 1)) a s tb od) :
    ∀ (d y fuel : Nat) (tb : Nat → Int32), y + d = j + 1 → d < fuel → yt_I (mt_ed e) j x y tb → wY_changes_12 post J3 (nI p) (nI k) (nI t) (nI j) (nI x) fm fn fuel (nI y) a s tb od := by
  intro d
  induction d with
  | zero =>
    intro y fuel tb hy hf hI
    obtain ⟨q, rfl⟩ : ∃ q, fuel = q + 1 := ⟨fuel - 1, by omega⟩
    rw [wY_changes_12]
    have hy' : y = j + 1 := by omega
    rw [hy'] at hI ⊢
    exact br_t (nI_lt (by omega) (by omega)) (nm_r (nI_1 x) (K tb (yt_nx hI)))
  | succ d ih =>
    intro y fuel tb hy hf hI
    obtain ⟨q, rfl⟩ : ∃ q, fuel = q + 1 := ⟨fuel - 1, by omega⟩
    have nxt := ih (y + 1) q _ (by omega) (by omega) (yt_up (by omega) (by omega) hI)
    rw [wY_changes_12]
    refine br_f (nI_nlt (by omega) (by omega)) ?_
    refine pk_eq x 0 (fun h => ?_) (fun h => ?_)
    · subst h
      unfold wY_changes_31
      exact br_t (by decide) (yg_141 (x := 0) (w := mt_ed e 0 y) (by omega) (by omega) rfl nxt)
    · unfold wY_changes_31
      refine br_f (nI_nle (by omega) (by omega)) ?_
      refine pk_le y 0 (fun h2 => ?_) (fun h2 => ?_)
      · have h0 : y = 0 := by omega
        refine yg_141 (w := mt_ed e x y) (by omega) (by omega) ?_ nxt
        rw [h0, mt_edz]
      · obtain ⟨x', rfl⟩ : ∃ x', x = x' + 1 := ⟨x - 1, by omega⟩
        obtain ⟨y', rfl⟩ : ∃ y', y = y' + 1 := ⟨y - 1, by omega⟩
        have t1 := hI x' (y' + 1) (by omega) (by omega)
        have t2 := hI (x' + 1) y' (by omega) (by omega)
        have t3 := hI x' y' (by omega) (by omega)
        have hE := he x' y' (by omega) (by omega)
        rw [yt_ix4, yt_ix4, nI_clamp (n := p + x') (by omega), nI_clamp (n := t + y') (by omega)]
        refine ⟨vp_in_nI (by omega) (by omega), vp_in_nI (by omega) (by omega), br_c (fun h3 => ?_) (fun h3 => ?_)⟩
        · exact yg_73 (e := e) (z := 0) (by omega) (by omega) rfl (by rw [hE, if_pos (decide_eq_true h3)]) t1 t2 t3 nxt
        · exact yg_73 (e := e) (z := 1) (by omega) (by omega) rfl (by rw [hE, if_neg (fun z => h3 (of_decide_eq_true z))]) t1 t2 t3 nxt
theorem yg_3 {e : Nat → Nat → Bool} (hk : p + k ≤ 10) (hj : t + j ≤ 14) (he : ∀ x y, x < k → y < j → e x y = decide (a (p + x) = s (t + y)))
    (K : ∀ tb : Nat → Int32, post (nI (mt_ed e k j)) (fm, fn, a, s, tb, od)) :
    ∀ (d x fuel : Nat) (tb : Nat → Int32), x + d = k + 1 → d < fuel → yt_I (mt_ed e) j x 0 tb → wY_changes_3 post (nI p) (nI k) (nI t) (nI j) fm fn fuel (nI x) a s tb od := by
  intro d
  induction d with
  | zero =>
    intro x fuel tb hx hf hI
    obtain ⟨q, rfl⟩ : ∃ q, fuel = q + 1 := ⟨fuel - 1, by omega⟩
    rw [wY_changes_3]
    refine br_t (nI_lt (by omega) (by omega)) ?_
    rw [zi_ix k 15 j 15 rfl, nI_clamp (n := k * 15 + j) (by omega), hI k j (by omega) (by omega)]
    exact ⟨vp_in_nI (by omega) (by omega), K tb⟩
  | succ d ih =>
    intro x fuel tb hx hf hI
    obtain ⟨q, rfl⟩ : ∃ q, fuel = q + 1 := ⟨fuel - 1, by omega⟩
    rw [wY_changes_3]
    refine br_f (nI_nlt (by omega) (by omega)) ⟨j + 2, ?_⟩
    exact yg_12 hk hj he (by omega) (fun tb' h => ih (x + 1) q tb' (by omega) (by omega) h) (j + 1) 0 (j + 2) tb (by omega) (by omega) hI
theorem yg_changes {e : Nat → Nat → Bool} (hk : p + k ≤ 10) (hj : t + j ≤ 14) (he : ∀ x y, x < k → y < j → e x y = decide (a (p + x) = s (t + y)))
    (K : ∀ tb : Nat → Int32, post (nI (mt_ed e k j)) (fm, fn, a, s, tb, od)) : wpY_changes post (fm, fn, a, s, tb, od) (nI p) (nI k) (nI t) (nI j) := by
  unfold wpY_changes
  dsimp only
  exact ⟨k + 2, yg_3 hk hj he K (k + 1) 0 (k + 2) tb (by omega) (by omega) (fun x' y' _ h => by omega)⟩
end
end
section
/-! the relation, and what both sides answer -/
def rl_g (a s : Nat → Int32) (p t x y : Nat) : Bool := decide (a (p + x) = s (t + y))
def rl_R (m n : Nat) (a s ro co ri dn : Nat → Int32) : Prop :=
  m ≤ 10 ∧ n ≤ 14 ∧ (∀ i, i < m → a i ≠ 9) ∧ (∀ j, j < n → s j ≠ 9) ∧ xb_B (xl_E 0 n a s) 0 m n ro co ri dn ∧ xb_B (xl_E 1 n a s) 1 (2 * m) (2 * n) ro co ri dn
/-- both sides hold the same words; the plain and the spaced braid are combed; the third braid and the reference's tables are free -/
def i_Rel (_ : Nat) (u : SX) (v : SY) : Prop :=
  ∃ (m n : Nat) (a s ro co ri dn tb od : Nat → Int32), rl_R m n a s ro co ri dn ∧ u = (nI m, nI n, a, s, ro, co, ri, dn) ∧ v = (nI m, nI n, a, s, tb, od)
theorem rl_E0 (n : Nat) (a s : Nat → Int32) (x y : Nat) : xl_E 0 n a s x y = decide (a x = s y) := by
  simp [xl_E, xl_A, xl_B]
theorem rl_E1 {n p t i j : Nat} {a s : Nat → Int32} (ha : a (p + i / 2) ≠ 9) (hs : s (t + j / 2) ≠ 9) : xl_E 1 n a s (2 * p + i) (2 * t + j) = mt_sp (rl_g a s p t) i j := by
  have e1 : (2 * p + i) % 2 = i % 2 := by omega
  have e2 : (2 * t + j) % 2 = j % 2 := by omega
  have e3 : (2 * p + i) / 2 = p + i / 2 := by omega
  have e4 : (2 * t + j) / 2 = t + j / 2 := by omega
  have hA : xl_A 1 a (2 * p + i) = if i % 2 = 0 then 9 else a (p + i / 2) := by
    unfold xl_A
    rw [if_pos rfl, e1, e3]
  have hB : xl_B 1 n s (2 * t + j) = if j % 2 = 0 then 9 else s (t + j / 2) := by
    unfold xl_B
    rw [if_neg (by decide), if_pos rfl, e2, e4]
  unfold xl_E mt_sp rl_g
  rw [hA, hB]
  by_cases h1 : i % 2 = 0
  · rw [if_pos h1, if_pos h1]
    by_cases h2 : j % 2 = 0
    · rw [if_pos h2, decide_eq_true h2]
      exact decide_eq_true rfl
    · rw [if_neg h2, decide_eq_false h2]
      exact decide_eq_false (fun z => hs z.symm)
  · rw [if_neg h1, if_neg h1]
    by_cases h2 : j % 2 = 0
    · rw [if_pos h2, if_pos h2]
      exact decide_eq_false ha
    · rw [if_neg h2, if_neg h2]
/-! the same letters give the same matches -/
theorem rl_A {b m i : Nat} {a a' : Nat → Int32} (h : ∀ k, k < m → a k = a' k) (h1 : b = 1 → i < 2 * m) (h2 : b ≠ 1 → i < m) : xl_A b a i = xl_A b a' i := by
  unfold xl_A
  by_cases hb : b = 1
  · have := h1 hb
    rw [if_pos hb, if_pos hb, h (i / 2) (by omega)]
  · rw [if_neg hb, if_neg hb, h i (h2 hb)]
theorem rl_B {b n n' j : Nat} {s s' : Nat → Int32} (h : ∀ k, k < n → s k = s' k) (hb : b < 2) (h1 : b = 1 → j < 2 * n) (h0 : b = 0 → j < n) : xl_B b n s j = xl_B b n' s' j := by
  unfold xl_B
  by_cases hb0 : b = 0
  · rw [if_pos hb0, if_pos hb0, h j (h0 hb0)]
  · have hb1 : b = 1 := by omega
    have := h1 hb1
    rw [if_neg hb0, if_neg hb0, if_pos hb1, if_pos hb1, h (j / 2) (by omega)]
theorem rl_E0c {m n n' : Nat} {a a' s s' : Nat → Int32} (ha : ∀ k, k < m → a k = a' k) (hs : ∀ k, k < n → s k = s' k) : ∀ i j, i < m → j < n → xl_E 0 n a s i j = xl_E 0 n' a' s' i j := by
  intro i j hi hj
  unfold xl_E
  rw [rl_A (b := 0) ha (by omega) (fun _ => hi), rl_B (b := 0) (n' := n') hs (by omega) (by omega) (fun _ => hj)]
theorem rl_E1c {m n n' : Nat} {a a' s s' : Nat → Int32} (ha : ∀ k, k < m → a k = a' k) (hs : ∀ k, k < n → s k = s' k) : ∀ i j, i < 2 * m → j < 2 * n → xl_E 1 n a s i j = xl_E 1 n' a' s' i j := by
  intro i j hi hj
  unfold xl_E
  rw [rl_A (b := 1) ha (fun _ => hi) (by omega), rl_B (b := 1) (n' := n') hs (by omega) (fun _ => hj) (by omega)]
/-! the component's answers -/
def rl_F (m : Nat) (a s : Nat → Int32) (i j : Nat) : Nat := mt_lc (rl_g a s 0 i) m (j - i)
def rl_C (m : Nat) (a s : Nat → Int32) (i j : Nat) : Nat := mt_ed (rl_g a s 0 i) m (j - i)
section
variable {m n : Nat} {a s ro co ri dn tb od : Nat → Int32}
theorem xo_F {post : Int32 → Prop} {i j : Nat} (R : rl_R m n a s ro co ri dn) (hi : i ≤ j) (hj : j ≤ n) (K : post (nI (rl_F m a s i j))) : wpX_common post (nI m, nI n, a, s, ro, co, ri, dn) 0 (nI i) (nI j) := by
  obtain ⟨hm, hn, ha, hs, B0, B1⟩ := R
  refine xv_B (b := 0) (by omega) (by omega) (by omega) B0 hi hj ?_
  have e : mt_lc (fun x y => xl_E 0 n a s x (i + y)) m (j - i) = rl_F m a s i j := mt_lcc _ _ (fun x y _ _ => by rw [rl_E0]; unfold rl_g; rw [Nat.zero_add])
  rw [e]
  exact K
theorem xo_C {post : Int32 → Prop} {i j : Nat} (R : rl_R m n a s ro co ri dn) (hi : i ≤ j) (hj : j ≤ n) (K : post (nI (rl_C m a s i j))) : wpX_changes post (nI m, nI n, a, s, ro, co, ri, dn) (nI i) (nI j) := by
  obtain ⟨hm, hn, ha, hs, B0, B1⟩ := R
  unfold wpX_changes
  dsimp only
  rw [xa_2, xa_2]
  refine xv_B (b := 1) (by omega) (by omega) (by omega) B1 (by omega) (by omega) ?_
  have e : mt_lc (fun x y => xl_E 1 n a s x (2 * i + y)) (2 * m) (2 * j - 2 * i) = mt_lc (mt_sp (rl_g a s 0 i)) (2 * m) (2 * (j - i)) := by
    have e1 : 2 * j - 2 * i = 2 * (j - i) := by omega
    rw [e1]
    refine mt_lcc _ _ (fun x y hx hy => ?_)
    have := rl_E1 (n := n) (p := 0) (t := i) (i := x) (j := y) (a := a) (s := s) (ha _ (by omega)) (hs _ (by omega))
    rw [Nat.mul_zero, Nat.zero_add] at this
    exact this
  have e2 := mt_spl (rl_g a s 0 i) m (j - i)
  rw [e, nI_add, pk_sub (by omega), pk_sub (by omega)]
  have e3 : m + j - i - mt_lc (mt_sp (rl_g a s 0 i)) (2 * m) (2 * (j - i)) = rl_C m a s i j := by unfold rl_C; omega
  rw [e3]
  exact K
/-! the reference's answers -/
theorem yo_F {post : Int32 → SY → Prop} {i j : Nat} {w : Int32} (hm : m ≤ 10) (hn : n ≤ 14) (hi : i ≤ j) (hj : j ≤ n) (hw : w = nI (j - i)) (K : ∀ tb : Nat → Int32, post (nI (rl_F m a s i j)) (nI m, nI n, a, s, tb, od)) : wpY_common post (nI m, nI n, a, s, tb, od) 0 (nI m) (nI i) w := by
  subst hw
  refine yc_common (e := rl_g a s 0 i) (p := 0) (by omega) (by omega) (by omega) hn (by omega) (fun x y hx hy => ?_) K
  unfold rl_g
  rw [Nat.mod_eq_of_lt (by omega)]
theorem yo_C {post : Int32 → SY → Prop} {i j : Nat} {w : Int32} (hm : m ≤ 10) (hn : n ≤ 14) (hi : i ≤ j) (hj : j ≤ n) (hw : w = nI (j - i)) (K : ∀ tb : Nat → Int32, post (nI (rl_C m a s i j)) (nI m, nI n, a, s, tb, od)) : wpY_changes post (nI m, nI n, a, s, tb, od) 0 (nI m) (nI i) w := by
  subst hw
  exact yg_changes (e := rl_g a s 0 i) (p := 0) (by omega) (by omega) (fun x y hx hy => rfl) K
end
/-! checks of arguments -/
theorem rs_lt (c : Int32) : (c ≠ 9 ∧ (∀ (post : Int32 → Prop) (u : SX), post 0 → wpX_badLetter post u c) ∧ (∀ (post : Int32 → Prop) (u : SY), post 1 → wpY_isLetter post u c)) ∨ ((∀ (post : Int32 → Prop) (u : SX), post 1 → wpX_badLetter post u c) ∧ (∀ (post : Int32 → Prop) (u : SY), post 0 → wpY_isLetter post u c)) := by
  by_cases h0 : c < 0
  · exact Or.inr ⟨fun post u h => br_t h0 h, fun post u h => br_t h0 h⟩
  · by_cases h3 : c ≤ 3
    · have h3' : ¬ 3 < c := Int32.not_lt.mpr h3
      refine Or.inl ⟨fun z => ?_, fun post u h => br_f h0 (br_t h3 h), fun post u h => br_f h0 (br_f h3' h)⟩
      rw [z] at h3
      exact absurd h3 (by decide)
    · have h3' : 3 < c := Int32.not_le.mp h3
      exact Or.inr ⟨fun post u h => br_f h0 (br_f h3 h), fun post u h => br_f h0 (br_t h3' h)⟩
theorem rs_ok {i j L : Nat} (hi : i ≤ j) (hj : j ≤ L) (hL : L < 100) : (∀ (post : Int32 → Prop) (u : SX), post 0 → wpX_badStretch post u (nI i) (nI j) (nI L)) ∧ (∀ (post : Int32 → Prop) (u : SY), post 1 → wpY_isStretch post u (nI i) (nI j) (nI L)) :=
  ⟨fun post u h => br_f (nI_pos (by omega)) (br_f (nI_nlt hi (by omega)) (br_t (nI_le hj (by omega)) h)), fun post u h => br_f (nI_pos (by omega)) (br_f (nI_nlt hi (by omega)) (br_f (nI_nlt hj (by omega)) h))⟩
theorem rs_st (v1 v2 : Int32) {L : Nat} (hL : L < 100) : (∃ i j : Nat, v1 = nI i ∧ v2 = nI j ∧ i ≤ j ∧ j ≤ L) ∨ ((∀ (post : Int32 → Prop) (u : SX), post 1 → wpX_badStretch post u v1 v2 (nI L)) ∧ (∀ (post : Int32 → Prop) (u : SY), post 0 → wpY_isStretch post u v1 v2 (nI L))) := by
  by_cases h0 : v1 < 0
  · exact Or.inr ⟨fun post u h => br_t h0 h, fun post u h => br_t h0 h⟩
  · by_cases h1 : v2 < v1
    · exact Or.inr ⟨fun post u h => br_f h0 (br_t h1 h), fun post u h => br_f h0 (br_t h1 h)⟩
    · by_cases h2 : v2 ≤ nI L
      · have h3 : ¬ v2 < 0 := Int32.not_lt.mpr (Int32.le_trans (Int32.not_lt.mp h0) (Int32.not_lt.mp h1))
        obtain ⟨i, hi, rfl⟩ := nI_of h0
        obtain ⟨j, hj, rfl⟩ := nI_of h3
        rw [nI_leI hj (by omega)] at h2
        rw [nI_ltI hj hi] at h1
        exact Or.inl ⟨i, j, rfl, rfl, by omega, h2⟩
      · have h3 : nI L < v2 := Int32.not_le.mp h2
        exact Or.inr ⟨fun post u h => br_f h0 (br_f h1 (br_f h2 h)), fun post u h => br_f h0 (br_f h1 (br_t h3 h))⟩
end
section
/-! the words: growing, putting, shifting, clearing -/
theorem i_up {k : Nat} {u : SX} {v : SY} (h : i_Rel k u v) : i_Rel (k + 3) u v := h
theorem i_vc0 : wpX_init (fun u => wpY_init (fun v => i_Rel 0 u v)) := by
  refine ⟨0, 0, fun _ => 0, fun _ => 0, fun _ => 0, fun _ => 0, fun _ => 0, fun _ => 0, fun _ => 0, fun _ => 0, ⟨by omega, by omega, fun i hi => by omega, fun j hj => by omega, ⟨rfl, rfl, fun i hi => by omega, fun j hj => by omega⟩, ⟨rfl, rfl, fun i hi => by omega, fun j hj => by omega⟩⟩, rfl, rfl⟩
theorem i_vc_growA {k : Nat} {u : SX} {v : SY} (I : i_Rel k u v) (hk : k + 3 ≤ 1536) (v1 : Int32) : wpX_growA (fun r u' => wpY_growA (fun r' v' => r' = r ∧ i_Rel (k + 3) u' v') v v1) u v1 := by
  have I' := i_up I
  obtain ⟨m, n, a, s, ro, co, ri, dn, tb, od, R, rfl, rfl⟩ := I
  unfold wpX_growA
  dsimp only
  rcases rs_lt v1 with ⟨h9, hX, hY⟩ | ⟨hX, hY⟩
  · refine hX _ _ (br_t rfl ?_)
    obtain ⟨hm, hn, ha, hs, B0, B1⟩ := R
    refine pk_eq m 10 (fun h => ?_) (fun h => ?_)
    · unfold wpY_growA
      dsimp only
      refine hY _ _ (br_f (by decide) (br_t ?_ ⟨rfl, I'⟩))
      rw [h]
      rfl
    · have hu : ∀ i, i < m → a i = upd a m v1 i := fun i hi => (pk_un (by omega)).symm
      rw [nI_clamp (n := m) (by omega)]
      refine ⟨vp_in_nI (by omega) (by omega), nm_e (nm_r (nI_1 m) ?_)⟩
      have B0' := xb_Bc B0 (rl_E0c (n' := n) hu (fun _ _ => rfl))
      have B1' := xb_Bc B1 (rl_E1c (n' := n) hu (fun _ _ => rfl))
      refine xr_addRow (b := 0) (by omega) (by omega) (by omega) hn (by omega) (by omega) (by omega) B0' ?_
      intro ro1 ri1 dn1 C0 F0
      refine xr_addRow (b := 1) (by omega) (by omega) (by omega) hn (by omega) (by omega) (by omega) (xb_BF (by omega) (by omega) (by omega) B1' F0) ?_
      intro ro2 ri2 dn2 C1 F1
      refine xr_addRow (b := 1) (by omega) (by omega) (by omega) hn (by omega) (by omega) (by omega) C1 ?_
      intro ro3 ri3 dn3 C2 F2
      dsimp only
      unfold wpY_growA
      dsimp only
      refine hY _ _ (br_f (by decide) (br_f ?_ ?_))
      · exact fun z => h ((nI_eq (b := 10) (by omega) (by omega)).mp z)
      · rw [nI_clamp (n := m) (by omega)]
        refine ⟨vp_in_nI (by omega) (by omega), nm_e (nm_r (nI_1 m) ⟨rfl, ?_⟩)⟩
        refine ⟨m + 1, n, upd a m v1, s, ro3, co, ri3, dn3, tb, od, ⟨by omega, hn, fun i hi => ?_, hs, ?_, ?_⟩, rfl, rfl⟩
        · by_cases e : i = m
          · rw [e, pk_us]
            exact h9
          · rw [pk_un e]
            exact ha i (by omega)
        · exact xb_BF (by omega) (by omega) (by omega) C0 (xb_Ftr F1 F2)
        · exact C2
  · refine hX _ _ (br_f (by decide) ?_)
    unfold wpY_growA
    dsimp only
    exact hY _ _ (br_t rfl ⟨rfl, I'⟩)
theorem i_vc_growB {k : Nat} {u : SX} {v : SY} (I : i_Rel k u v) (hk : k + 3 ≤ 1536) (v1 : Int32) : wpX_growB (fun r u' => wpY_growB (fun r' v' => r' = r ∧ i_Rel (k + 3) u' v') v v1) u v1 := by
  have I' := i_up I
  obtain ⟨m, n, a, s, ro, co, ri, dn, tb, od, R, rfl, rfl⟩ := I
  unfold wpX_growB
  dsimp only
  rcases rs_lt v1 with ⟨h9, hX, hY⟩ | ⟨hX, hY⟩
  · refine hX _ _ (br_t rfl ?_)
    obtain ⟨hm, hn, ha, hs, B0, B1⟩ := R
    refine pk_eq n 14 (fun h => ?_) (fun h => ?_)
    · unfold wpY_growB
      dsimp only
      refine hY _ _ (br_f (by decide) (br_t ?_ ⟨rfl, I'⟩))
      rw [h]
      rfl
    · have hu : ∀ i, i < n → s i = upd s n v1 i := fun i hi => (pk_un (by omega)).symm
      rw [nI_clamp (n := n) (by omega)]
      refine ⟨vp_in_nI (by omega) (by omega), nm_e (nm_r (nI_1 n) ?_)⟩
      have B0' := xb_Bc B0 (rl_E0c (n' := n + 1) (fun _ _ => rfl) hu)
      have B1' := xb_Bc B1 (rl_E1c (n' := n + 1) (fun _ _ => rfl) hu)
      refine xk_addColumn (b := 0) (by omega) (by omega) (by omega) (by omega) (by omega) (by omega) (by omega) B0' ?_
      intro co1 ri1 dn1 C0 F0
      refine xk_addColumn (b := 1) (by omega) (by omega) (by omega) (by omega) (by omega) (by omega) (by omega) (xb_BF (by omega) (by omega) (by omega) B1' F0) ?_
      intro co2 ri2 dn2 C1 F1
      refine xk_addColumn (b := 1) (by omega) (by omega) (by omega) (by omega) (by omega) (by omega) (by omega) C1 ?_
      intro co3 ri3 dn3 C2 F2
      dsimp only
      unfold wpY_growB
      dsimp only
      refine hY _ _ (br_f (by decide) (br_f ?_ ?_))
      · exact fun z => h ((nI_eq (b := 14) (by omega) (by omega)).mp z)
      · rw [nI_clamp (n := n) (by omega)]
        refine ⟨vp_in_nI (by omega) (by omega), nm_e (nm_r (nI_1 n) ⟨rfl, ?_⟩)⟩
        refine ⟨m, n + 1, a, upd s n v1, ro, co3, ri3, dn3, tb, od, ⟨hm, by omega, ha, fun i hi => ?_, ?_, ?_⟩, rfl, rfl⟩
        · by_cases e : i = n
          · rw [e, pk_us]
            exact h9
          · rw [pk_un e]
            exact hs i (by omega)
        · exact xb_BF (by omega) (by omega) (by omega) C0 (xb_Ftr F1 F2)
        · exact C2
  · refine hX _ _ (br_f (by decide) ?_)
    unfold wpY_growB
    dsimp only
    exact hY _ _ (br_t rfl ⟨rfl, I'⟩)
theorem i_vc_putA {k : Nat} {u : SX} {v : SY} (I : i_Rel k u v) (hk : k + 3 ≤ 1536) (v1 : Int32) (v2 : Int32) : wpX_putA (fun r u' => wpY_putA (fun r' v' => r' = r ∧ i_Rel (k + 3) u' v') v v1 v2) u v1 v2 := by
  have I' := i_up I
  obtain ⟨m, n, a, s, ro, co, ri, dn, tb, od, R, rfl, rfl⟩ := I
  unfold wpX_putA
  dsimp only
  refine br_c (fun h0 => ?_) (fun h0 => ?_)
  · unfold wpY_putA
    exact br_t h0 ⟨rfl, I'⟩
  · refine br_c (fun h1 => ?_) (fun h1 => ?_)
    · unfold wpY_putA
      exact br_f h0 (br_t h1 ⟨rfl, I'⟩)
    · rcases rs_lt v2 with ⟨h9, hX, hY⟩ | ⟨hX, hY⟩
      · obtain ⟨hm, hn, ha, hs, B0, B1⟩ := R
        obtain ⟨i, hi, rfl⟩ := nI_of h0
        have him : i < m := by
          rw [nI_leI (by omega) hi] at h1
          omega
        have fin : ∀ ro' co' ri' dn' : Nat → Int32, rl_R m n (upd a i v2) s ro' co' ri' dn' → wpY_putA (fun r' v' => r' = a i ∧ i_Rel (k + 3) (nI m, nI n, upd a i v2, s, ro', co', ri', dn') v') (nI m, nI n, a, s, tb, od) (nI i) v2 := by
          intro ro' co' ri' dn' R'
          unfold wpY_putA
          refine br_f h0 (br_f h1 (hY _ _ (br_f (by decide) ?_)))
          rw [nI_clamp (n := i) (by omega)]
          exact ⟨vp_in_nI (by omega) (by omega), nm_e ⟨vp_in_nI (by omega) (by omega), nm_e ⟨rfl, m, n, upd a i v2, s, ro', co', ri', dn', tb, od, R', rfl, rfl⟩⟩⟩
        have hl : ∀ j, j < m → upd a i v2 j ≠ 9 := by
          intro j hj
          by_cases e : j = i
          · rw [e, pk_us]
            exact h9
          · rw [pk_un e]
            exact ha j hj
        refine hX _ _ (br_t rfl ?_)
        rw [nI_clamp (n := i) (by omega)]
        refine ⟨vp_in_nI (by omega) (by omega), nm_e ⟨vp_in_nI (by omega) (by omega), nm_e ?_⟩⟩
        refine br_c (fun h2 => ?_) (fun h2 => ?_)
        · refine fin ro co ri dn ?_
          rw [zi_us h2]
          exact ⟨hm, hn, ha, hs, B0, B1⟩
        · refine xa_again hm hn ?_
          intro ro' co' ri' dn' C0 C1
          exact fin ro' co' ri' dn' ⟨hm, hn, hl, hs, C0, C1⟩
      · refine hX _ _ (br_f (by decide) ?_)
        unfold wpY_putA
        exact br_f h0 (br_f h1 (hY _ _ (br_t rfl ⟨rfl, I'⟩)))
/-! shifting -/
def sf_s (s : Nat → Int32) (j k : Nat) : Int32 := if k < j then s (k + 1) else s k
theorem sf_0 (s : Nat → Int32) : sf_s s 0 = s := by
  funext k
  exact if_neg (by omega)
theorem sf_up (s : Nat → Int32) (j : Nat) : upd (sf_s s j) j (sf_s s j (j + 1)) = sf_s s (j + 1) := by
  funext k
  by_cases e : k = j
  · subst e
    rw [pk_us]
    unfold sf_s
    rw [if_neg (by omega), if_pos (by omega)]
  · rw [pk_un e]
    unfold sf_s
    by_cases h : k < j
    · rw [if_pos h, if_pos (by omega)]
    · rw [if_neg h, if_neg (by omega)]
theorem sf_X {post : Int32 → SX → Prop} {x1 : Int32} {m N : Nat} {a s ro co ri dn : Nat → Int32} (hN : N < 14) (K : wpX_combAgain (fun u => match u with | (f_m_6, f_n_7, a_a_8, a_b_9, a_rows_10, a_columns_11, a_right_12, a_down_13) => post x1 (f_m_6, f_n_7, a_a_8, a_b_9, a_rows_10, a_columns_11, a_right_12, a_down_13)) (nI m, nI N, a, sf_s s N, ro, co, ri, dn)) :
    ∀ d j fuel : Nat, j + d = N → d < fuel → wX_shiftB_29 post x1 (nI m) (nI N) fuel (nI j) a (sf_s s j) ro co ri dn := by
  intro d
  induction d with
  | zero =>
    intro j fuel hj hf
    obtain ⟨q, rfl⟩ : ∃ q, fuel = q + 1 := ⟨fuel - 1, by omega⟩
    rw [wX_shiftB_29]
    have hj' : j = N := by omega
    rw [hj']
    exact br_t (nI_le (Nat.le_refl _) (by omega)) K
  | succ d ih =>
    intro j fuel hj hf
    obtain ⟨q, rfl⟩ : ∃ q, fuel = q + 1 := ⟨fuel - 1, by omega⟩
    rw [wX_shiftB_29]
    refine br_f (nI_ge (by omega) (by omega)) ?_
    rw [nI_1 j, nI_clamp (n := j) (by omega), nI_clamp (n := j + 1) (by omega), sf_up]
    exact ⟨vp_in_nI (by omega) (by omega), vp_in_nI (by omega) (by omega), nm_e (nm_e (ih (j + 1) q (by omega) (by omega)))⟩
theorem sf_Y {post : Int32 → SY → Prop} {x1 : Int32} {m n : Nat} {a s tb od : Nat → Int32} (hn : n ≤ 14) (h1 : 1 ≤ n) (K : post x1 (nI m, nI (n - 1), a, sf_s s (n - 1), tb, od)) :
    ∀ d j fuel : Nat, j + d = n - 1 → d < fuel → wY_shiftB_19 post x1 (nI m) (nI n) fuel (nI (j + 1)) a (sf_s s j) tb od := by
  intro d
  induction d with
  | zero =>
    intro j fuel hj hf
    obtain ⟨q, rfl⟩ : ∃ q, fuel = q + 1 := ⟨fuel - 1, by omega⟩
    rw [wY_shiftB_19]
    have hj' : j = n - 1 := by omega
    rw [hj']
    exact br_t (nI_le (by omega) (by omega)) (nm_r (zi_s1 h1) K)
  | succ d ih =>
    intro j fuel hj hf
    obtain ⟨q, rfl⟩ : ∃ q, fuel = q + 1 := ⟨fuel - 1, by omega⟩
    rw [wY_shiftB_19]
    refine br_f (nI_ge (by omega) (by omega)) ?_
    rw [nI_pred, nI_clamp (n := j) (by omega), nI_clamp (n := j + 1) (by omega), sf_up]
    exact ⟨vp_in_nI (by omega) (by omega), vp_in_nI (by omega) (by omega), nm_e (nm_r (nI_1 (j + 1)) (ih (j + 1) q (by omega) (by omega)))⟩
theorem i_vc_shiftB {k : Nat} {u : SX} {v : SY} (I : i_Rel k u v) (hk : k + 3 ≤ 1536) : wpX_shiftB (fun r u' => wpY_shiftB (fun r' v' => r' = r ∧ i_Rel (k + 3) u' v') v) u := by
  have I' := i_up I
  obtain ⟨m, n, a, s, ro, co, ri, dn, tb, od, R, rfl, rfl⟩ := I
  obtain ⟨hm, hn, ha, hs, B0, B1⟩ := R
  unfold wpX_shiftB
  dsimp only
  refine pk_eq n 0 (fun h => ?_) (fun h => ?_)
  · unfold wpY_shiftB
    refine br_t ?_ ⟨rfl, I'⟩
    rw [h]
    rfl
  · refine nm_e (nm_r (zi_s1 (by omega)) ⟨n, ?_⟩)
    have hX := fun K => sf_X (post := (fun r u' => wpY_shiftB (fun r' v' => r' = r ∧ i_Rel (k + 3) u' v') (nI m, nI n, a, s, tb, od))) (x1 := s 0) (m := m) (N := n - 1) (a := a) (s := s) (ro := ro) (co := co) (ri := ri) (dn := dn) (by omega) K (n - 1) 0 n (by omega) (by omega)
    rw [sf_0] at hX
    refine hX ?_
    refine xa_again hm (by omega) ?_
    intro ro' co' ri' dn' C0 C1
    dsimp only
    unfold wpY_shiftB
    dsimp only
    refine br_f (nI_ne0 (by omega) (by omega)) (nm_e ⟨n, ?_⟩)
    have hY := fun K => sf_Y (post := (fun r' v' => r' = s 0 ∧ i_Rel (k + 3) (nI m, nI (n - 1), a, sf_s s (n - 1), ro', co', ri', dn') v')) (x1 := s 0) (m := m) (n := n) (a := a) (s := s) (tb := tb) (od := od) hn (by omega) K (n - 1) 0 n (by omega) (by omega)
    rw [sf_0] at hY
    refine hY ⟨rfl, m, n - 1, a, sf_s s (n - 1), ro', co', ri', dn', tb, od, ⟨hm, by omega, ha, fun j hj => ?_, C0, C1⟩, rfl, rfl⟩
    unfold sf_s
    rw [if_pos hj]
    exact hs (j + 1) (by omega)
theorem i_vc_clear {k : Nat} {u : SX} {v : SY} (I : i_Rel k u v) (hk : k + 3 ≤ 1536) : wpX_clear (fun u' => wpY_clear (fun v' => i_Rel (k + 3) u' v') v) u := by
  obtain ⟨m, n, a, s, ro, co, ri, dn, tb, od, R, rfl, rfl⟩ := I
  unfold wpX_clear
  dsimp only
  refine xa_again (m := 0) (n := 0) (by omega) (by omega) ?_
  intro ro' co' ri' dn' C0 C1
  exact ⟨0, 0, a, s, ro', co', ri', dn', tb, od, ⟨by omega, by omega, fun i hi => by omega, fun i hi => by omega, C0, C1⟩, rfl, rfl⟩
theorem i_vc_lengths {k : Nat} {u : SX} {v : SY} (I : i_Rel k u v) (hk : k + 3 ≤ 1536) : wpX_lengths (fun r => wpY_lengths (fun r' => r' = r ∧ i_Rel (k + 3) u v) v) u := by
  have I' := i_up I
  obtain ⟨m, n, a, s, ro, co, ri, dn, tb, od, R, rfl, rfl⟩ := I
  exact ⟨rfl, I'⟩
end
section
/-! common subwords and changes of stretches -/
theorem i_vc_commonB {k : Nat} {u : SX} {v : SY} (I : i_Rel k u v) (hk : k + 3 ≤ 1536) (v1 : Int32) (v2 : Int32) : wpX_commonB (fun r => wpY_commonB (fun r' v' => r' = r ∧ i_Rel (k + 3) u v') v v1 v2) u v1 v2 := by
  have I' := i_up I
  obtain ⟨m, n, a, s, ro, co, ri, dn, tb, od, R, rfl, rfl⟩ := I
  have hm := R.1
  have hn := R.2.1
  unfold wpX_commonB
  dsimp only
  rcases rs_st v1 v2 (L := n) (by omega) with ⟨i, j, rfl, rfl, hi, hj⟩ | ⟨hX, hY⟩
  · obtain ⟨hX, hY⟩ := rs_ok hi hj (by omega)
    refine hX _ _ (br_t rfl (xo_F R hi hj ?_))
    unfold wpY_commonB
    dsimp only
    refine hY _ _ (br_f (by decide) ?_)
    refine yo_F hm hn hi hj (pk_sub hi) ?_
    intro tb'
    exact ⟨rfl, m, n, a, s, ro, co, ri, dn, tb', od, R, rfl, rfl⟩
  · refine hX _ _ (br_f (by decide) ?_)
    unfold wpY_commonB
    exact hY _ _ (br_t rfl ⟨rfl, I'⟩)
theorem i_vc_commonA {k : Nat} {u : SX} {v : SY} (I : i_Rel k u v) (hk : k + 3 ≤ 1536) (v1 : Int32) (v2 : Int32) : wpX_commonA (fun r => wpY_commonA (fun r' v' => r' = r ∧ i_Rel (k + 3) u v') v v1 v2) u v1 v2 := by
  have I' := i_up I
  obtain ⟨m, n, a, s, ro, co, ri, dn, tb, od, R, rfl, rfl⟩ := I
  have R' := R
  obtain ⟨hm, hn, ha, hs, B0, B1⟩ := R
  unfold wpX_commonA
  dsimp only
  rcases rs_st v1 v2 (L := m) (by omega) with ⟨i, j, rfl, rfl, hi, hj⟩ | ⟨hX, hY⟩
  · obtain ⟨hX, hY⟩ := rs_ok hi hj (by omega)
    refine hX _ _ (br_t rfl (xv_A (b := 0) (by omega) (by omega) (by omega) B0 hi hj ?_))
    unfold wpY_commonA
    dsimp only
    refine hY _ _ (br_f (by decide) ?_)
    rw [pk_sub hi]
    refine yc_common (e := fun x y => xl_E 0 n a s (i + x) y) (t := 0) (by omega) (by omega) (by omega) hn (by omega) (fun x y hx hy => ?_) ?_
    · rw [rl_E0, Nat.zero_add, Nat.mod_eq_of_lt hy]
    · intro tb'
      exact ⟨rfl, m, n, a, s, ro, co, ri, dn, tb', od, R', rfl, rfl⟩
  · refine hX _ _ (br_f (by decide) ?_)
    unfold wpY_commonA
    exact hY _ _ (br_t rfl ⟨rfl, I'⟩)
theorem i_vc_changesB {k : Nat} {u : SX} {v : SY} (I : i_Rel k u v) (hk : k + 3 ≤ 1536) (v1 : Int32) (v2 : Int32) : wpX_changesB (fun r => wpY_changesB (fun r' v' => r' = r ∧ i_Rel (k + 3) u v') v v1 v2) u v1 v2 := by
  have I' := i_up I
  obtain ⟨m, n, a, s, ro, co, ri, dn, tb, od, R, rfl, rfl⟩ := I
  have hm := R.1
  have hn := R.2.1
  unfold wpX_changesB
  dsimp only
  rcases rs_st v1 v2 (L := n) (by omega) with ⟨i, j, rfl, rfl, hi, hj⟩ | ⟨hX, hY⟩
  · obtain ⟨hX, hY⟩ := rs_ok hi hj (by omega)
    refine hX _ _ (br_t rfl (xo_C R hi hj ?_))
    unfold wpY_changesB
    dsimp only
    refine hY _ _ (br_f (by decide) ?_)
    refine yo_C hm hn hi hj (pk_sub hi) ?_
    intro tb'
    exact ⟨rfl, m, n, a, s, ro, co, ri, dn, tb', od, R, rfl, rfl⟩
  · refine hX _ _ (br_f (by decide) ?_)
    unfold wpY_changesB
    exact hY _ _ (br_t rfl ⟨rfl, I'⟩)
theorem i_vc_changesA {k : Nat} {u : SX} {v : SY} (I : i_Rel k u v) (hk : k + 3 ≤ 1536) (v1 : Int32) (v2 : Int32) : wpX_changesA (fun r => wpY_changesA (fun r' v' => r' = r ∧ i_Rel (k + 3) u v') v v1 v2) u v1 v2 := by
  have I' := i_up I
  obtain ⟨m, n, a, s, ro, co, ri, dn, tb, od, R, rfl, rfl⟩ := I
  have R' := R
  obtain ⟨hm, hn, ha, hs, B0, B1⟩ := R
  unfold wpX_changesA
  dsimp only
  rcases rs_st v1 v2 (L := m) (by omega) with ⟨i, j, rfl, rfl, hi, hj⟩ | ⟨hX, hY⟩
  · obtain ⟨hX, hY⟩ := rs_ok hi hj (by omega)
    refine hX _ _ (br_t rfl ?_)
    rw [xa_2, xa_2]
    refine xv_A (b := 1) (by omega) (by omega) (by omega) B1 (by omega) (by omega) ?_
    have e : mt_lc (fun x y => xl_E 1 n a s (2 * i + x) y) (2 * j - 2 * i) (2 * n) = mt_lc (mt_sp (rl_g a s i 0)) (2 * (j - i)) (2 * n) := by
      have e1 : 2 * j - 2 * i = 2 * (j - i) := by omega
      rw [e1]
      refine mt_lcc _ _ (fun x y hx hy => ?_)
      have := rl_E1 (n := n) (p := i) (t := 0) (i := x) (j := y) (a := a) (s := s) (ha _ (by omega)) (hs _ (by omega))
      rw [Nat.mul_zero, Nat.zero_add] at this
      exact this
    have e2 := mt_spl (rl_g a s i 0) (j - i) n
    rw [e, nI_add, pk_sub (by omega), pk_sub (by omega)]
    have e3 : n + j - i - mt_lc (mt_sp (rl_g a s i 0)) (2 * (j - i)) (2 * n) = mt_ed (rl_g a s i 0) (j - i) n := by omega
    rw [e3]
    unfold wpY_changesA
    dsimp only
    refine hY _ _ (br_f (by decide) ?_)
    rw [pk_sub hi]
    refine yg_changes (e := rl_g a s i 0) (t := 0) (by omega) (by omega) (fun x y hx hy => rfl) ?_
    intro tb'
    exact ⟨rfl, m, n, a, s, ro, co, ri, dn, tb', od, R', rfl, rfl⟩
  · refine hX _ _ (br_f (by decide) ?_)
    unfold wpY_changesA
    exact hY _ _ (br_t rfl ⟨rfl, I'⟩)
theorem i_vc_commonEnd {k : Nat} {u : SX} {v : SY} (I : i_Rel k u v) (hk : k + 3 ≤ 1536) (v1 : Int32) (v2 : Int32) : wpX_commonEnd (fun r => wpY_commonEnd (fun r' v' => r' = r ∧ i_Rel (k + 3) u v') v v1 v2) u v1 v2 := by
  have I' := i_up I
  obtain ⟨m, n, a, s, ro, co, ri, dn, tb, od, R, rfl, rfl⟩ := I
  have R' := R
  obtain ⟨hm, hn, ha, hs, B0, B1⟩ := R
  unfold wpX_commonEnd wpX_badCounts wpY_commonEnd
  dsimp only
  refine br_c (fun h0 => br_f (by decide) (br_t h0 ⟨rfl, I'⟩)) (fun h0 => ?_)
  refine br_c (fun h1 => br_f (by decide) (br_f h0 (br_t h1 ⟨rfl, I'⟩))) (fun h1 => ?_)
  refine br_c (fun h2 => br_f (by decide) (br_f h0 (br_f h1 (br_t h2 ⟨rfl, I'⟩)))) (fun h2 => ?_)
  refine br_c (fun h3 => br_t rfl ?_) (fun h3 => br_f (by decide) (br_f h0 (br_f h1 (br_f h2 (br_f h3 ⟨rfl, I'⟩)))))
  obtain ⟨x, hx, rfl⟩ := nI_of h0
  obtain ⟨y, hy, rfl⟩ := nI_of h2
  have hxm : x ≤ m := by
    rw [nI_ltI (by omega) hx] at h1
    omega
  have hyn : y ≤ n := by
    rw [nI_leI hy (by omega)] at h3
    exact h3
  refine nm_r (pk_sub hxm) ?_
  refine xv_common (b := 0) (f := -((m - x : Nat) : Int)) (t := (y : Int)) (by omega) (by omega) (by omega) B0 (by omega) (by omega) (by rw [← zi_n, zi_neg]) (zi_n y).symm ?_
  rw [mt_vE _ m n (m - x) y (by omega) hyn, zi_n, pk_sub (by omega)]
  refine br_f h0 (br_f h1 (br_f h2 (br_t h3 ?_)))
  rw [pk_sub hxm]
  refine yc_common (e := fun i j => xl_E 0 n a s (m - x + i) j) (t := 0) (by omega) (by omega) (by omega) hn (by omega) (fun i j hi hj => ?_) ?_
  · rw [rl_E0, Nat.zero_add, Nat.mod_eq_of_lt (by omega)]
  · intro tb'
    refine ⟨?_, m, n, a, s, ro, co, ri, dn, tb', od, R', rfl, rfl⟩
    have e : m - (m - x) = x := by omega
    rw [e, Nat.add_sub_cancel_left]
theorem i_vc_commonBegin {k : Nat} {u : SX} {v : SY} (I : i_Rel k u v) (hk : k + 3 ≤ 1536) (v1 : Int32) (v2 : Int32) : wpX_commonBegin (fun r => wpY_commonBegin (fun r' v' => r' = r ∧ i_Rel (k + 3) u v') v v1 v2) u v1 v2 := by
  have I' := i_up I
  obtain ⟨m, n, a, s, ro, co, ri, dn, tb, od, R, rfl, rfl⟩ := I
  have R' := R
  obtain ⟨hm, hn, ha, hs, B0, B1⟩ := R
  unfold wpX_commonBegin wpX_badCounts wpY_commonBegin
  dsimp only
  refine br_c (fun h0 => br_f (by decide) (br_t h0 ⟨rfl, I'⟩)) (fun h0 => ?_)
  refine br_c (fun h1 => br_f (by decide) (br_f h0 (br_t h1 ⟨rfl, I'⟩))) (fun h1 => ?_)
  refine br_c (fun h2 => br_f (by decide) (br_f h0 (br_f h1 (br_t h2 ⟨rfl, I'⟩)))) (fun h2 => ?_)
  refine br_c (fun h3 => br_t rfl ?_) (fun h3 => br_f (by decide) (br_f h0 (br_f h1 (br_f h2 (br_f h3 ⟨rfl, I'⟩)))))
  obtain ⟨x, hx, rfl⟩ := nI_of h0
  obtain ⟨y, hy, rfl⟩ := nI_of h2
  have hxm : x ≤ m := by
    rw [nI_ltI (by omega) hx] at h1
    omega
  have hyn : y ≤ n := by
    rw [nI_leI hy (by omega)] at h3
    exact h3
  refine nm_r (pk_sub hxm) ?_
  refine xv_common (b := 0) (f := ((n - y : Nat) : Int)) (t := ((n + (m - x) : Nat) : Int)) (by omega) (by omega) (by omega) B0 (by omega) (by omega) (by rw [pk_sub hyn, zi_n]) (by rw [nI_add, zi_n]) ?_
  rw [mt_vG _ m n (n - y) (m - x) (by omega) (by omega), zi_n, pk_sub (by omega)]
  refine br_f h0 (br_f h1 (br_f h2 (br_t h3 ?_)))
  rw [pk_sub hyn]
  refine yc_common (e := fun i j => xl_E 0 n a s i (n - y + j)) (p := 0) (by omega) (by omega) (by omega) hn (by omega) (fun i j hi hj => ?_) ?_
  · rw [rl_E0, Nat.zero_add, Nat.mod_eq_of_lt (by omega)]
  · intro tb'
    refine ⟨?_, m, n, a, s, ro, co, ri, dn, tb', od, R', rfl, rfl⟩
    have e : m - (m - x) = x := by omega
    have e2 : n - (n - y) = y := by omega
    rw [e, e2, Nat.add_sub_cancel_left]
end
section
/-! the nearest stretch -/
/-- (i0, j0) is the first stretch with the fewest changes -/
def nr_A (C : Nat → Nat → Nat) (n i0 j0 : Nat) : Prop :=
  (∀ i j, i ≤ j → j ≤ n → C i0 j0 ≤ C i j) ∧ (∀ i j, i ≤ j → j ≤ n → (i < i0 ∨ (i = i0 ∧ j < j0)) → C i0 j0 < C i j)
/-- the component's best and place behind all stretches before (i, j) -/
def nr_X (C : Nat → Nat → Nat) (n i j best at_ : Nat) : Prop :=
  best ≤ 100 ∧ (∀ i' j', i' ≤ j' → j' ≤ n → (i' < i ∨ (i' = i ∧ j' < j)) → best ≤ C i' j') ∧
  ((best = 100 ∧ i = 0 ∧ j = 0) ∨ ∃ i0 j0, i0 ≤ j0 ∧ j0 ≤ n ∧ (i0 < i ∨ (i0 = i ∧ j0 < j)) ∧ at_ = 16 * i0 + j0 ∧ best = C i0 j0 ∧ ∀ i' j', i' ≤ j' → j' ≤ n → (i' < i0 ∨ (i' = i0 ∧ j' < j0)) → best < C i' j')
theorem nr_keep {C : Nat → Nat → Nat} {n i j best at_ : Nat} (hC : C i j < 100) (h : nr_X C n i j best at_) (hb : best ≤ C i j) : nr_X C n i (j + 1) best at_ := by
  obtain ⟨h1, h2, h3⟩ := h
  refine ⟨h1, fun i' j' a1 a2 a3 => ?_, ?_⟩
  · by_cases e : i' = i ∧ j' = j
    · obtain ⟨rfl, rfl⟩ := e
      exact hb
    · exact h2 i' j' a1 a2 (by omega)
  · rcases h3 with h3 | ⟨i0, j0, b1, b2, b3, b4, b5, b6⟩
    · omega
    · exact Or.inr ⟨i0, j0, b1, b2, by omega, b4, b5, b6⟩
theorem nr_take {C : Nat → Nat → Nat} {n i j best at_ : Nat} (hi : i ≤ j) (hj : j ≤ n) (h : nr_X C n i j best at_) (hb : C i j < best) : nr_X C n i (j + 1) (C i j) (16 * i + j) := by
  obtain ⟨h1, h2, h3⟩ := h
  refine ⟨by omega, fun i' j' a1 a2 a3 => ?_, Or.inr ⟨i, j, hi, hj, by omega, rfl, rfl, fun i' j' a1 a2 a3 => ?_⟩⟩
  · by_cases e : i' = i ∧ j' = j
    · obtain ⟨rfl, rfl⟩ := e
      exact Nat.le_refl _
    · have := h2 i' j' a1 a2 (by omega)
      omega
  · have := h2 i' j' a1 a2 a3
    omega
theorem nr_row {C : Nat → Nat → Nat} {n i best at_ : Nat} (h : nr_X C n i (n + 1) best at_) : nr_X C n (i + 1) (i + 1) best at_ := by
  obtain ⟨h1, h2, h3⟩ := h
  refine ⟨h1, fun i' j' a1 a2 a3 => h2 i' j' a1 a2 (by omega), ?_⟩
  rcases h3 with h3 | ⟨i0, j0, b1, b2, b3, b4, b5, b6⟩
  · omega
  · exact Or.inr ⟨i0, j0, b1, b2, by omega, b4, b5, b6⟩
theorem nr_bd (m : Nat) (a s : Nat → Int32) (i j : Nat) : rl_C m a s i j ≤ m + (j - i) := yt_edle _ _ _
section
variable {m n : Nat} {a s ro co ri dn tb od : Nat → Int32}
theorem nr_18 {post : Int32 → Prop} {J : Int32 → Int32 → Int32 → Prop} {i : Nat} (R : rl_R m n a s ro co ri dn) (hi : i ≤ n)
    (hJ : ∀ best at_, nr_X (rl_C m a s) n (i + 1) (i + 1) best at_ → J (nI best) (nI at_) (nI (i + 1))) :
    ∀ d j fuel best at_ : Nat, j + d = n + 1 → i ≤ j → d < fuel → nr_X (rl_C m a s) n i j best at_ → wX_nearestAt_18 post J (nI i) (nI m) (nI n) a s ro co ri dn fuel (nI best) (nI at_) (nI j) := by
  have hm := R.1
  have hn := R.2.1
  intro d
  induction d with
  | zero =>
    intro j fuel best at_ hj hij hf hI
    obtain ⟨q, rfl⟩ : ∃ q, fuel = q + 1 := ⟨fuel - 1, by omega⟩
    have hj' : j = n + 1 := by omega
    rw [hj'] at hI
    rw [wX_nearestAt_18]
    exact br_t (nI_lt (by omega) (by omega)) (nm_r (nI_1 i) (hJ best at_ (nr_row hI)))
  | succ d ih =>
    intro j fuel best at_ hj hij hf hI
    obtain ⟨q, rfl⟩ : ∃ q, fuel = q + 1 := ⟨fuel - 1, by omega⟩
    have hb := nr_bd m a s i j
    have hb2 := hI.1
    rw [wX_nearestAt_18]
    refine br_f (nI_nlt (by omega) (by omega)) (xo_C R hij (by omega) ?_)
    refine pk_le best (rl_C m a s i j) (fun h => ?_) (fun h => ?_)
    · exact nm_r (nI_1 j) (ih (j + 1) q best at_ (by omega) (by omega) (by omega) (nr_keep (by omega) hI h))
    · refine nm_r (e' := nI (16 * i + j)) ?_ (nm_r (nI_1 j) (ih (j + 1) q _ _ (by omega) (by omega) (by omega) (nr_take hij (by omega) hI h)))
      rw [show (16 : Int32) = nI 16 from rfl, pk_mul, nI_add]
theorem nr_7 {post : Int32 → Prop} (R : rl_R m n a s ro co ri dn)
    (K : ∀ i0 j0, i0 ≤ j0 → j0 ≤ n → nr_A (rl_C m a s) n i0 j0 → post (nI (16 * i0 + j0))) :
    ∀ d i fuel best at_ : Nat, i + d = n + 1 → d < fuel → nr_X (rl_C m a s) n i i best at_ → wX_nearestAt_7 post (nI m) (nI n) a s ro co ri dn fuel (nI best) (nI at_) (nI i) := by
  have hm := R.1
  have hn := R.2.1
  intro d
  induction d with
  | zero =>
    intro i fuel best at_ hi hf hI
    obtain ⟨q, rfl⟩ : ∃ q, fuel = q + 1 := ⟨fuel - 1, by omega⟩
    rw [wX_nearestAt_7]
    refine br_t (nI_lt (by omega) (by omega)) ?_
    obtain ⟨h1, h2, h3⟩ := hI
    rcases h3 with h3 | ⟨i0, j0, b1, b2, b3, b4, b5, b6⟩
    · omega
    · rw [b4]
      refine K i0 j0 b1 b2 ⟨fun i' j' a1 a2 => ?_, fun i' j' a1 a2 a3 => ?_⟩
      · rw [← b5]
        exact h2 i' j' a1 a2 (by omega)
      · rw [← b5]
        exact b6 i' j' a1 a2 a3
  | succ d ih =>
    intro i fuel best at_ hi hf hI
    obtain ⟨q, rfl⟩ : ∃ q, fuel = q + 1 := ⟨fuel - 1, by omega⟩
    rw [wX_nearestAt_7]
    refine br_f (nI_nlt (by omega) (by omega)) ⟨n + 2, ?_⟩
    exact nr_18 R (by omega) (fun best' at' h => ih (i + 1) q best' at' (by omega) (by omega) h) (n + 1 - i) i (n + 2) best at_ (by omega) (by omega) (by omega) hI
theorem nr_at {post : Int32 → Prop} (R : rl_R m n a s ro co ri dn)
    (K : ∀ i0 j0, i0 ≤ j0 → j0 ≤ n → nr_A (rl_C m a s) n i0 j0 → post (nI (16 * i0 + j0))) : wpX_nearestAt post (nI m, nI n, a, s, ro, co, ri, dn) := by
  unfold wpX_nearestAt
  dsimp only
  exact ⟨n + 2, nr_7 R K (n + 1) 0 (n + 2) 100 0 (by omega) (by omega) ⟨by omega, fun i' j' _ _ h => by omega, Or.inl ⟨rfl, rfl, rfl⟩⟩⟩
/-! the reference's least -/
theorem nr_y17 {post : Int32 → SY → Prop} {J : Int32 → Int32 → Int32 → Int32 → (Nat → Int32) → (Nat → Int32) → (Nat → Int32) → (Nat → Int32) → Prop} {i i0 j0 : Nat} (hm : m ≤ 10) (hn : n ≤ 14) (hi : i ≤ n) (h0 : i0 ≤ j0) (hj0 : j0 ≤ n) (A : nr_A (rl_C m a s) n i0 j0)
    (hJ : ∀ (best : Nat) (tb : Nat → Int32), best ≤ 100 → rl_C m a s i0 j0 ≤ best → (i0 < i + 1 → best = rl_C m a s i0 j0) → J (nI best) (nI (i + 1)) (nI m) (nI n) a s tb od) :
    ∀ (d j fuel best : Nat) (tb : Nat → Int32), j + d = n + 1 → i ≤ j → d < fuel → best ≤ 100 → rl_C m a s i0 j0 ≤ best → ((i0 < i ∨ (i0 = i ∧ j0 < j)) → best = rl_C m a s i0 j0) → wY_nearest_17 post J (nI i) fuel (nI best) (nI j) (nI m) (nI n) a s tb od := by
  intro d
  induction d with
  | zero =>
    intro j fuel best tb hj hij hf h1 h2 h3
    obtain ⟨q, rfl⟩ : ∃ q, fuel = q + 1 := ⟨fuel - 1, by omega⟩
    rw [wY_nearest_17]
    exact br_t (nI_lt (by omega) (by omega)) (nm_r (nI_1 i) (hJ best tb h1 h2 (fun z => h3 (by omega))))
  | succ d ih =>
    intro j fuel best tb hj hij hf h1 h2 h3
    obtain ⟨q, rfl⟩ : ∃ q, fuel = q + 1 := ⟨fuel - 1, by omega⟩
    have hb := nr_bd m a s i j
    have hA := A.1 i j hij (by omega)
    rw [wY_nearest_17]
    refine br_f (nI_nlt (by omega) (by omega)) (yo_C hm hn hij (by omega) (pk_sub hij) ?_)
    intro tb'
    refine yl_min (by omega) (by omega) ?_
    refine nm_r (nI_1 j) (ih (j + 1) q _ tb' (by omega) (by omega) (by omega) (by omega) (by omega) ?_)
    intro z
    by_cases e : i0 = i ∧ j0 = j
    · obtain ⟨rfl, rfl⟩ := e
      omega
    · have := h3 (by omega)
      omega
theorem nr_y7 {post : Int32 → SY → Prop} {i0 j0 : Nat} (hm : m ≤ 10) (hn : n ≤ 14) (h0 : i0 ≤ j0) (hj0 : j0 ≤ n) (A : nr_A (rl_C m a s) n i0 j0)
    (K : ∀ tb : Nat → Int32, post (nI (rl_C m a s i0 j0)) (nI m, nI n, a, s, tb, od)) :
    ∀ (d i fuel best : Nat) (tb : Nat → Int32), i + d = n + 1 → d < fuel → best ≤ 100 → rl_C m a s i0 j0 ≤ best → (i0 < i → best = rl_C m a s i0 j0) → wY_nearest_7 post fuel (nI best) (nI i) (nI m) (nI n) a s tb od := by
  intro d
  induction d with
  | zero =>
    intro i fuel best tb hi hf h1 h2 h3
    obtain ⟨q, rfl⟩ : ∃ q, fuel = q + 1 := ⟨fuel - 1, by omega⟩
    rw [wY_nearest_7]
    refine br_t (nI_lt (by omega) (by omega)) ?_
    rw [h3 (by omega)]
    exact K tb
  | succ d ih =>
    intro i fuel best tb hi hf h1 h2 h3
    obtain ⟨q, rfl⟩ : ∃ q, fuel = q + 1 := ⟨fuel - 1, by omega⟩
    rw [wY_nearest_7]
    refine br_f (nI_nlt (by omega) (by omega)) ⟨n + 2, ?_⟩
    exact nr_y17 hm hn (by omega) h0 hj0 A (fun best' tb' a1 a2 a3 => ih (i + 1) q best' tb' (by omega) (by omega) a1 a2 a3) (n + 1 - i) i (n + 2) best tb (by omega) (by omega) (by omega) h1 h2 (fun z => h3 (by omega))
theorem nr_y {post : Int32 → SY → Prop} {i0 j0 : Nat} (hm : m ≤ 10) (hn : n ≤ 14) (h0 : i0 ≤ j0) (hj0 : j0 ≤ n) (A : nr_A (rl_C m a s) n i0 j0)
    (K : ∀ tb : Nat → Int32, post (nI (rl_C m a s i0 j0)) (nI m, nI n, a, s, tb, od)) : wpY_nearest post (nI m, nI n, a, s, tb, od) := by
  have h := A.1 0 0 (by omega) (by omega)
  have e : rl_C m a s 0 0 = m := mt_edz _ _
  unfold wpY_nearest
  dsimp only
  exact ⟨n + 2, nr_y7 hm hn h0 hj0 A K (n + 1) 0 (n + 2) m tb (by omega) (by omega) (by omega) (by omega) (fun z => by omega)⟩
theorem nr_z17 {post : Int32 → SY → Prop} {J : Int32 → Int32 → Int32 → (Nat → Int32) → (Nat → Int32) → (Nat → Int32) → (Nat → Int32) → Prop} {i i0 j0 : Nat} (hm : m ≤ 10) (hn : n ≤ 14) (h0 : i0 ≤ j0) (hj0 : j0 ≤ n) (A : nr_A (rl_C m a s) n i0 j0)
    (K : ∀ tb : Nat → Int32, post (nI (16 * i0 + j0)) (nI m, nI n, a, s, tb, od))
    (hJ : i < i0 → ∀ tb : Nat → Int32, J (nI (i + 1)) (nI m) (nI n) a s tb od) :
    ∀ (d j fuel : Nat) (tb : Nat → Int32), j + d = n + 1 → i ≤ j → d < fuel → (i < i0 ∨ (i = i0 ∧ j ≤ j0)) → wY_nearestAt_17 post J (nI (rl_C m a s i0 j0)) (nI i) fuel (nI j) (nI m) (nI n) a s tb od := by
  intro d
  induction d with
  | zero =>
    intro j fuel tb hj hij hf h
    obtain ⟨q, rfl⟩ : ∃ q, fuel = q + 1 := ⟨fuel - 1, by omega⟩
    rw [wY_nearestAt_17]
    exact br_t (nI_lt (by omega) (by omega)) (nm_r (nI_1 i) (hJ (by omega) tb))
  | succ d ih =>
    intro j fuel tb hj hij hf h
    obtain ⟨q, rfl⟩ : ∃ q, fuel = q + 1 := ⟨fuel - 1, by omega⟩
    have hb := nr_bd m a s i j
    have hb0 := nr_bd m a s i0 j0
    rw [wY_nearestAt_17]
    refine br_f (nI_nlt (by omega) (by omega)) (yo_C hm hn hij (by omega) (pk_sub hij) ?_)
    intro tb'
    refine pk_eq (rl_C m a s i j) (rl_C m a s i0 j0) (fun he => ?_) (fun he => ?_)
    · have hx : i = i0 ∧ j = j0 := by
        by_cases e : i = i0 ∧ j = j0
        · exact e
        · have := A.2 i j hij (by omega) (by omega)
          omega
      obtain ⟨rfl, rfl⟩ := hx
      rw [show (16 : Int32) = nI 16 from rfl, pk_mul, nI_add]
      exact K tb'
    · refine nm_r (nI_1 j) (ih (j + 1) q tb' (by omega) (by omega) (by omega) ?_)
      by_cases e : i = i0 ∧ j = j0
      · obtain ⟨rfl, rfl⟩ := e
        exact absurd rfl he
      · omega
theorem nr_z7 {post : Int32 → SY → Prop} {i0 j0 : Nat} (hm : m ≤ 10) (hn : n ≤ 14) (h0 : i0 ≤ j0) (hj0 : j0 ≤ n) (A : nr_A (rl_C m a s) n i0 j0)
    (K : ∀ tb : Nat → Int32, post (nI (16 * i0 + j0)) (nI m, nI n, a, s, tb, od)) :
    ∀ (d i fuel : Nat) (tb : Nat → Int32), i + d = n + 1 → d < fuel → i ≤ i0 → wY_nearestAt_7 post (nI (rl_C m a s i0 j0)) fuel (nI i) (nI m) (nI n) a s tb od := by
  intro d
  induction d with
  | zero =>
    intro i fuel tb hi hf h
    omega
  | succ d ih =>
    intro i fuel tb hi hf h
    obtain ⟨q, rfl⟩ : ∃ q, fuel = q + 1 := ⟨fuel - 1, by omega⟩
    rw [wY_nearestAt_7]
    refine br_f (nI_nlt (by omega) (by omega)) ⟨n + 2, ?_⟩
    exact nr_z17 hm hn h0 hj0 A K (fun z tb' => ih (i + 1) q tb' (by omega) (by omega) (by omega)) (n + 1 - i) i (n + 2) tb (by omega) (by omega) (by omega) (by omega)
end
theorem nr_shr {x : Nat} (h : x < 1000) : nI x >>> ((4 : Int32) &&& 31) = nI (x / 16) := pk_shrN (by omega) _ 4 (by decide)
theorem nr_and {x : Nat} (h : x < 1000) : nI x &&& 15 = nI (x % 16) := pk_andN (by omega) 4 (by decide)
theorem i_vc_nearest {k : Nat} {u : SX} {v : SY} (I : i_Rel k u v) (hk : k + 3 ≤ 1536) : wpX_nearest (fun r => wpY_nearest (fun r' v' => r' = r ∧ i_Rel (k + 3) u v') v) u := by
  obtain ⟨m, n, a, s, ro, co, ri, dn, tb, od, R, rfl, rfl⟩ := I
  have hm := R.1
  have hn := R.2.1
  unfold wpX_nearest
  dsimp only
  refine nr_at R ?_
  intro i0 j0 h0 hj0 A
  rw [nr_shr (by omega), nr_and (by omega)]
  have e1 : (16 * i0 + j0) / 16 = i0 := by omega
  have e2 : (16 * i0 + j0) % 16 = j0 := by omega
  rw [e1, e2]
  refine xo_C R h0 hj0 ?_
  refine nr_y hm hn h0 hj0 A ?_
  intro tb'
  exact ⟨rfl, m, n, a, s, ro, co, ri, dn, tb', od, R, rfl, rfl⟩
theorem i_vc_nearestAt {k : Nat} {u : SX} {v : SY} (I : i_Rel k u v) (hk : k + 3 ≤ 1536) : wpX_nearestAt (fun r => wpY_nearestAt (fun r' v' => r' = r ∧ i_Rel (k + 3) u v') v) u := by
  obtain ⟨m, n, a, s, ro, co, ri, dn, tb, od, R, rfl, rfl⟩ := I
  have hm := R.1
  have hn := R.2.1
  refine nr_at R ?_
  intro i0 j0 h0 hj0 A
  unfold wpY_nearestAt
  dsimp only
  refine nr_y hm hn h0 hj0 A ?_
  intro tb'
  dsimp only
  refine ⟨n + 2, nr_z7 hm hn h0 hj0 A ?_ (n + 1) 0 (n + 2) tb' (by omega) (by omega) (by omega)⟩
  intro tb2
  exact ⟨rfl, m, n, a, s, ro, co, ri, dn, tb2, od, R, rfl, rfl⟩
end
section
/-! the widest stretch, the shortest, the rotations -/
def wd_m (g : Nat → Nat) : Nat → Nat
  | 0 => 0
  | k + 1 => max (wd_m g k) (g k)
theorem wd_s (g : Nat → Nat) (k : Nat) : wd_m g (k + 1) = max (wd_m g k) (g k) := rfl
theorem wd_le {g : Nat → Nat} (hg : ∀ i, g i ≤ 100) (k : Nat) : wd_m g k ≤ 100 := by
  induction k with
  | zero => exact Nat.zero_le _
  | succ k ih =>
    have := hg k
    rw [wd_s]
    omega
theorem wd_0 {g : Nat → Nat} (hg : ∀ i, g i = 0) (k : Nat) : wd_m g k = 0 := by
  induction k with
  | zero => rfl
  | succ k ih => rw [wd_s, ih, hg k]; rfl
section
variable {fm fn : Int32} {m n : Nat} {a s ro co ri dn tb od : Nat → Int32} {g : Nat → Nat}
theorem wd_6 {post : Int32 → Prop} {b w B : Nat} (hB : B < 100) (hg : ∀ i, g i ≤ 100)
    (O : ∀ (i : Nat) (post : Int32 → Prop), i < B → post (nI (g i)) → wpX_common post (fm, fn, a, s, ro, co, ri, dn) (nI b) (nI i) (nI (i + w)))
    (K : post (nI (wd_m g B))) :
    ∀ d i fuel : Nat, i + d = B → d < fuel → wX_widestOf_6 post (nI b) (nI w) (nI B) fm fn a s ro co ri dn fuel (nI (wd_m g i)) (nI i) := by
  intro d
  induction d with
  | zero =>
    intro i fuel hi hf
    obtain ⟨q, rfl⟩ : ∃ q, fuel = q + 1 := ⟨fuel - 1, by omega⟩
    rw [wX_widestOf_6]
    have hi' : i = B := by omega
    rw [hi']
    exact br_t (nI_le (Nat.le_refl _) (by omega)) K
  | succ d ih =>
    intro i fuel hi hf
    obtain ⟨q, rfl⟩ : ∃ q, fuel = q + 1 := ⟨fuel - 1, by omega⟩
    have h1 := hg i
    have h2 := wd_le hg i
    have h3 := wd_s g i
    have nx := ih (i + 1) q (by omega) (by omega)
    rw [wX_widestOf_6]
    refine br_f (nI_ge (by omega) (by omega)) ?_
    rw [nI_add]
    refine O i _ (by omega) ?_
    refine pk_le (g i) (wd_m g i) (fun h => ?_) (fun h => ?_)
    · have e : wd_m g (i + 1) = wd_m g i := by omega
      rw [e] at nx
      exact nm_r (nI_1 i) nx
    · have e : wd_m g (i + 1) = g i := by omega
      rw [e] at nx
      exact nm_r (nI_1 i) nx
theorem wd_X {post : Int32 → Prop} {b w B : Nat} (hB : B < 100) (hg : ∀ i, g i ≤ 100)
    (O : ∀ (i : Nat) (post : Int32 → Prop), i < B → post (nI (g i)) → wpX_common post (fm, fn, a, s, ro, co, ri, dn) (nI b) (nI i) (nI (i + w)))
    (K : post (nI (wd_m g B))) : wpX_widestOf post (fm, fn, a, s, ro, co, ri, dn) (nI b) (nI w) (nI B) := by
  unfold wpX_widestOf
  dsimp only
  exact ⟨B + 1, wd_6 hB hg O K B 0 (B + 1) (by omega) (by omega)⟩
/-- the most that a stretch of w letters of B gives -/
def wd_V (m n : Nat) (a s : Nat → Int32) (w : Nat) : Nat := wd_m (fun i => rl_F m a s i (i + w)) (n - w + 1)
theorem wd_Fle (m : Nat) (a s : Nat → Int32) (i j : Nat) : rl_F m a s i j ≤ m := yt_lcle _ _ _
theorem wd_Xw {post : Int32 → Prop} {w : Nat} {x : Int32} (R : rl_R m n a s ro co ri dn) (hw : w ≤ n) (hx : x = nI (n - w + 1)) (K : post (nI (wd_V m n a s w))) : wpX_widestOf post (nI m, nI n, a, s, ro, co, ri, dn) 0 (nI w) x := by
  have hm := R.1
  have hn := R.2.1
  subst hx
  refine wd_X (g := fun i => rl_F m a s i (i + w)) (b := 0) (by omega) (fun i => ?_) (fun i post hi h => xo_F R (by omega) (by omega) h) K
  have := wd_Fle m a s i (i + w)
  omega
theorem wd_19 {post : Int32 → SY → Prop} {w : Nat} (hm : m ≤ 10) (hn : n ≤ 14) (hw : w ≤ n) (K : ∀ tb : Nat → Int32, post (nI (wd_V m n a s w)) (nI m, nI n, a, s, tb, od)) :
    ∀ (d i fuel : Nat) (tb : Nat → Int32), i + d = n - w + 1 → d < fuel → wY_widest_19 post (nI w) fuel (nI (wd_m (fun i => rl_F m a s i (i + w)) i)) (nI i) (nI m) (nI n) a s tb od := by
  have hg : ∀ i, (fun i => rl_F m a s i (i + w)) i ≤ 100 := fun i => by
    have := wd_Fle m a s i (i + w)
    show rl_F m a s i (i + w) ≤ 100
    omega
  intro d
  induction d with
  | zero =>
    intro i fuel tb hi hf
    obtain ⟨q, rfl⟩ : ∃ q, fuel = q + 1 := ⟨fuel - 1, by omega⟩
    rw [wY_widest_19]
    dsimp only
    rw [nI_add]
    have hi' : i = n - w + 1 := by omega
    refine br_t (nI_lt (by omega) (by omega)) ?_
    rw [hi']
    exact K tb
  | succ d ih =>
    intro i fuel tb hi hf
    obtain ⟨q, rfl⟩ : ∃ q, fuel = q + 1 := ⟨fuel - 1, by omega⟩
    have h1 := wd_Fle m a s i (i + w)
    have h2 := wd_le hg i
    have h3 : wd_m (fun i => rl_F m a s i (i + w)) (i + 1) = max (wd_m (fun i => rl_F m a s i (i + w)) i) (rl_F m a s i (i + w)) := rfl
    have nx := fun tb' => ih (i + 1) q tb' (by omega) (by omega)
    rw [wY_widest_19]
    dsimp only
    rw [nI_add]
    refine br_f (nI_nlt (by omega) (by omega)) ?_
    refine yo_F (j := i + w) hm hn (by omega) (by omega) (by rw [Nat.add_sub_cancel_left]) ?_
    intro tb'
    refine pk_le (rl_F m a s i (i + w)) (wd_m (fun i => rl_F m a s i (i + w)) i) (fun h => ?_) (fun h => ?_)
    · have e : wd_m (fun i => rl_F m a s i (i + w)) (i + 1) = wd_m (fun i => rl_F m a s i (i + w)) i := by omega
      have nx' := nx tb'
      rw [e] at nx'
      exact nm_r (nI_1 i) nx'
    · have e : wd_m (fun i => rl_F m a s i (i + w)) (i + 1) = rl_F m a s i (i + w) := by omega
      have nx' := nx tb'
      rw [e] at nx'
      exact nm_r (nI_1 i) nx'
theorem wd_Yw {post : Int32 → SY → Prop} {w : Nat} (hm : m ≤ 10) (hn : n ≤ 14) (hw : w ≤ n) (K : ∀ tb : Nat → Int32, post (nI (wd_V m n a s w)) (nI m, nI n, a, s, tb, od)) : wpY_widest post (nI m, nI n, a, s, tb, od) (nI w) := by
  unfold wpY_widest
  dsimp only
  exact br_f (nI_pos (by omega)) (br_t (nI_le hw (by omega)) ⟨n - w + 2, wd_19 hm hn hw K (n - w + 1) 0 (n - w + 2) tb (by omega) (by omega)⟩)
theorem wd_V0 (m n : Nat) (a s : Nat → Int32) : wd_V m n a s 0 = 0 := by
  refine wd_0 (fun i => ?_) _
  show mt_lc _ m (i + 0 - i) = 0
  have e : i + 0 - i = 0 := by omega
  rw [e, mt_lcz]
theorem wd_Bx {w : Nat} (hw : w ≤ n) : nI n - nI w + 1 = nI (n - w + 1) := by
  rw [pk_sub hw, nI_1]
theorem wd_sh (R : rl_R m n a s ro co ri dn) (c : Int32) : ∀ d w : Nat, w + d = n + 1 → ∃ r : Int32, (∀ (post : Int32 → Prop) (fuel : Nat), d < fuel → post r → wX_shortest_2 post c (nI m) (nI n) a s ro co ri dn fuel (nI w)) ∧ (∀ (post : Int32 → SY → Prop) (fuel : Nat) (tb : Nat → Int32), d < fuel → (∀ tb' : Nat → Int32, post r (nI m, nI n, a, s, tb', od)) → wY_shortest_9 post c fuel (nI w) (nI m) (nI n) a s tb od) := by
  have hm := R.1
  have hn := R.2.1
  intro d
  induction d with
  | zero =>
    intro w hw
    refine ⟨-4, fun post fuel hf hp => ?_, fun post fuel tb hf hp => ?_⟩
    · obtain ⟨q, rfl⟩ : ∃ q, fuel = q + 1 := ⟨fuel - 1, by omega⟩
      rw [wX_shortest_2]
      exact br_t (nI_lt (by omega) (by omega)) hp
    · obtain ⟨q, rfl⟩ : ∃ q, fuel = q + 1 := ⟨fuel - 1, by omega⟩
      rw [wY_shortest_9]
      exact br_t (nI_lt (by omega) (by omega)) (hp tb)
  | succ d ih =>
    intro w hw
    by_cases h : nI (wd_V m n a s w) < c
    · obtain ⟨r, hX, hY⟩ := ih (w + 1) (by omega)
      refine ⟨r, fun post fuel hf hp => ?_, fun post fuel tb hf hp => ?_⟩
      · obtain ⟨q, rfl⟩ : ∃ q, fuel = q + 1 := ⟨fuel - 1, by omega⟩
        rw [wX_shortest_2]
        refine br_f (nI_nlt (by omega) (by omega)) (wd_Xw R (by omega) (wd_Bx (by omega)) ?_)
        exact br_t h (nm_r (nI_1 w) (hX post q (by omega) hp))
      · obtain ⟨q, rfl⟩ : ∃ q, fuel = q + 1 := ⟨fuel - 1, by omega⟩
        rw [wY_shortest_9]
        refine br_f (nI_nlt (by omega) (by omega)) (wd_Yw hm hn (by omega) ?_)
        intro tb'
        exact br_t h (nm_r (nI_1 w) (hY post q tb' (by omega) hp))
    · refine ⟨nI w, fun post fuel hf hp => ?_, fun post fuel tb hf hp => ?_⟩
      · obtain ⟨q, rfl⟩ : ∃ q, fuel = q + 1 := ⟨fuel - 1, by omega⟩
        rw [wX_shortest_2]
        refine br_f (nI_nlt (by omega) (by omega)) (wd_Xw R (by omega) (wd_Bx (by omega)) ?_)
        exact br_f h hp
      · obtain ⟨q, rfl⟩ : ∃ q, fuel = q + 1 := ⟨fuel - 1, by omega⟩
        rw [wY_shortest_9]
        refine br_f (nI_nlt (by omega) (by omega)) (wd_Yw hm hn (by omega) ?_)
        intro tb'
        exact br_f h (hp tb')
end
theorem i_vc_widest {k : Nat} {u : SX} {v : SY} (I : i_Rel k u v) (hk : k + 3 ≤ 1536) (v1 : Int32) : wpX_widest (fun r => wpY_widest (fun r' v' => r' = r ∧ i_Rel (k + 3) u v') v v1) u v1 := by
  have I' := i_up I
  obtain ⟨m, n, a, s, ro, co, ri, dn, tb, od, R, rfl, rfl⟩ := I
  have hm := R.1
  have hn := R.2.1
  unfold wpX_widest
  dsimp only
  refine br_c (fun h0 => ?_) (fun h0 => ?_)
  · unfold wpY_widest
    exact br_t h0 ⟨rfl, I'⟩
  · refine br_c (fun h1 => ?_) (fun h1 => ?_)
    · obtain ⟨w, hw, rfl⟩ := nI_of h0
      rw [nI_leI hw (by omega)] at h1
      refine wd_Xw R h1 (wd_Bx h1) (wd_Yw hm hn h1 ?_)
      intro tb'
      exact ⟨rfl, m, n, a, s, ro, co, ri, dn, tb', od, R, rfl, rfl⟩
    · unfold wpY_widest
      exact br_f h0 (br_f h1 ⟨rfl, I'⟩)
theorem i_vc_shortest {k : Nat} {u : SX} {v : SY} (I : i_Rel k u v) (hk : k + 3 ≤ 1536) (v1 : Int32) : wpX_shortest (fun r => wpY_shortest (fun r' v' => r' = r ∧ i_Rel (k + 3) u v') v v1) u v1 := by
  have I' := i_up I
  obtain ⟨m, n, a, s, ro, co, ri, dn, tb, od, R, rfl, rfl⟩ := I
  have hm := R.1
  have hn := R.2.1
  unfold wpX_shortest wpY_shortest
  dsimp only
  refine ⟨n + 3, ?_⟩
  show wX_shortest_2 _ v1 (nI m) (nI n) a s ro co ri dn (n + 2 + 1) (nI 0)
  rw [wX_shortest_2]
  refine br_f (nI_nlt (by omega) (by omega)) (wd_Xw R (by omega) (wd_Bx (by omega)) ?_)
  rw [wd_V0]
  by_cases h : (1 : Int32) ≤ v1
  · have h0 : (0 : Int32) < v1 := Int32.lt_of_lt_of_le (by decide) h
    obtain ⟨r, hX, hY⟩ := wd_sh (od := od) R v1 n 1 (by omega)
    refine br_t h0 (nm_r (nI_1 0) (hX _ (n + 2) (by omega) (br_t h ⟨n + 2, hY _ (n + 2) tb (by omega) ?_⟩)))
    intro tb'
    exact ⟨rfl, m, n, a, s, ro, co, ri, dn, tb', od, R, rfl, rfl⟩
  · have h0 : ¬ (0 : Int32) < v1 := by
      rw [Int32.le_iff_toInt_le, show (1 : Int32).toInt = 1 from by decide] at h
      rw [Int32.lt_iff_toInt_lt, show (0 : Int32).toInt = 0 from by decide]
      omega
    exact br_f h0 (br_f h ⟨rfl, I'⟩)
/-! rotations -/
theorem ro_E {n i x y : Nat} {a s : Nat → Int32} (hi : i < n) (hy : y < n) : xl_E 2 n a s x (i + y) = decide (a (0 + x) = s ((i + y) % n)) := by
  have hA : xl_A 2 a x = a (0 + x) := by
    unfold xl_A
    rw [if_neg (by decide), Nat.zero_add]
  have hB : xl_B 2 n s (i + y) = s ((i + y) % n) := by
    unfold xl_B
    rw [if_neg (by decide), if_neg (by decide)]
    by_cases h : n ≤ i + y
    · rw [if_pos h, Nat.mod_eq_sub_mod h, Nat.mod_eq_of_lt (by omega)]
    · rw [if_neg h, Nat.mod_eq_of_lt (by omega)]
  unfold xl_E
  rw [hA, hB]
def ro_g (m n : Nat) (a s : Nat → Int32) (i : Nat) : Nat := mt_lc (fun x y => xl_E 2 n a s x (i + y)) m n
theorem ro_4 {post : Int32 → SY → Prop} {m n : Nat} {a s od : Nat → Int32} (hm : m ≤ 10) (hn : n ≤ 14) (K : ∀ tb : Nat → Int32, post (nI (wd_m (ro_g m n a s) n)) (nI m, nI n, a, s, tb, od)) :
    ∀ (d i fuel : Nat) (tb : Nat → Int32), i + d = n → d < fuel → wY_rotated_4 post fuel (nI (wd_m (ro_g m n a s) i)) (nI i) (nI m) (nI n) a s tb od := by
  have hg : ∀ i, ro_g m n a s i ≤ 100 := fun i => Nat.le_trans (yt_lcle _ _ _) (by omega)
  intro d
  induction d with
  | zero =>
    intro i fuel tb hi hf
    obtain ⟨q, rfl⟩ : ∃ q, fuel = q + 1 := ⟨fuel - 1, by omega⟩
    rw [wY_rotated_4]
    have hi' : i = n := by omega
    rw [hi']
    exact br_t (nI_le (Nat.le_refl _) (by omega)) (K tb)
  | succ d ih =>
    intro i fuel tb hi hf
    obtain ⟨q, rfl⟩ : ∃ q, fuel = q + 1 := ⟨fuel - 1, by omega⟩
    have h1 := hg i
    have h2 := wd_le hg i
    have h3 := wd_s (ro_g m n a s) i
    rw [wY_rotated_4]
    refine br_f (nI_ge (by omega) (by omega)) ?_
    refine yc_common (e := fun x y => xl_E 2 n a s x (i + y)) (p := 0) (by omega) (by omega) (by omega) hn (by omega) (fun x y hx hy => ro_E (by omega) hy) ?_
    intro tb'
    have nx := ih (i + 1) q tb' (by omega) (by omega)
    refine pk_le (ro_g m n a s i) (wd_m (ro_g m n a s) i) (fun h => ?_) (fun h => ?_)
    · have e : wd_m (ro_g m n a s) (i + 1) = wd_m (ro_g m n a s) i := by omega
      rw [e] at nx
      exact nm_r (nI_1 i) nx
    · have e : wd_m (ro_g m n a s) (i + 1) = ro_g m n a s i := by omega
      rw [e] at nx
      exact nm_r (nI_1 i) nx
theorem i_vc_rotated {k : Nat} {u : SX} {v : SY} (I : i_Rel k u v) (hk : k + 3 ≤ 1536) : wpX_rotated (fun r u' => wpY_rotated (fun r' v' => r' = r ∧ i_Rel (k + 3) u' v') v) u := by
  have I' := i_up I
  obtain ⟨m, n, a, s, ro, co, ri, dn, tb, od, R, rfl, rfl⟩ := I
  obtain ⟨hm, hn, ha, hs, B0, B1⟩ := R
  unfold wpX_rotated wpY_rotated
  dsimp only
  refine pk_eq n 0 (fun h => ?_) (fun h => ?_)
  · subst h
    exact ⟨1, br_t (by decide) ⟨rfl, I'⟩⟩
  · rw [xa_2]
    refine xa_all (b := 2) (by omega) (by omega) (by omega) hn (by omega) (by omega) (by omega) ?_
    intro ro' co' ri' dn' B2 F
    dsimp only
    have C0 := xb_BF (c := 0) (by omega) (by omega) (by omega) B0 F
    have C1 := xb_BF (c := 1) (by omega) (by omega) (by omega) B1 F
    refine wd_X (g := ro_g m n a s) (b := 2) (by omega) (fun i => Nat.le_trans (yt_lcle _ _ _) (by omega)) (fun i post hi hp => ?_) ?_
    · refine xv_B (b := 2) (by omega) (by omega) (by omega) B2 (by omega) (by omega) ?_
      rw [Nat.add_sub_cancel_left]
      exact hp
    · refine ⟨n + 1, ro_4 hm hn ?_ n 0 (n + 1) tb (by omega) (by omega)⟩
      intro tb'
      exact ⟨rfl, m, n, a, s, ro', co', ri', dn', tb', od, ⟨hm, hn, ha, hs, C0, C1⟩, rfl, rfl⟩
end
section
/-! tight stretches -/
def tg_P (F : Nat → Nat → Nat) (i j : Nat) : Bool := decide (F i (j - 1) < F i j ∧ F (i + 1) j < F i j)
def tg_Q (F : Nat → Nat → Nat) (i j : Nat) : Bool := decide (i = j ∨ (F i (j - 1) < F i j ∧ F (i + 1) j < F i j))
def tg_s (f : Nat → Nat) : Nat → Nat
  | 0 => 0
  | k + 1 => tg_s f k + f k
theorem tg_ss (f : Nat → Nat) (k : Nat) : tg_s f (k + 1) = tg_s f k + f k := rfl
def tg_x (F : Nat → Nat → Nat) (n i : Nat) : Nat := mt_cn (fun y => tg_P F i (i + 1 + y)) (n - i)
def tg_y (F : Nat → Nat → Nat) (n i : Nat) : Nat := mt_cn (fun y => tg_Q F i (i + y)) (n + 1 - i)
theorem tg_cs (p : Nat → Bool) (k : Nat) : mt_cn p (k + 1) = (if p 0 = true then 1 else 0) + mt_cn (fun y => p (y + 1)) k := by
  induction k with
  | zero =>
    rw [mt_cns]
    show 0 + _ = _ + 0
    omega
  | succ k ih =>
    rw [mt_cns, ih, mt_cns (fun y => p (y + 1)) k]
    omega
theorem tg_cc {p q : Nat → Bool} : ∀ k : Nat, (∀ y, y < k → p y = q y) → mt_cn p k = mt_cn q k := by
  intro k
  induction k with
  | zero => intro _; rfl
  | succ k ih =>
    intro h
    rw [mt_cns, mt_cns, ih (fun y hy => h y (by omega)), h k (by omega)]
theorem tg_row (F : Nat → Nat → Nat) {n i : Nat} (hi : i ≤ n) : tg_y F n i = 1 + tg_x F n i := by
  have e : n + 1 - i = n - i + 1 := by omega
  have h0 : tg_Q F i (i + 0) = true := decide_eq_true (Or.inl rfl)
  unfold tg_y tg_x
  rw [e, tg_cs, if_pos h0]
  congr 1
  refine tg_cc _ (fun y hy => ?_)
  have e1 : i + (y + 1) = i + 1 + y := by omega
  unfold tg_Q tg_P
  rw [e1]
  have e2 : (i = i + 1 + y ∨ (F i (i + 1 + y - 1) < F i (i + 1 + y) ∧ F (i + 1) (i + 1 + y) < F i (i + 1 + y))) ↔ (F i (i + 1 + y - 1) < F i (i + 1 + y) ∧ F (i + 1) (i + 1 + y) < F i (i + 1 + y)) :=
    ⟨fun z => z.elim (fun z => by omega) id, Or.inr⟩
  exact decide_eq_decide.mpr e2
theorem tg_sum (F : Nat → Nat → Nat) (n : Nat) : ∀ k : Nat, k ≤ n + 1 → tg_s (tg_y F n) k = k + tg_s (tg_x F n) k := by
  intro k
  induction k with
  | zero => intro _; rfl
  | succ k ih =>
    intro hk
    rw [tg_ss, tg_ss, ih (by omega), tg_row F (by omega)]
    omega
theorem tg_tot (F : Nat → Nat → Nat) (n : Nat) : tg_s (tg_y F n) (n + 1) = n + 1 + tg_s (tg_x F n) n := by
  have h : tg_x F n n = 0 := by
    unfold tg_x
    rw [Nat.sub_self]
    rfl
  rw [tg_sum F n (n + 1) (Nat.le_refl _), tg_ss, h]
  omega
/-! a stretch within another gives no more -/
theorem tg_r1 (m : Nat) (a s : Nat → Int32) {i j : Nat} (h : i ≤ j) : rl_F m a s i j ≤ rl_F m a s i (j + 1) := by
  have e : j + 1 - i = j - i + 1 := by omega
  unfold rl_F
  rw [e]
  exact (mt_st (rl_g a s 0 i) m (j - i)).2.1
theorem tg_l1 (m : Nat) (a s : Nat → Int32) {i j : Nat} (h : i + 1 ≤ j) : rl_F m a s (i + 1) j ≤ rl_F m a s i j := by
  have e : j - i = j - (i + 1) + 1 := by omega
  have h2 := mt_sh (rl_g a s 0 i) m (j - (i + 1))
  have e2 : (fun x y => rl_g a s 0 i x (y + 1)) = rl_g a s 0 (i + 1) := by
    funext x y
    unfold rl_g
    have : i + (y + 1) = i + 1 + y := by omega
    rw [this]
  rw [e2] at h2
  unfold rl_F
  rw [e]
  exact h2
theorem tg_r (m : Nat) (a s : Nat → Int32) {i j : Nat} (h : i ≤ j) : ∀ d : Nat, rl_F m a s i j ≤ rl_F m a s i (j + d) := by
  intro d
  induction d with
  | zero => exact Nat.le_refl _
  | succ d ih => exact Nat.le_trans ih (tg_r1 m a s (by omega))
theorem tg_l (m : Nat) (a s : Nat → Int32) {i j : Nat} : ∀ d : Nat, i + d ≤ j → rl_F m a s (i + d) j ≤ rl_F m a s i j := by
  intro d
  induction d with
  | zero => intro _; exact Nat.le_refl _
  | succ d ih => intro h; exact Nat.le_trans (tg_l1 m a s (by omega)) (ih (by omega))
theorem tg_mono (m : Nat) (a s : Nat → Int32) {i j k l : Nat} (h1 : i ≤ k) (h2 : k ≤ l) (h3 : l ≤ j) : rl_F m a s k l ≤ rl_F m a s i j := by
  have e1 : k = i + (k - i) := by omega
  have e2 : j = l + (j - l) := by omega
  have a1 := tg_l m a s (i := i) (j := l) (k - i) (by omega)
  have a2 := tg_r m a s (i := i) (j := l) (by omega) (j - l)
  rw [← e1] at a1
  rw [← e2] at a2
  exact Nat.le_trans a1 a2
section
variable {m n : Nat} {a s ro co ri dn tb od : Nat → Int32}
/-! the component's count -/
theorem tg_21 {post : Int32 → Prop} {J : Int32 → Int32 → Prop} {i c : Nat} (R : rl_R m n a s ro co ri dn) (hi : i < n) (K : J (nI (c + tg_x (rl_F m a s) n i)) (nI (i + 1))) :
    ∀ d y fuel : Nat, y + d = n - i → d < fuel → wX_tight_21 post J (nI i) (nI m) (nI n) a s ro co ri dn fuel (nI (c + mt_cn (fun y => tg_P (rl_F m a s) i (i + 1 + y)) y)) (nI (i + 1 + y)) := by
  have hm := R.1
  have hn := R.2.1
  intro d
  induction d with
  | zero =>
    intro y fuel hy hf
    obtain ⟨q, rfl⟩ : ∃ q, fuel = q + 1 := ⟨fuel - 1, by omega⟩
    have hy' : y = n - i := by omega
    rw [wX_tight_21, hy']
    exact br_t (nI_lt (by omega) (by omega)) (nm_r (nI_1 i) K)
  | succ d ih =>
    intro y fuel hy hf
    obtain ⟨q, rfl⟩ : ∃ q, fuel = q + 1 := ⟨fuel - 1, by omega⟩
    have b1 := wd_Fle m a s i (i + 1 + y)
    have b2 := wd_Fle m a s i (i + 1 + y - 1)
    have b3 := wd_Fle m a s (i + 1) (i + 1 + y)
    have hc := mt_cns (fun y => tg_P (rl_F m a s) i (i + 1 + y)) y
    have nx := ih (y + 1) q (by omega) (by omega)
    rw [hc] at nx
    rw [wX_tight_21]
    refine br_f (nI_nlt (by omega) (by omega)) (xo_F R (by omega) (by omega) ?_)
    rw [zi_s1 (by omega), nI_1 i]
    refine xo_F R (by omega) (by omega) (xo_F R (by omega) (by omega) ?_)
    refine pk_le _ _ (fun h => ?_) (fun h => ?_)
    · have hp : ¬ tg_P (rl_F m a s) i (i + 1 + y) = true := fun z => by
        have := (of_decide_eq_true z).1
        omega
      rw [if_neg hp] at nx
      exact nm_r (nI_1 (i + 1 + y)) nx
    · refine pk_le _ _ (fun h2 => ?_) (fun h2 => ?_)
      · have hp : ¬ tg_P (rl_F m a s) i (i + 1 + y) = true := fun z => by
          have := (of_decide_eq_true z).2
          omega
        rw [if_neg hp] at nx
        exact nm_r (nI_1 (i + 1 + y)) nx
      · have hp : tg_P (rl_F m a s) i (i + 1 + y) = true := decide_eq_true ⟨h, h2⟩
        rw [if_pos hp] at nx
        exact nm_r (nI_1 _) (nm_r (nI_1 (i + 1 + y)) nx)
theorem tg_9 {post : Int32 → Prop} (R : rl_R m n a s ro co ri dn) (K : post (nI (n + 1 + tg_s (tg_x (rl_F m a s) n) n))) :
    ∀ d i fuel : Nat, i + d = n → d < fuel → wX_tight_9 post (nI m) (nI n) a s ro co ri dn fuel (nI (n + 1 + tg_s (tg_x (rl_F m a s) n) i)) (nI i) := by
  have hm := R.1
  have hn := R.2.1
  intro d
  induction d with
  | zero =>
    intro i fuel hi hf
    obtain ⟨q, rfl⟩ : ∃ q, fuel = q + 1 := ⟨fuel - 1, by omega⟩
    have hi' : i = n := by omega
    rw [wX_tight_9, hi']
    exact br_t (nI_le (Nat.le_refl _) (by omega)) K
  | succ d ih =>
    intro i fuel hi hf
    obtain ⟨q, rfl⟩ : ∃ q, fuel = q + 1 := ⟨fuel - 1, by omega⟩
    have nx := ih (i + 1) q (by omega) (by omega)
    rw [tg_ss, ← Nat.add_assoc] at nx
    rw [wX_tight_9]
    refine br_f (nI_ge (by omega) (by omega)) (nm_r (nI_1 i) ⟨n - i + 1, ?_⟩)
    exact tg_21 R (by omega) nx (n - i) 0 (n - i + 1) (by omega) (by omega)
/-! the reference's test -/
def tg_N (F : Nat → Nat → Nat) (i j k l : Nat) : Prop := ∀ k' l', i ≤ k' → k' ≤ l' → l' ≤ j → (k' < k ∨ (k' = k ∧ l' < l)) → (k' = i ∧ l' = j) ∨ F k' l' < F i j
theorem tg_32 {post : Int32 → Prop} {J2 J10 : Int32 → Prop} {fm fn : Int32} {F : Nat → Nat → Nat} {i j k l : Nat} (hi : i ≤ 14) (hj : j ≤ 14) (hk : k ≤ 14) (hl : l ≤ 14) (h1 : od (k * 15 + l) = nI (F k l)) (h2 : od (i * 15 + j) = nI (F i j)) (b1 : F k l ≤ 100) (b2 : F i j ≤ 100)
    (K1 : F k l < F i j → J10 (nI (l + 1))) (K0 : F i j ≤ F k l → post 0) : wY_isTight_32 post J2 J10 (nI i) (nI j) (nI k) (nI l) 1 fm fn a s tb od := by
  unfold wY_isTight_32
  refine br_f (by decide) ?_
  rw [zi_ix k 15 l 15 rfl, zi_ix i 15 j 15 rfl, nI_clamp (n := k * 15 + l) (by omega), nI_clamp (n := i * 15 + j) (by omega), h1, h2]
  refine ⟨vp_in_nI (by omega) (by omega), vp_in_nI (by omega) (by omega), ?_⟩
  exact pk_lt _ _ (fun h => nm_r (nI_1 l) (K1 h)) (fun h => K0 h)
theorem tg_10 {post : Int32 → Prop} {J2 : Int32 → Prop} {fm fn : Int32} {F : Nat → Nat → Nat} {i j k : Nat} (hij : i ≤ j) (hj : j ≤ 14) (hk : i ≤ k) (hkj : k ≤ j) (hF : ∀ k l, F k l ≤ 100) (hod : ∀ k l, k ≤ l → l ≤ j → od (k * 15 + l) = nI (F k l))
    (K0 : ∀ k l, i ≤ k → k ≤ l → l ≤ j → ¬ (k = i ∧ l = j) → F i j ≤ F k l → post 0)
    (K1 : tg_N F i j (k + 1) (k + 1) → J2 (nI (k + 1))) :
    ∀ d l fuel : Nat, l + d = j + 1 → k ≤ l → d < fuel → tg_N F i j k l → wY_isTight_10 post J2 (nI i) (nI j) (nI k) fm fn a s tb od fuel (nI l) := by
  intro d
  induction d with
  | zero =>
    intro l fuel hl hkl hf hN
    obtain ⟨q, rfl⟩ : ∃ q, fuel = q + 1 := ⟨fuel - 1, by omega⟩
    rw [wY_isTight_10]
    exact br_t (nI_lt (by omega) (by omega)) (nm_r (nI_1 k) (K1 (fun k' l' a1 a2 a3 a4 => hN k' l' a1 a2 a3 (by omega))))
  | succ d ih =>
    intro l fuel hl hkl hf hN
    obtain ⟨q, rfl⟩ : ∃ q, fuel = q + 1 := ⟨fuel - 1, by omega⟩
    have nx : ((k = i ∧ l = j) ∨ F k l < F i j) → wY_isTight_10 post J2 (nI i) (nI j) (nI k) fm fn a s tb od q (nI (l + 1)) := fun z =>
      ih (l + 1) q (by omega) (by omega) (by omega) (fun k' l' a1 a2 a3 a4 => by
        by_cases e : k' = k ∧ l' = l
        · obtain ⟨rfl, rfl⟩ := e
          exact z
        · exact hN k' l' a1 a2 a3 (by omega))
    have h32 : ¬ (k = i ∧ l = j) → wY_isTight_32 post J2 (wY_isTight_10 post J2 (nI i) (nI j) (nI k) fm fn a s tb od q) (nI i) (nI j) (nI k) (nI l) 1 fm fn a s tb od := fun z =>
      tg_32 (F := F) (by omega) hj (by omega) (by omega) (hod k l hkl (by omega)) (hod i j hij (Nat.le_refl _)) (hF k l) (hF i j) (fun h => nx (Or.inr h)) (fun h => K0 k l hk hkl (by omega) z h)
    rw [wY_isTight_10]
    refine br_f (nI_nlt (by omega) (by omega)) ?_
    refine pk_eq k i (fun h => ?_) (fun h => ?_)
    · refine pk_eq l j (fun h2 => ?_) (fun h2 => ?_)
      · unfold wY_isTight_32
        exact br_t rfl (nm_r (nI_1 l) (nx (Or.inl ⟨h, h2⟩)))
      · unfold wY_isTight_27
        exact h32 (fun z => h2 z.2)
    · unfold wY_isTight_27
      exact h32 (fun z => h z.1)
theorem tg_2 {post : Int32 → Prop} {fm fn : Int32} {F : Nat → Nat → Nat} {i j : Nat} (hij : i ≤ j) (hj : j ≤ 14) (hF : ∀ k l, F k l ≤ 100) (hod : ∀ k l, k ≤ l → l ≤ j → od (k * 15 + l) = nI (F k l))
    (K0 : ∀ k l, i ≤ k → k ≤ l → l ≤ j → ¬ (k = i ∧ l = j) → F i j ≤ F k l → post 0)
    (K1 : tg_N F i j (j + 1) (j + 1) → post 1) :
    ∀ d k fuel : Nat, k + d = j + 1 → i ≤ k → d < fuel → tg_N F i j k k → wY_isTight_2 post (nI i) (nI j) fm fn a s tb od fuel (nI k) := by
  intro d
  induction d with
  | zero =>
    intro k fuel hk hik hf hN
    obtain ⟨q, rfl⟩ : ∃ q, fuel = q + 1 := ⟨fuel - 1, by omega⟩
    have hk' : k = j + 1 := by omega
    rw [hk'] at hN ⊢
    rw [wY_isTight_2]
    exact br_t (nI_lt (by omega) (by omega)) (K1 hN)
  | succ d ih =>
    intro k fuel hk hik hf hN
    obtain ⟨q, rfl⟩ : ∃ q, fuel = q + 1 := ⟨fuel - 1, by omega⟩
    rw [wY_isTight_2]
    refine br_f (nI_nlt (by omega) (by omega)) ⟨j + 2, ?_⟩
    exact tg_10 hij hj hik (by omega) hF hod K0 (fun h => ih (k + 1) q (by omega) (by omega) (by omega) h) (j + 1 - k) k (j + 2) (by omega) (by omega) (by omega) hN
theorem tg_is {post : Int32 → Prop} {fm fn : Int32} {i j : Nat} (hm : m ≤ 10) (hij : i ≤ j) (hj : j ≤ 14) (hod : ∀ k l, k ≤ l → l ≤ j → od (k * 15 + l) = nI (rl_F m a s k l))
    (K0 : ¬ tg_Q (rl_F m a s) i j = true → post 0) (K1 : tg_Q (rl_F m a s) i j = true → post 1) : wpY_isTight post (fm, fn, a, s, tb, od) (nI i) (nI j) := by
  unfold wpY_isTight
  dsimp only
  refine ⟨j + 2, tg_2 (F := rl_F m a s) hij hj (fun k l => Nat.le_trans (wd_Fle m a s k l) (by omega)) hod ?_ ?_ (j + 1 - i) i (j + 2) (by omega) (by omega) (by omega) (fun k' l' a1 a2 a3 a4 => by omega)⟩
  · intro k l h1 h2 h3 h4 h5
    refine K0 (fun z => ?_)
    rcases of_decide_eq_true z with e | ⟨e1, e2⟩
    · omega
    · by_cases hl : l < j
      · have := tg_mono m a s (i := i) (j := j - 1) (k := k) (l := l) h1 h2 (by omega)
        omega
      · have := tg_mono m a s (i := i + 1) (j := j) (k := k) (l := l) (by omega) h2 h3
        omega
  · intro hN
    refine K1 (decide_eq_true ?_)
    by_cases e : i = j
    · exact Or.inl e
    · refine Or.inr ⟨?_, ?_⟩
      · rcases hN i (j - 1) (by omega) (by omega) (by omega) (by omega) with z | z
        · omega
        · exact z
      · rcases hN (i + 1) j (by omega) (by omega) (by omega) (by omega) with z | z
        · omega
        · exact z
/-! the reference's count -/
theorem tg_70 {post : Int32 → SY → Prop} {J : Int32 → Int32 → Prop} {i c : Nat} (hm : m ≤ 10) (hn : n ≤ 14) (hi : i ≤ n) (hod : ∀ k l, k ≤ l → l ≤ n → od (k * 15 + l) = nI (rl_F m a s k l)) (K : J (nI (c + tg_y (rl_F m a s) n i)) (nI (i + 1))) :
    ∀ d y fuel : Nat, y + d = n + 1 - i → d < fuel → wY_tight_70 post J (nI i) (nI m) (nI n) a s tb od fuel (nI (c + mt_cn (fun y => tg_Q (rl_F m a s) i (i + y)) y)) (nI (i + y)) := by
  intro d
  induction d with
  | zero =>
    intro y fuel hy hf
    obtain ⟨q, rfl⟩ : ∃ q, fuel = q + 1 := ⟨fuel - 1, by omega⟩
    have hy' : y = n + 1 - i := by omega
    rw [wY_tight_70, hy']
    exact br_t (nI_lt (by omega) (by omega)) (nm_r (nI_1 i) K)
  | succ d ih =>
    intro y fuel hy hf
    obtain ⟨q, rfl⟩ : ∃ q, fuel = q + 1 := ⟨fuel - 1, by omega⟩
    have hc := mt_cns (fun y => tg_Q (rl_F m a s) i (i + y)) y
    have nx := ih (y + 1) q (by omega) (by omega)
    rw [hc] at nx
    rw [wY_tight_70]
    refine br_f (nI_nlt (by omega) (by omega)) (tg_is hm (by omega) (by omega) (fun k l h1 h2 => hod k l h1 (by omega)) (fun h => ?_) (fun h => ?_))
    · rw [if_neg h] at nx
      exact br_t rfl (nm_r (nI_1 (i + y)) nx)
    · rw [if_pos h] at nx
      exact br_f (by decide) (nm_r (nI_1 _) (nm_r (nI_1 (i + y)) nx))
theorem tg_60 {post : Int32 → SY → Prop} (hm : m ≤ 10) (hn : n ≤ 14) (hod : ∀ k l, k ≤ l → l ≤ n → od (k * 15 + l) = nI (rl_F m a s k l)) (K : post (nI (tg_s (tg_y (rl_F m a s) n) (n + 1))) (nI m, nI n, a, s, tb, od)) :
    ∀ d i fuel : Nat, i + d = n + 1 → d < fuel → wY_tight_60 post (nI m) (nI n) a s tb od fuel (nI (tg_s (tg_y (rl_F m a s) n) i)) (nI i) := by
  intro d
  induction d with
  | zero =>
    intro i fuel hi hf
    obtain ⟨q, rfl⟩ : ∃ q, fuel = q + 1 := ⟨fuel - 1, by omega⟩
    have hi' : i = n + 1 := by omega
    rw [wY_tight_60, hi']
    exact br_t (nI_lt (by omega) (by omega)) K
  | succ d ih =>
    intro i fuel hi hf
    obtain ⟨q, rfl⟩ : ∃ q, fuel = q + 1 := ⟨fuel - 1, by omega⟩
    have nx := ih (i + 1) q (by omega) (by omega)
    rw [tg_ss] at nx
    rw [wY_tight_60]
    refine br_f (nI_nlt (by omega) (by omega)) ⟨n + 2, ?_⟩
    exact tg_70 hm hn (by omega) hod nx (n + 1 - i) 0 (n + 2) (by omega) (by omega)
end
section
variable {m n : Nat} {a s : Nat → Int32}
def tg_O (F : Nat → Nat → Nat) (n i j : Nat) (od : Nat → Int32) : Prop := ∀ i' j', i' ≤ j' → j' ≤ n → (i' < i ∨ (i' = i ∧ j' < j)) → od (i' * 15 + j') = nI (F i' j')
theorem tg_12 {post : Int32 → SY → Prop} {J : Int32 → Int32 → Int32 → (Nat → Int32) → (Nat → Int32) → (Nat → Int32) → (Nat → Int32) → Prop} {i : Nat} (hm : m ≤ 10) (hn : n ≤ 14) (hi : i ≤ n)
    (K : ∀ tb od : Nat → Int32, tg_O (rl_F m a s) n (i + 1) (i + 1) od → J (nI (i + 1)) (nI m) (nI n) a s tb od) :
    ∀ (d j fuel : Nat) (tb od : Nat → Int32), j + d = n + 1 → i ≤ j → d < fuel → tg_O (rl_F m a s) n i j od → wY_tight_12 post J (nI i) fuel (nI j) (nI m) (nI n) a s tb od := by
  intro d
  induction d with
  | zero =>
    intro j fuel tb od hj hij hf hO
    obtain ⟨q, rfl⟩ : ∃ q, fuel = q + 1 := ⟨fuel - 1, by omega⟩
    rw [wY_tight_12]
    exact br_t (nI_lt (by omega) (by omega)) (nm_r (nI_1 i) (K tb od (fun i' j' a1 a2 a3 => hO i' j' a1 a2 (by omega))))
  | succ d ih =>
    intro j fuel tb od hj hij hf hO
    obtain ⟨q, rfl⟩ : ∃ q, fuel = q + 1 := ⟨fuel - 1, by omega⟩
    rw [wY_tight_12]
    refine br_f (nI_nlt (by omega) (by omega)) (yo_F hm hn hij (by omega) (pk_sub hij) ?_)
    intro tb'
    dsimp only
    rw [zi_ix i 15 j 15 rfl, nI_clamp (n := i * 15 + j) (by omega)]
    refine ⟨vp_in_nI (by omega) (by omega), nm_e (nm_r (nI_1 j) (ih (j + 1) q tb' _ (by omega) (by omega) (by omega) ?_))⟩
    intro i' j' a1 a2 a3
    by_cases e : i' = i ∧ j' = j
    · obtain ⟨rfl, rfl⟩ := e
      rw [pk_us]
    · rw [pk_un (by omega)]
      exact hO i' j' a1 a2 (by omega)
theorem tg_y2 {post : Int32 → SY → Prop} (hm : m ≤ 10) (hn : n ≤ 14) (K : ∀ tb od : Nat → Int32, post (nI (tg_s (tg_y (rl_F m a s) n) (n + 1))) (nI m, nI n, a, s, tb, od)) :
    ∀ (d i fuel : Nat) (tb od : Nat → Int32), i + d = n + 1 → d < fuel → tg_O (rl_F m a s) n i i od → wY_tight_2 post fuel (nI i) (nI m) (nI n) a s tb od := by
  intro d
  induction d with
  | zero =>
    intro i fuel tb od hi hf hO
    obtain ⟨q, rfl⟩ : ∃ q, fuel = q + 1 := ⟨fuel - 1, by omega⟩
    rw [wY_tight_2]
    refine br_t (nI_lt (by omega) (by omega)) ⟨n + 2, ?_⟩
    exact tg_60 hm hn (fun k l h1 h2 => hO k l h1 h2 (by omega)) (K tb od) (n + 1) 0 (n + 2) (by omega) (by omega)
  | succ d ih =>
    intro i fuel tb od hi hf hO
    obtain ⟨q, rfl⟩ : ∃ q, fuel = q + 1 := ⟨fuel - 1, by omega⟩
    rw [wY_tight_2]
    refine br_f (nI_nlt (by omega) (by omega)) ⟨n + 2, ?_⟩
    exact tg_12 hm hn (by omega) (fun tb' od' h => ih (i + 1) q tb' od' (by omega) (by omega) h) (n + 1 - i) i (n + 2) tb od (by omega) (by omega) (by omega) hO
end
theorem i_vc_tight {k : Nat} {u : SX} {v : SY} (I : i_Rel k u v) (hk : k + 3 ≤ 1536) : wpX_tight (fun r => wpY_tight (fun r' v' => r' = r ∧ i_Rel (k + 3) u v') v) u := by
  obtain ⟨m, n, a, s, ro, co, ri, dn, tb, od, R, rfl, rfl⟩ := I
  have hm := R.1
  have hn := R.2.1
  unfold wpX_tight wpY_tight
  dsimp only
  refine nm_r (nI_1 n) ⟨n + 1, tg_9 R ?_ n 0 (n + 1) (by omega) (by omega)⟩
  refine ⟨n + 2, tg_y2 hm hn ?_ (n + 1) 0 (n + 2) tb od (by omega) (by omega) (fun i' j' a1 a2 a3 => by omega)⟩
  intro tb' od'
  rw [tg_tot]
  exact ⟨rfl, m, n, a, s, ro, co, ri, dn, tb', od', R, rfl, rfl⟩
end
