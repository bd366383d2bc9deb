section
/-! bits of an Int32 (family 'Int32 by its bits' of the starting text BITS.to-paste, renamed) -/
def ty_b (x : Int32) (i : Nat) : Bool := x.toBitVec.getLsbD i
theorem ty_ext {x y : Int32} (h : ∀ i, i < 32 → ty_b x i = ty_b y i) : x = y := Int32.toBitVec_inj.mp (BitVec.eq_of_getLsbD_eq (fun i hi => h i hi))
theorem ty_or (x y : Int32) (i : Nat) : ty_b (x ||| y) i = (ty_b x i || ty_b y i) := by unfold ty_b; rw [Int32.toBitVec_or, BitVec.getLsbD_or]
theorem ty_and (x y : Int32) (i : Nat) : ty_b (x &&& y) i = (ty_b x i && ty_b y i) := by unfold ty_b; rw [Int32.toBitVec_and, BitVec.getLsbD_and]
theorem ty_xor (x y : Int32) (i : Nat) : ty_b (x ^^^ y) i = (ty_b x i ^^ ty_b y i) := by unfold ty_b; rw [Int32.toBitVec_xor, BitVec.getLsbD_xor]
theorem ty_mone : ∀ i, i < 32 → ty_b (-1) i = true := by decide +kernel
theorem ty_z (i : Nat) : ty_b 0 i = false := BitVec.getLsbD_zero
theorem ty_one : ∀ i, i < 32 → ty_b 1 i = decide (i = 0) := by decide +kernel
theorem ty_three : ∀ i, i < 32 → ty_b 3 i = decide (i < 2) := by decide +kernel
theorem ty_sl : ∀ n, n < 32 → ((nI n &&& 31).toBitVec.smod 32).toNat = n := by decide +kernel
theorem ty_shl (n : Nat) (hn : n < 32) (x : Int32) {i : Nat} (hi : i < 32) : ty_b (x <<< (nI n &&& 31)) i = (decide (n ≤ i) && ty_b x (i - n)) := by
  unfold ty_b
  rw [Int32.toBitVec_shiftLeft]
  show (x.toBitVec <<< ((nI n &&& 31).toBitVec.smod 32).toNat).getLsbD i = _
  rw [ty_sl n hn, BitVec.getLsbD_shiftLeft]
  rcases Nat.lt_or_ge i n with h | h
  · simp [h, Nat.not_le.mpr h]
  · simp [hi, h, Nat.not_lt.mpr h]
theorem ty_sshr (n : Nat) (hn : n < 32) (x : Int32) {i : Nat} (hi : i < 32) : ty_b (x >>> (nI n &&& 31)) i = if n + i < 32 then ty_b x (n + i) else ty_b x 31 := by
  unfold ty_b
  rw [Int32.toBitVec_shiftRight]
  show (x.toBitVec.sshiftRight ((nI n &&& 31).toBitVec.smod 32).toNat).getLsbD i = _
  rw [ty_sl n hn, BitVec.getLsbD_sshiftRight, BitVec.msb_eq_getLsbD_last]
  simp [hi]
theorem ty_n8 (x : Int32) {i : Nat} (hi : i < 8) : ty_b x.toInt8.toInt32 i = ty_b x i := by
  unfold ty_b
  rw [Int8.toBitVec_toInt32, Int32.toBitVec_toInt8, BitVec.getLsbD_signExtend, BitVec.getLsbD_signExtend]
  simp [hi, show i < 32 by omega]
theorem ty_bit (p : Int32) {w : Nat} (h : w < 32) : ((p >>> (nI w &&& 31)) &&& 1) = if ty_b p w then 1 else 0 := by
  apply ty_ext
  intro i hi
  rw [ty_and, ty_sshr w h p hi, ty_one i hi]
  by_cases e : i = 0
  · subst e
    cases hb : ty_b p w
    · simp [h, hb, ty_z]
    · simp [h, hb, ty_one]
  · cases hb : ty_b p w
    · simp [e, ty_z]
    · simp [e, ty_one i hi]
theorem ty_bit0 (p : Int32) {w : Nat} (h : w < 32) : ((p >>> (nI w &&& 31)) &&& 1) = 0 ↔ ty_b p w = false := by
  rw [ty_bit p h]
  cases ty_b p w <;> decide
theorem ty_bit1 (p : Int32) {w : Nat} (h : w < 32) : ((p >>> (nI w &&& 31)) &&& 1) = 1 ↔ ty_b p w = true := by
  rw [ty_bit p h]
  cases ty_b p w <;> decide
theorem ty_and1 (p : Int32) : p &&& 1 = if ty_b p 0 then 1 else 0 := by
  apply ty_ext
  intro i hi
  rw [ty_and, ty_one i hi]
  by_cases e : i = 0
  · subst e
    cases hb : ty_b p 0
    · simp [ty_z]
    · simp [ty_one]
  · cases hb : ty_b p 0
    · simp [e, ty_z]
    · simp [e, ty_one i hi]
theorem ty_sb (w : Nat) (h : w < 32) {i : Nat} (hi : i < 32) : ty_b ((1 : Int32) <<< (nI w &&& 31)) i = decide (i = w) := by
  rw [ty_shl w h 1 hi, ty_one (i - w) (by omega)]
  by_cases e : i = w
  · subst e
    simp
  · rcases Nat.lt_or_ge i w with z | z
    · simp [e, Nat.not_le.mpr z]
    · simp [e, z]
      omega
theorem ty_set (p : Int32) (w : Nat) (h : w < 32) {i : Nat} (hi : i < 32) : ty_b (p ||| ((1 : Int32) <<< (nI w &&& 31))) i = (ty_b p i || decide (i = w)) := by
  rw [ty_or, ty_sb w h hi]
theorem ty_clr (p : Int32) (w : Nat) (h : w < 32) {i : Nat} (hi : i < 32) : ty_b (p &&& (((1 : Int32) <<< (nI w &&& 31)) ^^^ (-1))) i = (ty_b p i && !decide (i = w)) := by
  rw [ty_and, ty_xor, ty_sb w h hi, ty_mone i hi]
  simp
theorem ty_or0 (x : Int32) : x ||| 0 = x := by
  apply ty_ext
  intro i _
  rw [ty_or, ty_z, Bool.or_false]
theorem ty_add0 (x : Int32) : x + 0 = x := Int32.add_zero x
/-- small numbers are their own bytes -/
theorem ty_byte : ∀ n, n < 128 → (nI n).toInt8.toInt32 = nI n := by decide +kernel
/-- two small numbers with the same two bits -/
theorem ty_two {a b : Nat} (ha : a < 4) (hb : b < 4) (h : ∀ i, i < 2 → ty_b (nI a) i = ty_b (nI b) i) : a = b :=
  (by decide +kernel : ∀ a, a < 4 → ∀ b, b < 4 → (∀ i, i < 2 → ty_b (nI a) i = ty_b (nI b) i) → a = b) a ha b hb h

/-! counting below a bound -/
def ty_cnt (P : Nat → Bool) : Nat → Nat
  | 0 => 0
  | n + 1 => ty_cnt P n + (if P n then 1 else 0)
theorem ty_cnt_eq {P Q : Nat → Bool} {n : Nat} (h : ∀ v, v < n → P v = Q v) : ty_cnt P n = ty_cnt Q n := by
  induction n with
  | zero => rfl
  | succ n ih =>
    show ty_cnt P n + _ = ty_cnt Q n + _
    rw [ih (fun v hv => h v (by omega)), h n (by omega)]
theorem ty_cnt_le {P Q : Nat → Bool} {n : Nat} (h : ∀ v, v < n → P v = true → Q v = true) : ty_cnt P n ≤ ty_cnt Q n := by
  induction n with
  | zero => exact Nat.le_refl _
  | succ n ih =>
    have h1 := ih (fun v hv => h v (by omega))
    have h2 := h n (by omega)
    show ty_cnt P n + _ ≤ ty_cnt Q n + _
    cases hp : P n
    · simp
      omega
    · simp [h2 hp]
      omega
theorem ty_cnt_lt {P Q : Nat → Bool} {n w : Nat} (h : ∀ v, v < n → P v = true → Q v = true) (hw : w < n) (h0 : P w = false) (h1 : Q w = true) : ty_cnt P n < ty_cnt Q n := by
  induction n with
  | zero => omega
  | succ n ih =>
    show ty_cnt P n + _ < ty_cnt Q n + _
    by_cases e : w = n
    · subst e
      have h3 := ty_cnt_le (n := w) (fun v hv => h v (by omega))
      simp [h0, h1]
      omega
    · have h3 := ih (fun v hv => h v (by omega)) (by omega)
      have h2 := h n (by omega)
      cases hp : P n
      · simp
        omega
      · simp [h2 hp]
        omega
theorem ty_cnt_max (P : Nat → Bool) (n : Nat) : ty_cnt P n ≤ n := by
  induction n with
  | zero => exact Nat.le_refl _
  | succ n ih =>
    show ty_cnt P n + _ ≤ _
    split <;> omega

/-! the place of w among those of F, by a key -/
def ty_pl (F : Nat → Bool) (K : Nat → Int) (N w : Nat) : Nat := ty_cnt (fun v => F v && decide (K v < K w)) N
theorem ty_pl_lt {F : Nat → Bool} {K : Nat → Int} {N w : Nat} (hw : w < N) (hf : F w = true) : ty_pl F K N w < ty_cnt F N :=
  ty_cnt_lt (w := w) (fun v _ h => by simp at h; exact h.1) hw (by simp) hf
theorem ty_pl_mono {F : Nat → Bool} {K : Nat → Int} {N v w : Nat} (hv : v < N) (hf : F v = true) (h : K v < K w) : ty_pl F K N v < ty_pl F K N w :=
  ty_cnt_lt (w := v) (fun u _ z => by simp at z ⊢; exact ⟨z.1, by omega⟩) hv (by simp) (by simp [hf, h])
theorem ty_pl_inj {F : Nat → Bool} {K : Nat → Int} {N v w : Nat} (hi : ∀ v w, v < N → w < N → K v = K w → v = w) (hv : v < N) (hw : w < N) (fv : F v = true) (fw : F w = true) (h : ty_pl F K N v = ty_pl F K N w) : v = w := by
  rcases Int.lt_trichotomy (K v) (K w) with z | z | z
  · have := ty_pl_mono (F := F) (K := K) hv fv z
    omega
  · exact hi v w hv hw z
  · have := ty_pl_mono (F := F) (K := K) hw fw z
    omega
theorem ty_pl_sur {F : Nat → Bool} {K : Nat → Int} {N : Nat} (hi : ∀ v w, v < N → w < N → K v = K w → v = w) : ∀ k, k < ty_cnt F N → ∃ w, w < N ∧ F w = true ∧ ty_pl F K N w = k := by
  induction N with
  | zero => intro k hk; exact absurd hk (Nat.not_lt_zero k)
  | succ N ih =>
    intro k hk
    have ih := ih (fun v w hv hw => hi v w (by omega) (by omega))
    have e : ∀ w, ty_pl F K (N + 1) w = ty_pl F K N w + (if (F N && decide (K N < K w)) then 1 else 0) := fun w => rfl
    have e2 : ty_cnt F (N + 1) = ty_cnt F N + (if F N then 1 else 0) := rfl
    cases hF : F N
    · rw [e2, hF] at hk
      obtain ⟨w, h1, h2, h3⟩ := ih k (by simpa using hk)
      exact ⟨w, by omega, h2, by rw [e w, hF, h3]; rfl⟩
    · rw [e2, hF] at hk
      simp at hk
      rcases Nat.lt_trichotomy k (ty_pl F K N N) with z | z | z
      · obtain ⟨w, h1, h2, h3⟩ := ih k (by
          have : ty_pl F K N N ≤ ty_cnt F N := ty_cnt_le (fun v _ h => by simp at h; exact h.1)
          omega)
        refine ⟨w, by omega, h2, ?_⟩
        have : ¬ K N < K w := by
          intro g
          have : ty_pl F K N N ≤ ty_pl F K N w := ty_cnt_le (fun v _ h => by simp at h ⊢; exact ⟨h.1, by omega⟩)
          omega
        rw [e w, h3]
        simp [this]
      · exact ⟨N, by omega, hF, by rw [e N]; simp; exact z.symm⟩
      · obtain ⟨w, h1, h2, h3⟩ := ih (k - 1) (by omega)
        refine ⟨w, by omega, h2, ?_⟩
        have g : K N < K w := by
          rcases Int.lt_trichotomy (K N) (K w) with y | y | y
          · exact y
          · have := hi N w (by omega) (by omega) y
            omega
          · have := ty_pl_mono (F := F) (K := K) h1 h2 y
            omega
        rw [e w, h3, hF]
        simp [g]
        omega

/-! typos: three sets moved along a word -/
def ty_m0 (sz s : Int32) : Int32 := (s &&& (((1 : Int32) <<< (sz &&& 31)) - 1)) &&& (-2)
def ty_m1 (sz s : Int32) : Int32 := (s &&& (((1 : Int32) <<< (sz &&& 31)) - 1)) &&& 1
def ty_lo (sz : Int32) (s : Int32 × Int32 × Int32) : Int32 × Int32 × Int32 :=
  (s.1, s.2.1 ||| (ty_m0 sz s.1 <<< ((1 : Int32) &&& 31)), (s.2.2 ||| (ty_m0 sz (s.2.1 ||| (ty_m0 sz s.1 <<< ((1 : Int32) &&& 31))) <<< ((1 : Int32) &&& 31))) ||| (ty_m1 sz s.1 <<< ((1 : Int32) &&& 31)))
def ty_ad (sz same : Int32) (s : Int32 × Int32 × Int32) : Int32 × Int32 × Int32 :=
  ty_lo sz ((s.1 &&& same) <<< ((1 : Int32) &&& 31), (((s.2.1 &&& same) <<< ((1 : Int32) &&& 31)) ||| (ty_m0 sz s.1 <<< ((1 : Int32) &&& 31))) ||| (s.1 &&& (-2)), ((((s.2.2 &&& same) <<< ((1 : Int32) &&& 31)) ||| (ty_m0 sz s.2.1 <<< ((1 : Int32) &&& 31))) ||| (s.2.1 &&& (-2))) ||| ((ty_m1 sz s.1 <<< ((1 : Int32) &&& 31)) ||| (s.1 &&& 1)))
def ty_rc (sz : Int32) (s : Int32 × Int32 × Int32) : Nat :=
  if s.1 &&& ((1 : Int32) <<< (sz &&& 31)) = 0 then if s.2.1 &&& ((1 : Int32) <<< (sz &&& 31)) = 0 then if s.2.2 &&& ((1 : Int32) <<< (sz &&& 31)) = 0 then 3 else 2 else 1 else 0
def ty_hv (a4 : Nat → Int32) : Nat → Nat → Int32
  | 0 => fun _ => 0
  | i + 1 => upd (ty_hv a4 i) (a4 i).toNatClampNeg ((ty_hv a4 i (a4 i).toNatClampNeg ||| ((1 : Int32) <<< (nI i &&& 31))).toInt8.toInt32)
def ty_st (q : Nat) (h a3 : Nat → Int32) (w : Nat) : Nat → Int32 × Int32 × Int32
  | 0 => ty_lo (nI q) (1, 0, 0)
  | k + 1 => ty_ad (nI q) (h (a3 (w * 6 + k)).toNatClampNeg) (ty_st q h a3 w k)
def ty_ls (q : Nat) (h a3 : Nat → Int32) (w : Nat) : Nat → Nat
  | 0 => ty_rc (nI q) (ty_st q h a3 w 0)
  | k + 1 => if ty_ls q h a3 w k ≤ ty_rc (nI q) (ty_st q h a3 w (k + 1)) then ty_ls q h a3 w k else ty_rc (nI q) (ty_st q h a3 w (k + 1))
/-- the typos of word w against the first q symbols of a4 -/
def ty_T (q : Nat) (a1 a3 a4 : Nat → Int32) (w : Nat) : Nat := ty_ls q (ty_hv a4 q) a3 w (a1 w).toNatClampNeg
def ty_fg (q : Nat) : Nat := if 3 ≤ q then if 5 ≤ q then 2 else 1 else 0
/-- word w is there and found -/
def ty_fd (p : Int32) (q : Nat) (a1 a3 a4 : Nat → Int32) (w : Nat) : Bool := ty_b p w && decide (ty_T q a1 a3 a4 w ≤ ty_fg q)
theorem ty_rc_le (sz : Int32) (s : Int32 × Int32 × Int32) : ty_rc sz s ≤ 3 := by
  unfold ty_rc
  repeat' split
  all_goals omega
theorem ty_ls_le (q : Nat) (h a3 : Nat → Int32) (w k : Nat) : ty_ls q h a3 w k ≤ 3 := by
  cases k with
  | zero => exact ty_rc_le _ _
  | succ k =>
    show (if _ then _ else _) ≤ 3
    have := ty_rc_le (nI q) (ty_st q h a3 w (k + 1))
    split <;> omega
theorem ty_ls_rc (q : Nat) (h a3 : Nat → Int32) (w k : Nat) : ty_ls q h a3 w k ≤ ty_rc (nI q) (ty_st q h a3 w k) := by
  cases k with
  | zero => exact Nat.le_refl _
  | succ k =>
    show (if _ then _ else _) ≤ _
    split <;> omega
theorem ty_ls_s (q : Nat) (h a3 : Nat → Int32) (w k : Nat) : ty_ls q h a3 w (k + 1) ≤ ty_ls q h a3 w k := by
  show (if _ then _ else _) ≤ _
  split <;> omega
theorem ty_ls_anti (q : Nat) (h a3 : Nat → Int32) (w k d : Nat) : ty_ls q h a3 w (k + d) ≤ ty_ls q h a3 w k := by
  induction d with
  | zero => exact Nat.le_refl _
  | succ d ih => exact Nat.le_trans (ty_ls_s q h a3 w (k + d)) ih
theorem ty_T_le (q : Nat) (a1 a3 a4 : Nat → Int32) (w : Nat) : ty_T q a1 a3 a4 w ≤ 3 := ty_ls_le _ _ _ _ _
theorem ty_hv_eq {a b : Nat → Int32} {i : Nat} (h : ∀ j, j < i → a j = b j) : ty_hv a i = ty_hv b i := by
  induction i with
  | zero => rfl
  | succ i ih =>
    show upd _ _ _ = upd _ _ _
    rw [ih (fun j hj => h j (by omega)), h i (by omega)]
theorem ty_T_eq {q : Nat} {a1 a3 a b : Nat → Int32} {w : Nat} (h : ∀ j, j < q → a j = b j) : ty_T q a1 a3 a w = ty_T q a1 a3 b w := by
  unfold ty_T
  rw [ty_hv_eq h]
theorem ty_fd_eq {p : Int32} {q : Nat} {a1 a3 a b : Nat → Int32} {w : Nat} (h : ∀ j, j < q → a j = b j) : ty_fd p q a1 a3 a w = ty_fd p q a1 a3 b w := by
  unfold ty_fd
  rw [ty_T_eq h]
/-- nothing typed: no typos -/
theorem ty_T_0 (a1 a3 a4 : Nat → Int32) (w : Nat) : ty_T 0 a1 a3 a4 w = 0 := by
  have h := ty_ls_anti 0 (ty_hv a4 0) a3 w 0 (a1 w).toNatClampNeg
  have e : ty_ls 0 (ty_hv a4 0) a3 w 0 = 0 := by
    show ty_rc (nI 0) (ty_lo (nI 0) (1, 0, 0)) = 0
    decide +kernel
  rw [e, Nat.zero_add] at h
  exact Nat.le_zero.mp h
theorem ty_hv_keep {a4 : Nat → Int32} {i k c : Nat} (hk : k < 8) (h : ty_b (ty_hv a4 i c) k = true) : ty_b (ty_hv a4 (i + 1) c) k = true := by
  show ty_b (upd (ty_hv a4 i) _ _ c) k = true
  by_cases e : c = (a4 i).toNatClampNeg
  · subst e
    rw [pk_us, ty_n8 _ hk, ty_or, h, Bool.true_or]
  · rw [pk_un e]
    exact h
theorem ty_hv_has {a4 : Nat → Int32} {i k : Nat} (hk : k < i) (hi : i ≤ 6) : ty_b (ty_hv a4 i (a4 k).toNatClampNeg) k = true := by
  induction i with
  | zero => omega
  | succ i ih =>
    by_cases e : k = i
    · subst e
      show ty_b (upd (ty_hv a4 k) _ _ _) k = true
      rw [pk_us, ty_n8 _ (by omega), ty_set _ k (by omega) (by omega)]
      simp
    · exact ty_hv_keep (by omega) (ih (by omega) (by omega))
theorem ty_sbs : ∀ k, k < 7 → ((1 : Int32) <<< (nI k &&& 31)) <<< ((1 : Int32) &&& 31) = (1 : Int32) <<< (nI (k + 1) &&& 31) := by decide +kernel
theorem ty_sbn : ∀ k, k < 7 → ¬ ((1 : Int32) <<< (nI k &&& 31)) &&& ((1 : Int32) <<< (nI k &&& 31)) = 0 := by decide +kernel
theorem ty_sba {x : Int32} {k : Nat} (hk : k < 32) (h : ty_b x k = true) : ((1 : Int32) <<< (nI k &&& 31)) &&& x = (1 : Int32) <<< (nI k &&& 31) := by
  apply ty_ext
  intro i hi
  rw [ty_and, ty_sb k hk hi]
  by_cases e : i = k
  · subst e
    simp [h]
  · simp [e]
/-- while the word goes along with the query, no typo is made -/
theorem ty_st_1 {q : Nat} {a3 a4 : Nat → Int32} {w k : Nat} (hq : q ≤ 6) (hk : k ≤ q) (h : ∀ j, j < k → a3 (w * 6 + j) = a4 j) : (ty_st q (ty_hv a4 q) a3 w k).1 = (1 : Int32) <<< (nI k &&& 31) := by
  induction k with
  | zero => rfl
  | succ k ih =>
    have e := ih (by omega) (fun j hj => h j (by omega))
    show ((ty_st q (ty_hv a4 q) a3 w k).1 &&& (ty_hv a4 q (a3 (w * 6 + k)).toNatClampNeg)) <<< ((1 : Int32) &&& 31) = _
    rw [e, h k (by omega), ty_sba (by omega) (ty_hv_has (by omega) hq)]
    exact ty_sbs k (by omega)
/-- the query begins the word: no typos -/
theorem ty_T_pre {q : Nat} {a1 a3 a4 : Nat → Int32} {w l : Nat} (hq : q ≤ 6) (hl : (a1 w).toNatClampNeg = l) (hk : q ≤ l) (h : ∀ j, j < q → a3 (w * 6 + j) = a4 j) : ty_T q a1 a3 a4 w = 0 := by
  unfold ty_T
  rw [hl, show l = q + (l - q) by omega]
  have h1 := ty_ls_anti q (ty_hv a4 q) a3 w q (l - q)
  have h2 := ty_ls_rc q (ty_hv a4 q) a3 w q
  have h3 : ty_rc (nI q) (ty_st q (ty_hv a4 q) a3 w q) = 0 := by
    unfold ty_rc
    rw [ty_st_1 hq (Nat.le_refl q) h, if_neg (ty_sbn q (by omega))]
  omega
end
section
section
variable {p sz n o t kn fs : Int32} {a1 a2 a3 a4 a5 a6 : Nat → Int32}
/-- lengths at most 6, symbols below 4 -/
def ty_I (q : Nat) (a1 a3 a4 : Nat → Int32) : Prop := q ≤ 6 ∧ (∀ w, w < 10 → ∃ l, l ≤ 6 ∧ a1 w = nI l) ∧ (∀ j, j < 60 → ∃ s, s < 4 ∧ a3 j = nI s) ∧ (∀ j, j < 6 → ∃ s, s < 4 ∧ a4 j = nI s)
/-- what is known once learned -/
def ty_L (p : Int32) (q : Nat) (fs : Int32) (a1 a3 a4 a6 : Nat → Int32) : Prop := ∀ w, w < 10 → ty_b fs w = ty_fd p q a1 a3 a4 w ∧ (ty_b p w = true → a6 w = nI (ty_T q a1 a3 a4 w))
theorem ty_ix (w k : Nat) : nI w * 6 + nI k = nI (w * 6 + k) := by
  rw [show (6 : Int32) = nI 6 from rfl, pk_mul, nI_add]
theorem ty_wm0 {post : Int32 → Prop} {s : Int32} (h : post (ty_m0 sz s)) : wpX_movable post (p, sz, n, o, t, kn, fs, a1, a2, a3, a4, a5, a6) s 0 := nm_e (br_t rfl h)
theorem ty_wm1 {post : Int32 → Prop} {s : Int32} (h : post (ty_m1 sz s)) : wpX_movable post (p, sz, n, o, t, kn, fs, a1, a2, a3, a4, a5, a6) s 1 := nm_e (br_f (by decide) h)
theorem ty_wlo {post : St1 → Prop} (h : post (p, sz, (ty_lo sz (n, o, t)).1, (ty_lo sz (n, o, t)).2.1, (ty_lo sz (n, o, t)).2.2, kn, fs, a1, a2, a3, a4, a5, a6)) : wpX_leaveOut post (p, sz, n, o, t, kn, fs, a1, a2, a3, a4, a5, a6) := by
  unfold wpX_leaveOut
  dsimp only
  exact ty_wm0 (nm_e (ty_wm0 (nm_e (ty_wm1 (nm_e h)))))
theorem ty_wso22 {post : St1 → Prop} {q : Nat} (hq : q ≤ 6) (h4 : ∀ j, j < 6 → ∃ s, s < 4 ∧ a4 j = nI s) (h5 : ∀ j, j < 4 → a5 j = 0)
    (H : ∀ b5, (∀ j, j < 4 → b5 j = ty_hv a4 q j) → post (p, nI q, (ty_lo (nI q) (1, 0, 0)).1, (ty_lo (nI q) (1, 0, 0)).2.1, (ty_lo (nI q) (1, 0, 0)).2.2, kn, fs, a1, a2, a3, a4, b5, a6)) :
    ∃ f, wX_setOut_22 post p (nI q) n o t kn fs f 0 a1 a2 a3 a4 a5 a6 :=
  pk_loop (fun f i s => wX_setOut_22 post p (nI q) n o t kn fs f (nI i) a1 a2 a3 a4 s a6) (fun i s => ∀ j, j < 4 → s j = ty_hv a4 i j) q 0 a5 (by omega) (fun j hj => h5 j hj)
    (fun f s h => pk_le q q (fun _ => ty_wlo (H s h)) (fun z => absurd z (by omega)))
    (fun f i s hi h hw => by
      obtain ⟨c, hc, e⟩ := h4 i (by omega)
      refine pk_le q i (fun z => absurd z (by omega)) (fun _ => ⟨pk_in i 6 (by omega), nm_r (e' := nI c) (by rw [nI_clamp (by omega)]; exact e) ⟨pk_in c 4 hc, pk_in c 4 hc, nm_e (nm_r (nI_1 i) (hw _ ?_))⟩⟩)
      intro j hj
      rw [nI_clamp (show c < 2 ^ 31 by omega)]
      show _ = upd (ty_hv a4 i) (a4 i).toNatClampNeg ((ty_hv a4 i (a4 i).toNatClampNeg ||| ((1 : Int32) <<< (nI i &&& 31))).toInt8.toInt32) j
      rw [e, nI_clamp (show c < 2 ^ 31 by omega), ← h c hc]
      by_cases z : j = c
      · rw [z, pk_us, pk_us]
      · rw [pk_un z, pk_un z]
        exact h j hj)
theorem ty_wso {post : St1 → Prop} {q : Nat} (hq : q ≤ 6) (h4 : ∀ j, j < 6 → ∃ s, s < 4 ∧ a4 j = nI s)
    (H : ∀ b5, (∀ j, j < 4 → b5 j = ty_hv a4 q j) → post (p, nI q, (ty_lo (nI q) (1, 0, 0)).1, (ty_lo (nI q) (1, 0, 0)).2.1, (ty_lo (nI q) (1, 0, 0)).2.2, kn, fs, a1, a2, a3, a4, b5, a6)) :
    wpX_setOut post (p, nI q, n, o, t, kn, fs, a1, a2, a3, a4, a5, a6) :=
  pk_loop (fun f i s => wX_setOut_2 post p (nI q) n o t kn fs f (nI i) a1 a2 a3 a4 s a6) (fun i s => ∀ j, j < i → s j = 0) 4 0 a5 (by omega) (fun j hj => absurd hj (by omega))
    (fun f s h => pk_le 4 4 (fun _ => ty_wso22 hq h4 h H) (fun z => absurd z (by omega)))
    (fun f i s hi h hw => by
      refine pk_le 4 i (fun z => absurd z (by omega)) (fun _ => ⟨pk_in i 4 hi, nm_e (nm_r (nI_1 i) (hw _ ?_))⟩)
      intro j hj
      rw [nI_clamp (show i < 2 ^ 31 by omega)]
      by_cases z : j = i
      · rw [z, pk_us]
      · rw [pk_un z]
        exact h j (by omega))
theorem ty_wad {post : St1 → Prop} {c : Nat} {x : Int32} (hc : c < 4) (hx : x = nI c) (h : post (p, sz, (ty_ad sz (a5 c) (n, o, t)).1, (ty_ad sz (a5 c) (n, o, t)).2.1, (ty_ad sz (a5 c) (n, o, t)).2.2, kn, fs, a1, a2, a3, a4, a5, a6)) :
    wpX_advance post (p, sz, n, o, t, kn, fs, a1, a2, a3, a4, a5, a6) x := by
  subst hx
  unfold wpX_advance
  dsimp only
  refine ⟨pk_in c 4 hc, nm_r (e' := a5 c) (by rw [nI_clamp (by omega)]) ?_⟩
  exact ty_wm0 (nm_e (ty_wm1 (nm_e (ty_wm0 (nm_e (nm_e (ty_wlo h)))))))
theorem ty_wrc {post : Int32 → Prop} (h : post (nI (ty_rc sz (n, o, t)))) : wpX_reached post (p, sz, n, o, t, kn, fs, a1, a2, a3, a4, a5, a6) := by
  unfold ty_rc at h
  refine nm_e ?_
  refine br_c (fun e1 => br_c (fun e2 => br_c (fun e3 => ?_) (fun e3 => ?_)) (fun e2 => ?_)) (fun e1 => ?_)
  · rw [if_pos e1, if_pos e2, if_pos e3] at h
    exact h
  · rw [if_pos e1, if_pos e2, if_neg e3] at h
    exact h
  · rw [if_pos e1, if_neg e2] at h
    exact h
  · rw [if_neg e1] at h
    exact h
theorem ty_wto {post : Int32 → St1 → Prop} {w l q : Nat} {hv : Nat → Int32} (hw : w < 10) (hl : l ≤ 6) (e1 : a1 w = nI l) (h3 : ∀ j, j < 60 → ∃ s, s < 4 ∧ a3 j = nI s) (h5 : ∀ j, j < 4 → a5 j = hv j)
    (H : post (nI (ty_ls q hv a3 w l)) (p, nI q, (ty_st q hv a3 w l).1, (ty_st q hv a3 w l).2.1, (ty_st q hv a3 w l).2.2, kn, fs, a1, a2, a3, a4, a5, a6)) :
    ∃ f, wX_typosOf_11 post (nI w) f (nI (ty_ls q hv a3 w 0)) 0 p (nI q) (ty_st q hv a3 w 0).1 (ty_st q hv a3 w 0).2.1 (ty_st q hv a3 w 0).2.2 kn fs a1 a2 a3 a4 a5 a6 :=
  pk_loop (σ := Unit) (fun f k _ => wX_typosOf_11 post (nI w) f (nI (ty_ls q hv a3 w k)) (nI k) p (nI q) (ty_st q hv a3 w k).1 (ty_st q hv a3 w k).2.1 (ty_st q hv a3 w k).2.2 kn fs a1 a2 a3 a4 a5 a6) (fun _ _ => True) l 0 () (by omega) trivial
    (fun f _ _ => ⟨pk_in w 10 hw, pk_le l l (fun _ => H) (fun z => absurd z (by omega)) (by rw [nI_clamp (by omega)]; exact e1)⟩)
    (fun f k _ hk _ ih => by
      obtain ⟨c, hc, e⟩ := h3 (w * 6 + k) (by omega)
      have es : ty_st q hv a3 w (k + 1) = ty_ad (nI q) (a5 c) (ty_st q hv a3 w k) := by
        show ty_ad (nI q) (hv (a3 (w * 6 + k)).toNatClampNeg) (ty_st q hv a3 w k) = _
        rw [e, nI_clamp (show c < 2 ^ 31 by omega), h5 c hc]
      have el : ty_ls q hv a3 w (k + 1) = if ty_ls q hv a3 w k ≤ ty_rc (nI q) (ty_st q hv a3 w (k + 1)) then ty_ls q hv a3 w k else ty_rc (nI q) (ty_st q hv a3 w (k + 1)) := rfl
      have b1 := ty_ls_le q hv a3 w k
      have b2 := ty_rc_le (nI q) (ty_ad (nI q) (a5 c) (ty_st q hv a3 w k))
      have t := ih () trivial
      rw [el, es] at t
      refine ⟨pk_in w 10 hw, pk_le l k (fun z => absurd z (by omega)) (fun _ => ⟨pk_in (w * 6 + k) 60 (by omega) (ty_ix w k), ?_⟩) (by rw [nI_clamp (by omega)]; exact e1)⟩
      refine ty_wad hc (by rw [ty_ix, nI_clamp (by omega)]; exact e) (ty_wrc ?_)
      refine pk_le (ty_ls q hv a3 w k) (ty_rc (nI q) (ty_ad (nI q) (a5 c) (ty_st q hv a3 w k))) (fun z => nm_r (nI_1 k) ?_) (fun z => nm_r (nI_1 k) ?_)
      · rw [if_pos z] at t
        exact t
      · rw [if_neg (by omega)] at t
        exact t)
theorem ty_wty {post : Int32 → St1 → Prop} {q w : Nat} (hI : ty_I q a1 a3 a4) (hw : w < 10)
    (H : ∀ n' o' t' b5, post (nI (ty_T q a1 a3 a4 w)) (p, nI q, n', o', t', kn, fs, a1, a2, a3, a4, b5, a6)) :
    wpX_typosOf post (p, nI q, n, o, t, kn, fs, a1, a2, a3, a4, a5, a6) (nI w) := by
  obtain ⟨hq, h1, h3, h4⟩ := hI
  obtain ⟨l, hl, e1⟩ := h1 w hw
  have eT : ty_T q a1 a3 a4 w = ty_ls q (ty_hv a4 q) a3 w l := by
    unfold ty_T
    rw [e1, nI_clamp (by omega)]
  rw [eT] at H
  unfold wpX_typosOf
  dsimp only
  exact ty_wso hq h4 (fun b5 h5 => ty_wrc (ty_wto hw hl e1 h3 h5 (H _ _ _ b5)))
theorem ty_wfg {post : Int32 → Prop} {q : Nat} (hq : q ≤ 6) (h : post (nI (ty_fg q))) : wpX_forgiven post (p, nI q, n, o, t, kn, fs, a1, a2, a3, a4, a5, a6) := by
  unfold ty_fg at h
  refine pk_le 3 q (fun z => pk_le 5 q (fun y => ?_) (fun y => ?_)) (fun z => ?_)
  · rw [if_pos z, if_pos y] at h
    exact h
  · rw [if_pos z, if_neg (by omega)] at h
    exact h
  · rw [if_neg (by omega)] at h
    exact h
theorem ty_whas {post : Int32 → Prop} {w : Nat} (hw : w < 10) (h1 : ty_b p w = true → post 1) (h0 : ty_b p w = false → post 0) : wpX_has post (p, sz, n, o, t, kn, fs, a1, a2, a3, a4, a5, a6) (nI w) := by
  refine br_f (nI_pos (by omega)) (br_f (nI_ge (b := 10) hw (by decide)) ?_)
  refine ek_if (ty_bit0 p (by omega)) h0 (fun z => h1 ?_)
  cases h : ty_b p w
  · exact absurd h z
  · rfl
theorem ty_wif {post : Int32 → Prop} {w : Nat} (hw : w < 10) (h1 : ty_b fs w = true → post 1) (h0 : ty_b fs w = false → post 0) : wpX_isFound post (p, sz, n, o, t, kn, fs, a1, a2, a3, a4, a5, a6) (nI w) := by
  refine ek_if (ty_bit0 fs (by omega)) h0 (fun z => h1 ?_)
  cases h : ty_b fs w
  · exact absurd h z
  · rfl
/-- learned below i, nothing found from i on -/
def ty_Li (p : Int32) (q : Nat) (a1 a3 a4 : Nat → Int32) (i : Nat) (fs : Int32) (a6 : Nat → Int32) : Prop := ∀ w, w < 10 → (w < i → ty_b fs w = ty_fd p q a1 a3 a4 w ∧ (ty_b p w = true → a6 w = nI (ty_T q a1 a3 a4 w))) ∧ (i ≤ w → ty_b fs w = false)
theorem ty_Li_no {q i : Nat} (h : ty_Li p q a1 a3 a4 i fs a6) (hp : ty_b p i = false) : ty_Li p q a1 a3 a4 (i + 1) fs a6 := by
  intro w hw
  refine ⟨fun z => ?_, fun z => (h w hw).2 (by omega)⟩
  by_cases e : w = i
  · subst e
    refine ⟨?_, fun y => ?_⟩
    · rw [(h w hw).2 (by omega)]
      unfold ty_fd
      rw [hp, Bool.false_and]
    · rw [hp] at y
      exact absurd y (by decide)
  · exact (h w hw).1 (by omega)
theorem ty_Li_yes {q i : Nat} {fs' : Int32} (h : ty_Li p q a1 a3 a4 i fs a6) (hp : ty_b p i = true) (hf : ∀ w, w < 10 → ty_b fs' w = (ty_b fs w || (decide (w = i) && decide (ty_T q a1 a3 a4 i ≤ ty_fg q)))) : ty_Li p q a1 a3 a4 (i + 1) fs' (upd a6 i (nI (ty_T q a1 a3 a4 i))) := by
  intro w hw
  rw [hf w hw]
  refine ⟨fun z => ?_, fun z => ?_⟩
  · by_cases e : w = i
    · subst e
      rw [(h w hw).2 (by omega), pk_us]
      refine ⟨?_, fun _ => rfl⟩
      unfold ty_fd
      rw [hp]
      simp
    · rw [pk_un e]
      simp [e]
      exact (h w hw).1 (by omega)
  · rw [(h w hw).2 (by omega)]
    simp
    omega
theorem ty_wle20 {post : St1 → Prop} {q : Nat} (hI : ty_I q a1 a3 a4)
    (H : ∀ n o t fs b5 b6, ty_L p q fs a1 a3 a4 b6 → post (p, nI q, n, o, t, 1, fs, a1, a2, a3, a4, b5, b6)) :
    ∃ f, wX_learn_20 post f 0 p (nI q) n o t 1 0 a1 a2 a3 a4 a5 a6 := by
  refine pk_loop (σ := Int32 × Int32 × Int32 × Int32 × (Nat → Int32) × (Nat → Int32)) (fun f i s => wX_learn_20 post f (nI i) p (nI q) s.1 s.2.1 s.2.2.1 1 s.2.2.2.1 a1 a2 a3 a4 s.2.2.2.2.1 s.2.2.2.2.2) (fun i s => ty_Li p q a1 a3 a4 i s.2.2.2.1 s.2.2.2.2.2) 10 0 (n, o, t, 0, a5, a6) (by omega) ?_ ?_ ?_
  · intro w hw
    exact ⟨fun z => absurd z (by omega), fun _ => ty_z w⟩
  · intro f s h
    exact pk_le 10 10 (fun _ => H _ _ _ _ _ _ (fun w hw => (h w hw).1 hw)) (fun z => absurd z (by omega))
  · intro f i s hi h ih
    obtain ⟨n, o, t, fs, a5, a6⟩ := s
    dsimp only at h
    refine pk_le 10 i (fun z => absurd z (by omega)) (fun _ => ty_whas hi (fun hp => br_f (by decide) (ty_wty hI hi (fun n' o' t' b5 => ?_))) (fun hp => br_t rfl (nm_r (nI_1 i) (ih (n, o, t, fs, a5, a6) (ty_Li_no h hp)))))
    have bT := ty_T_le q a1 a3 a4 i
    have bg : ty_fg q ≤ 2 := by
      unfold ty_fg
      repeat' split
      all_goals omega
    refine ⟨pk_in i 10 hi, nm_r (e' := upd a6 i (nI (ty_T q a1 a3 a4 i))) (by rw [nI_clamp (by omega), ty_byte _ (by omega)]) ⟨pk_in i 10 hi, ty_wfg hI.1 ?_⟩⟩
    refine pk_lt (ty_fg q) (ty_T q a1 a3 a4 i) (fun z => nm_r (ty_or0 fs) (nm_r (nI_1 i) (ih (n', o', t', fs, b5, upd a6 i (nI (ty_T q a1 a3 a4 i))) (ty_Li_yes h hp ?_)))) (fun z => nm_e (nm_r (nI_1 i) (ih (n', o', t', _, b5, upd a6 i (nI (ty_T q a1 a3 a4 i))) (ty_Li_yes h hp ?_)))) rfl (by rw [nI_clamp (by omega), pk_us])
    · intro w hw
      simp [show ¬ ty_T q a1 a3 a4 i ≤ ty_fg q by omega]
    · intro w hw
      rw [ty_set fs i (by omega) (by omega)]
      simp [z]
theorem ty_wle {post : St1 → Prop} {q : Nat} (hI : ty_I q a1 a3 a4) (hk : ¬ kn = 0 → ty_L p q fs a1 a3 a4 a6)
    (H : ∀ n o t kn fs b5 b6, ¬ kn = 0 → ty_L p q fs a1 a3 a4 b6 → post (p, nI q, n, o, t, kn, fs, a1, a2, a3, a4, b5, b6)) :
    wpX_learn post (p, nI q, n, o, t, kn, fs, a1, a2, a3, a4, a5, a6) :=
  br_c (fun _ => ty_wle20 hI (fun n o t fs b5 b6 h => H n o t 1 fs b5 b6 (by decide) h)) (fun z => H n o t kn fs a5 a6 z (hk z))
theorem ty_wfc8 {post : Int32 → St1 → Prop} (H : post (nI (ty_cnt (ty_b fs) 10)) (p, sz, n, o, t, kn, fs, a1, a2, a3, a4, a5, a6)) :
    ∃ f, wX_foundCount_8 post p sz n o t kn fs a1 a2 a3 a4 a5 a6 f 0 0 :=
  pk_loop (σ := Unit) (fun f i _ => wX_foundCount_8 post p sz n o t kn fs a1 a2 a3 a4 a5 a6 f (nI (ty_cnt (ty_b fs) i)) (nI i)) (fun _ _ => True) 10 0 () (by omega) trivial
    (fun f _ _ => pk_le 10 10 (fun _ => H) (fun z => absurd z (by omega)))
    (fun f i _ hi _ ih => by
      have t := ih () trivial
      have e : ty_cnt (ty_b fs) (i + 1) = ty_cnt (ty_b fs) i + (if ty_b fs i then 1 else 0) := rfl
      rw [e] at t
      refine pk_le 10 i (fun z => absurd z (by omega)) (fun _ => ty_wif hi (fun h => br_f (by decide) (nm_r (nI_1 _) (nm_r (nI_1 i) ?_))) (fun h => br_t rfl (nm_r (ty_add0 _) (nm_r (nI_1 i) ?_))))
      · rw [h, if_pos rfl] at t
        exact t
      · rw [h, if_neg (by decide)] at t
        exact t)
theorem ty_wfc {post : Int32 → St1 → Prop} {q : Nat} (hI : ty_I q a1 a3 a4) (hk : ¬ kn = 0 → ty_L p q fs a1 a3 a4 a6)
    (H : ∀ n o t kn fs b5 b6, ¬ kn = 0 → ty_L p q fs a1 a3 a4 b6 → post (nI (ty_cnt (ty_fd p q a1 a3 a4) 10)) (p, nI q, n, o, t, kn, fs, a1, a2, a3, a4, b5, b6)) :
    wpX_foundCount post (p, nI q, n, o, t, kn, fs, a1, a2, a3, a4, a5, a6) := by
  unfold wpX_foundCount
  dsimp only
  refine ty_wle hI hk (fun n o t kn fs b5 b6 z h => ty_wfc8 ?_)
  rw [ty_cnt_eq (Q := ty_fd p q a1 a3 a4) (fun v hv => (h v hv).1)]
  exact H n o t kn fs b5 b6 z h
end
end
section
section
variable {p sz n o t kn fs : Int32} {a1 a2 a3 a4 a5 a6 : Nat → Int32}
/-- the word is the query -/
def ty_iq (q : Nat) (a1 a3 a4 : Nat → Int32) (w : Nat) : Bool := decide (a1 w = nI q ∧ ∀ k, k < q → a3 (w * 6 + k) = a4 k)
/-- what a word is ranked by -/
def ty_K (q : Nat) (a1 a2 a3 a4 a6 : Nat → Int32) (w : Nat) : Int := ((((a6 w).toInt * 2 + (if ty_iq q a1 a3 a4 w then 0 else 1)) * 8 + (a1 w).toInt) * 4294967296 - (a2 w).toInt) * 16 + w
/-- where two rows first differ -/
theorem ty_fdf (a b : Nat → Int32) (m : Nat) : ∃ d, d ≤ m ∧ (∀ j, j < d → a j = b j) ∧ (d < m → ¬ a d = b d) := by
  induction m with
  | zero => exact ⟨0, Nat.le_refl 0, fun j h => absurd h (by omega), fun h => absurd h (by omega)⟩
  | succ m ih =>
    obtain ⟨d, h1, h2, h3⟩ := ih
    by_cases hd : d < m
    · exact ⟨d, by omega, h2, fun _ => h3 hd⟩
    · by_cases he : a d = b d
      · refine ⟨d + 1, by omega, fun j hj => ?_, fun h => absurd h (by omega)⟩
        by_cases e : j = d
        · rw [e, he]
        · exact h2 j (by omega)
      · exact ⟨d, by omega, h2, fun _ => he⟩
theorem ty_kle {post : St1 → Prop} (hk : ¬ kn = 0) (h : post (p, sz, n, o, t, kn, fs, a1, a2, a3, a4, a5, a6)) : wpX_learn post (p, sz, n, o, t, kn, fs, a1, a2, a3, a4, a5, a6) := br_f hk h
theorem ty_wiq {post : Int32 → Prop} {q w : Nat} (hq : q ≤ 6) (hw : w < 10) (h : post (if ty_iq q a1 a3 a4 w then 1 else 0)) : wpX_isQuery post (p, nI q, n, o, t, kn, fs, a1, a2, a3, a4, a5, a6) (nI w) := by
  have ec : (nI w).toNatClampNeg = w := nI_clamp (by omega)
  refine ⟨pk_in w 10 hw, ?_⟩
  rw [ec]
  refine br_c (fun e => ?_) (fun e => ?_)
  · obtain ⟨d, h1, h2, h3⟩ := ty_fdf (fun k => a3 (w * 6 + k)) a4 q
    have fin : d = q → post 1 := fun z => by
      have : ty_iq q a1 a3 a4 w = true := decide_eq_true ⟨e, fun k hk => h2 k (by omega)⟩
      rw [this, if_pos rfl] at h
      exact h
    have bad : d < q → post 0 := fun z => by
      have : ty_iq q a1 a3 a4 w = false := decide_eq_false (fun y => h3 z (y.2 d z))
      rw [this, if_neg (by decide)] at h
      exact h
    refine pk_loop (σ := Unit) (fun f i _ => wX_isQuery_17 post (nI w) p (nI q) n o t kn fs a1 a2 a3 a4 a5 a6 f (nI i)) (fun _ _ => True) d 0 () (by omega) trivial ?_ ?_
    · intro f _ _
      refine pk_le q d (fun z => fin (by omega)) (fun z => ⟨pk_in (w * 6 + d) 60 (by omega) (ty_ix w d), pk_in d 6 (by omega), br_f ?_ (bad z)⟩)
      rw [ty_ix, nI_clamp (by omega), nI_clamp (by omega)]
      exact h3 z
    · intro f i _ hi _ ih
      refine pk_le q i (fun z => absurd z (by omega)) (fun z => ⟨pk_in (w * 6 + i) 60 (by omega) (ty_ix w i), pk_in i 6 (by omega), br_t ?_ (nm_r (nI_1 i) (ih () trivial))⟩)
      rw [ty_ix, nI_clamp (by omega), nI_clamp (by omega)]
      exact h2 i hi
  · have : ty_iq q a1 a3 a4 w = false := decide_eq_false (fun y => e y.1)
    rw [this, if_neg (by decide)] at h
    exact h
theorem ty_nar1 : narrow .boolean (.int (1 : Int32)) = .int (1 : Int32) := by rfl
theorem ty_nar0 : narrow .boolean (.int (0 : Int32)) = .int (0 : Int32) := by rfl
theorem ty_wgb {post : Int32 → Prop} {q v w : Nat} (hq : q ≤ 6) (hv : v < 10) (hw : w < 10) (hne : ¬ v = w)
    (b1 : 0 ≤ (a1 v).toInt ∧ (a1 v).toInt ≤ 6) (b2 : 0 ≤ (a1 w).toInt ∧ (a1 w).toInt ≤ 6)
    (h1 : ty_K q a1 a2 a3 a4 a6 v < ty_K q a1 a2 a3 a4 a6 w → post 1) (h0 : ¬ ty_K q a1 a2 a3 a4 a6 v < ty_K q a1 a2 a3 a4 a6 w → post 0) :
    wpX_goesBefore post (p, nI q, n, o, t, kn, fs, a1, a2, a3, a4, a5, a6) (nI v) (nI w) := by
  have ev : (nI v).toNatClampNeg = v := nI_clamp (by omega)
  have ew : (nI w).toNatClampNeg = w := nI_clamp (by omega)
  have c2v := Int32.toInt_lt (a2 v)
  have d2v := Int32.le_toInt (a2 v)
  have c2w := Int32.toInt_lt (a2 w)
  have d2w := Int32.le_toInt (a2 w)
  have i6 := Int32.toInt_inj (x := a6 v) (y := a6 w)
  have l6 := Int32.le_iff_toInt_le (x := a6 w) (y := a6 v)
  have i1 := Int32.toInt_inj (x := a1 v) (y := a1 w)
  have l1 := Int32.le_iff_toInt_le (x := a1 w) (y := a1 v)
  have i2 := Int32.toInt_inj (x := a2 v) (y := a2 w)
  have l2 := Int32.le_iff_toInt_le (x := a2 v) (y := a2 w)
  unfold ty_K at h1 h0
  unfold wpX_goesBefore
  dsimp only
  rw [ev, ew]
  have iv := pk_in (x := nI v) v 10 hv
  have iw := pk_in (x := nI w) w 10 hw
  refine ⟨iv, iw, br_c (fun e6 => ?_) (fun e6 => ⟨iv, iw, br_c (fun g => h0 ?_) (fun g => h1 ?_)⟩)⟩
  · rw [e6] at h1 h0
    refine ty_wiq hq hv (ty_wiq hq hw ?_)
    cases qv : ty_iq q a1 a3 a4 v <;> cases qw : ty_iq q a1 a3 a4 w <;> simp only [qv, qw, if_true, if_false, Bool.false_eq_true] at h1 h0
    · refine br_t rfl ⟨iv, iw, br_c (fun e1 => ⟨iv, iw, br_c (fun e2 => pk_le w v (fun g => h0 ?_) (fun g => h1 ?_)) (fun e2 => ⟨iv, iw, br_c (fun g => h0 ?_) (fun g => h1 ?_)⟩)⟩) (fun e1 => ⟨iv, iw, br_c (fun g => h0 ?_) (fun g => h1 ?_)⟩)⟩
      · rw [e1, e2]; omega
      · rw [e1, e2]; omega
      · have g1 := l2.mp g; have g2 := mt i2.mp e2; rw [e1]; omega
      · have g1 := mt l2.mpr g; have g2 := mt i2.mp e2; rw [e1]; omega
      · have g1 := l1.mp g; have g2 := mt i1.mp e1; omega
      · have g1 := mt l1.mpr g; have g2 := mt i1.mp e1; omega
    · exact br_f (by decide) ⟨ty_nar0, h0 (by omega)⟩
    · exact br_f (by decide) ⟨ty_nar1, h1 (by omega)⟩
    · refine br_t rfl ⟨iv, iw, br_c (fun e1 => ⟨iv, iw, br_c (fun e2 => pk_le w v (fun g => h0 ?_) (fun g => h1 ?_)) (fun e2 => ⟨iv, iw, br_c (fun g => h0 ?_) (fun g => h1 ?_)⟩)⟩) (fun e1 => ⟨iv, iw, br_c (fun g => h0 ?_) (fun g => h1 ?_)⟩)⟩
      · rw [e1, e2]; omega
      · rw [e1, e2]; omega
      · have g1 := l2.mp g; have g2 := mt i2.mp e2; rw [e1]; omega
      · have g1 := mt l2.mpr g; have g2 := mt i2.mp e2; rw [e1]; omega
      · have g1 := l1.mp g; have g2 := mt i1.mp e1; omega
      · have g1 := mt l1.mpr g; have g2 := mt i1.mp e1; omega
  · have g1 := l6.mp g
    have g2 := mt i6.mp e6
    split <;> split <;> omega
  · have g1 := mt l6.mpr g
    have g2 := mt i6.mp e6
    split <;> split <;> omega
/-- the keys differ -/
theorem ty_K_inj {q v w : Nat} (hv : v < 10) (hw : w < 10) (h : ty_K q a1 a2 a3 a4 a6 v = ty_K q a1 a2 a3 a4 a6 w) : v = w := by
  unfold ty_K at h
  split at h <;> split at h <;> omega
/-- a smaller key: no more typos -/
theorem ty_K_t {q v w : Nat} (hv : v < 10) (hw : w < 10) (b1 : 0 ≤ (a1 v).toInt ∧ (a1 v).toInt ≤ 6) (b2 : 0 ≤ (a1 w).toInt ∧ (a1 w).toInt ≤ 6)
    (h : ty_K q a1 a2 a3 a4 a6 v < ty_K q a1 a2 a3 a4 a6 w) : a6 v ≤ a6 w := by
  have c2v := Int32.toInt_lt (a2 v)
  have d2v := Int32.le_toInt (a2 v)
  have c2w := Int32.toInt_lt (a2 w)
  have d2w := Int32.le_toInt (a2 w)
  rw [Int32.le_iff_toInt_le]
  unfold ty_K at h
  split at h <;> split at h <;> omega
/-- a state in which all is learned -/
def ty_G (p : Int32) (q : Nat) (kn fs : Int32) (a1 a3 a4 a6 : Nat → Int32) : Prop := ty_I q a1 a3 a4 ∧ ¬ kn = 0 ∧ ty_L p q fs a1 a3 a4 a6
theorem ty_I_b1 {q w : Nat} (h : ty_I q a1 a3 a4) (hw : w < 10) : 0 ≤ (a1 w).toInt ∧ (a1 w).toInt ≤ 6 := by
  obtain ⟨l, hl, e⟩ := h.2.1 w hw
  rw [e, nI_toInt (by omega)]
  omega
theorem ty_G_p {q w : Nat} (h : ty_G p q kn fs a1 a3 a4 a6) (hw : w < 10) (hf : ty_b fs w = true) : ty_b p w = true := by
  have e := (h.2.2 w hw).1
  rw [hf] at e
  unfold ty_fd at e
  cases hp : ty_b p w
  · rw [hp] at e
    simp at e
  · rfl
/-- the place of a word -/
def ty_P (q : Nat) (fs : Int32) (a1 a2 a3 a4 a6 : Nat → Int32) (w : Nat) : Nat := ty_pl (ty_b fs) (ty_K q a1 a2 a3 a4 a6) 10 w
theorem ty_P_le (q : Nat) (fs : Int32) (a1 a2 a3 a4 a6 : Nat → Int32) (w : Nat) : ty_P q fs a1 a2 a3 a4 a6 w ≤ 10 := ty_cnt_max _ _
theorem ty_wpl28 {post : Int32 → St1 → Prop} {q w : Nat} (hI : ty_I q a1 a3 a4) (hw : w < 10)
    (H : post (nI (ty_P q fs a1 a2 a3 a4 a6 w)) (p, nI q, n, o, t, kn, fs, a1, a2, a3, a4, a5, a6)) :
    ∃ f, wX_place_28 post (nI w) p (nI q) n o t kn fs a1 a2 a3 a4 a5 a6 f 0 0 :=
  pk_loop (σ := Unit) (fun f i _ => wX_place_28 post (nI w) p (nI q) n o t kn fs a1 a2 a3 a4 a5 a6 f (nI (ty_pl (ty_b fs) (ty_K q a1 a2 a3 a4 a6) i w)) (nI i)) (fun _ _ => True) 10 0 () (by omega) trivial
    (fun f _ _ => pk_le 10 10 (fun _ => H) (fun z => absurd z (by omega)))
    (fun f i _ hi _ ih => by
      have t := ih () trivial
      have e : ty_pl (ty_b fs) (ty_K q a1 a2 a3 a4 a6) (i + 1) w = ty_pl (ty_b fs) (ty_K q a1 a2 a3 a4 a6) i w + (if ty_b fs i && decide (ty_K q a1 a2 a3 a4 a6 i < ty_K q a1 a2 a3 a4 a6 w) then 1 else 0) := rfl
      rw [e] at t
      refine pk_le 10 i (fun z => absurd z (by omega)) (fun _ => pk_eq i w (fun z => nm_r (ty_add0 _) (nm_r (nI_1 i) ?_)) (fun z => ty_wif hi (fun hf => br_f (by decide) (ty_wgb hI.1 hi hw z (ty_I_b1 hI hi) (ty_I_b1 hI hw) (fun y => br_f (by decide) (nm_r (nI_1 _) (nm_r (nI_1 i) ?_))) (fun y => br_t rfl (nm_r (ty_add0 _) (nm_r (nI_1 i) ?_))))) (fun hf => br_t rfl (nm_r (ty_add0 _) (nm_r (nI_1 i) ?_)))))
      · rw [z, decide_eq_false (Int.lt_irrefl _), Bool.and_false, if_neg (by decide)] at t
        rw [z]
        exact t
      · rw [hf, decide_eq_true y, if_pos (by decide)] at t
        exact t
      · rw [decide_eq_false y, Bool.and_false, if_neg (by decide)] at t
        exact t
      · rw [hf, Bool.false_and, if_neg (by decide)] at t
        exact t)
theorem ty_wpl {post : Int32 → St1 → Prop} {q w : Nat} (hG : ty_G p q kn fs a1 a3 a4 a6) (hw : w < 10)
    (H1 : ty_b fs w = true → post (nI (ty_P q fs a1 a2 a3 a4 a6 w)) (p, nI q, n, o, t, kn, fs, a1, a2, a3, a4, a5, a6))
    (H0 : ty_b fs w = false → post (-1) (p, nI q, n, o, t, kn, fs, a1, a2, a3, a4, a5, a6)) :
    wpX_place post (p, nI q, n, o, t, kn, fs, a1, a2, a3, a4, a5, a6) (nI w) := by
  unfold wpX_place
  dsimp only
  refine ty_whas hw (fun hp => br_f (by decide) (ty_kle hG.2.1 (ty_wif hw (fun hf => br_f (by decide) (ty_wpl28 hG.1 hw (H1 hf))) (fun hf => br_t rfl (H0 hf))))) (fun hp => br_t rfl (H0 ?_))
  cases hf : ty_b fs w
  · rfl
  · rw [ty_G_p hG hw hf] at hp
    exact absurd hp (by decide)
theorem ty_wat {post : Int32 → St1 → Prop} {q k : Nat} (hG : ty_G p q kn fs a1 a3 a4 a6) (hk : k ≤ 10)
    (H1 : ∀ w, w < 10 → ty_b fs w = true → ty_P q fs a1 a2 a3 a4 a6 w = k → post (nI w) (p, nI q, n, o, t, kn, fs, a1, a2, a3, a4, a5, a6))
    (H0 : (∀ w, w < 10 → ty_b fs w = true → ¬ ty_P q fs a1 a2 a3 a4 a6 w = k) → post (-1) (p, nI q, n, o, t, kn, fs, a1, a2, a3, a4, a5, a6)) :
    wpX_at post (p, nI q, n, o, t, kn, fs, a1, a2, a3, a4, a5, a6) (nI k) := by
  unfold wpX_at
  dsimp only
  refine ty_kle hG.2.1 ?_
  refine pk_loop (σ := Unit) (fun f i _ => wX_at_6 post (nI k) f (nI i) p (nI q) n o t kn fs a1 a2 a3 a4 a5 a6) (fun i _ => ∀ w, w < i → ty_b fs w = true → ¬ ty_P q fs a1 a2 a3 a4 a6 w = k) 10 0 () (by omega) (fun w hw => absurd hw (by omega)) ?_ ?_
  · intro f _ h
    exact pk_le 10 10 (fun _ => H0 h) (fun z => absurd z (by omega))
  · intro f i _ hi h ih
    have bP := ty_P_le q fs a1 a2 a3 a4 a6 i
    refine pk_le 10 i (fun z => absurd z (by omega)) (fun _ => ty_wif hi (fun hf => br_f (by decide) (ty_wpl hG hi (fun _ => pk_eq (ty_P q fs a1 a2 a3 a4 a6 i) k (fun z => H1 i hi hf z) (fun z => nm_r (nI_1 i) (ih () ?_))) (fun hf' => ?_))) (fun hf => br_t rfl (nm_r (nI_1 i) (ih () ?_))))
    · intro w hw fw
      by_cases e : w = i
      · rw [e]
        exact z
      · exact h w (by omega) fw
    · rw [hf] at hf'
      exact absurd hf' (by decide)
    · intro w hw fw
      by_cases e : w = i
      · rw [e, hf] at fw
        exact absurd fw (by decide)
      · exact h w (by omega) fw
theorem ty_wtp {post : Int32 → St1 → Prop} {q w : Nat} (hG : ty_G p q kn fs a1 a3 a4 a6) (hw : w < 10)
    (H1 : ty_b p w = true → post (nI (ty_T q a1 a3 a4 w)) (p, nI q, n, o, t, kn, fs, a1, a2, a3, a4, a5, a6))
    (H0 : ty_b p w = false → post (-1) (p, nI q, n, o, t, kn, fs, a1, a2, a3, a4, a5, a6)) :
    wpX_typos post (p, nI q, n, o, t, kn, fs, a1, a2, a3, a4, a5, a6) (nI w) := by
  unfold wpX_typos
  dsimp only
  refine ty_whas hw (fun hp => br_f (by decide) (ty_kle hG.2.1 ⟨pk_in w 10 hw, ?_⟩)) (fun hp => br_t rfl (H0 hp))
  rw [nI_clamp (by omega)]
  dsimp only
  rw [(hG.2.2 w hw).2 hp]
  exact H1 hp
theorem ty_wfo {post : Int32 → St1 → Prop} (hk : ¬ kn = 0) (h : post fs (p, sz, n, o, t, kn, fs, a1, a2, a3, a4, a5, a6)) : wpX_found post (p, sz, n, o, t, kn, fs, a1, a2, a3, a4, a5, a6) := by
  unfold wpX_found
  dsimp only
  exact ty_kle hk h
end
end
section
section
variable {p sz n o t kn fs : Int32} {a1 a2 a3 a4 a5 a6 : Nat → Int32}
theorem ty_wsh {post : Int32 → Prop} {v w m l : Nat} (hv : v < 10) (hw : w < 10) (hm : m ≤ 6) (hl : l ≤ 6) (e : a1 w = nI l) (H : ∀ m', m' ≤ m → post (nI m')) :
    wpX_shared post (p, sz, n, o, t, kn, fs, a1, a2, a3, a4, a5, a6) (nI v) (nI w) (nI m) :=
  pk_loop (σ := Unit) (fun f i _ => wX_shared_3 post (nI v) (nI w) (nI m) p sz n o t kn fs a1 a2 a3 a4 a5 a6 f (nI i)) (fun _ _ => True) m 0 () (by omega) trivial
    (fun f _ _ => pk_le m m (fun _ => H m (Nat.le_refl m)) (fun z => absurd z (by omega)))
    (fun f i _ hi _ ih => pk_le m i (fun z => absurd z (by omega)) (fun _ => ⟨pk_in w 10 hw, pk_le l i (fun _ => H i (by omega)) (fun z => ⟨pk_in (v * 6 + i) 60 (by omega) (ty_ix v i), pk_in (w * 6 + i) 60 (by omega) (ty_ix w i), br_c (fun _ => nm_r (nI_1 i) (ih () trivial)) (fun _ => H i (by omega))⟩) (by rw [nI_clamp (by omega)]; exact e)⟩))
theorem ty_wc40 {post : Int32 → St1 → Prop} {J : Int32 → Int32 → Int32 → Prop} {x1 x2 : Int32} {i : Nat} (hi : i < 10) (H0 : ty_b fs i = false → J x1 x2 (nI (i + 1)))
    (H1 : ty_b fs i = true → wpX_shared (fun r => ∀ x3, x3 = nI i + 1 → J x1 r x3) (p, sz, n, o, t, kn, fs, a1, a2, a3, a4, a5, a6) x1 (nI i) x2) :
    wX_common_40 post J x1 x2 (nI i) p sz n o t kn fs a1 a2 a3 a4 a5 a6 := by
  unfold wX_common_40
  exact ty_wif hi (fun h => br_f (by decide) (H1 h)) (fun h => br_t rfl (nm_r (nI_1 i) (H0 h)))
/-- what the search for the common beginning has so far -/
def ty_C (fs : Int32) (a1 : Nat → Int32) (i : Nat) (s : Int32 × Int32) : Prop := (s = (-1, 0) ∧ ∀ w, w < i → ty_b fs w = false) ∨ (∃ v m, v < i ∧ m ≤ 6 ∧ s = (nI v, nI m) ∧ ty_b fs v = true ∧ (ty_b fs 0 = true → ∃ l, l ≤ 6 ∧ a1 0 = nI l ∧ m ≤ l))
theorem ty_C_no {i : Nat} {s : Int32 × Int32} (h : ty_C fs a1 i s) (hf : ty_b fs i = false) : ty_C fs a1 (i + 1) s := by
  rcases h with ⟨e, h⟩ | ⟨v, m, hv, hm, e, h1, h2⟩
  · refine Or.inl ⟨e, fun w hw => ?_⟩
    by_cases z : w = i
    · rw [z]
      exact hf
    · exact h w (by omega)
  · exact Or.inr ⟨v, m, by omega, hm, e, h1, h2⟩
theorem ty_wco10 {post : Int32 → St1 → Prop} {q : Nat} (hI : ty_I q a1 a3 a4)
    (H : ∀ c, (ty_b fs 0 = true → ¬ a1 0 < c) → ((∀ w, w < 10 → ty_b fs w = false) → c = 0) → post c (p, sz, n, o, t, kn, fs, a1, a2, a3, a4, a5, a6)) :
    ∃ f, wX_common_10 post p sz n o t kn fs a1 a2 a3 a4 a5 a6 f (-1) 0 0 := by
  refine pk_loop (σ := Int32 × Int32) (fun f i s => wX_common_10 post p sz n o t kn fs a1 a2 a3 a4 a5 a6 f s.1 s.2 (nI i)) (fun i s => ty_C fs a1 i s) 10 0 (-1, 0) (by omega) (Or.inl ⟨rfl, fun w hw => absurd hw (by omega)⟩) ?_ ?_
  · intro f s h
    refine pk_le 10 10 (fun _ => ?_) (fun z => absurd z (by omega))
    rcases h with ⟨e, h⟩ | ⟨v, m, hv, hm, e, h1, h2⟩
    · subst e
      refine H 0 (fun z => ?_) (fun _ => rfl)
      rw [h 0 (by omega)] at z
      exact absurd z (by decide)
    · subst e
      refine H (nI m) (fun z => ?_) (fun z => ?_)
      · obtain ⟨l, hl, e, hm'⟩ := h2 z
        rw [e]
        exact nI_nlt hm' (by omega)
      · rw [z v hv] at h1
        exact absurd h1 (by decide)
  · intro f i s hi h ih
    refine pk_le 10 i (fun z => absurd z (by omega)) (fun _ => ty_wif hi (fun hf => br_f (by decide) ?_) (fun hf => br_t rfl ?_))
    · obtain ⟨l, hl, e1⟩ := hI.2.1 i hi
      rcases h with ⟨e, h⟩ | ⟨v, m, hv, hm, e, h1, h2⟩
      · subst e
        refine br_f (by decide) ⟨pk_in i 10 hi, nm_r (e' := nI l) (by rw [nI_clamp (by omega)]; exact e1) (nm_r (nI_1 i) (ih (nI i, nI l) (Or.inr ⟨i, l, by omega, hl, rfl, hf, fun z => ?_⟩)))⟩
        by_cases y : i = 0
        · subst y
          exact ⟨l, hl, e1, Nat.le_refl l⟩
        · rw [h 0 (by omega)] at z
          exact absurd z (by decide)
      · subst e
        refine br_t (nI_pos' (by omega)) (ty_wc40 hi (fun z => ?_) (fun _ => ty_wsh (by omega) hi hm hl e1 (fun m' hm' => nm_r (nI_1 i) (ih (nI v, nI m') (Or.inr ⟨v, m', by omega, by omega, rfl, h1, fun z => ?_⟩)))))
        · rw [hf] at z
          exact absurd z (by decide)
        · obtain ⟨l', hl', e', hm2⟩ := h2 z
          exact ⟨l', hl', e', by omega⟩
    · refine ty_wc40 hi (fun _ => ih s (ty_C_no h hf)) (fun z => ?_)
      rw [hf] at z
      exact absurd z (by decide)
theorem ty_wrk115 {post : Int32 → St1 → Prop} {q : Nat} (hG : ty_G p q kn fs a1 a3 a4 a6) (H : post 1 (p, nI q, n, o, t, kn, fs, a1, a2, a3, a4, a5, a6)) :
    ∃ f, wL_ranks_115 post (nI (ty_cnt (ty_b fs) 10)) f 0 0 p (nI q) n o t kn fs a1 a2 a3 a4 a5 a6 := by
  have bN := ty_cnt_max (ty_b fs) 10
  refine pk_loop (σ := Nat) (fun f k m => wL_ranks_115 post (nI (ty_cnt (ty_b fs) 10)) f (nI m) (nI k) p (nI q) n o t kn fs a1 a2 a3 a4 a5 a6) (fun k m => m ≤ 3 ∧ ∀ w, w < 10 → ty_b fs w = true → k ≤ ty_P q fs a1 a2 a3 a4 a6 w → m ≤ ty_T q a1 a3 a4 w) (ty_cnt (ty_b fs) 10) 0 0 (by omega) ⟨by omega, fun w _ _ _ => Nat.zero_le _⟩ ?_ ?_
  · intro f m h
    refine pk_le (ty_cnt (ty_b fs) 10) (ty_cnt (ty_b fs) 10) (fun _ => ty_wat hG bN (fun w hw hf e => ?_) (fun _ => br_t rfl H)) (fun z => absurd z (by omega))
    have := ty_pl_lt (F := ty_b fs) (K := ty_K q a1 a2 a3 a4 a6) hw hf
    unfold ty_P at e
    omega
  · intro f k m hk h ih
    refine pk_le (ty_cnt (ty_b fs) 10) k (fun z => absurd z (by omega)) (fun _ => ty_wat hG (by omega) (fun w hw hf e => br_f (nI_pos (by omega)) (ty_wtp hG hw (fun hp => ?_) (fun hp => ?_))) (fun z => ?_))
    · have bT := ty_T_le q a1 a3 a4 w
      refine pk_le m (ty_T q a1 a3 a4 w) (fun _ => nm_r (nI_1 k) (ih (ty_T q a1 a3 a4 w) ⟨bT, fun v hv fv hPv => ?_⟩)) (fun z => absurd (h.2 w hw hf (by omega)) (by omega)) rfl rfl (by have := h.1; omega)
      have ek : ty_K q a1 a2 a3 a4 a6 w < ty_K q a1 a2 a3 a4 a6 v := by
        rcases Int.lt_trichotomy (ty_K q a1 a2 a3 a4 a6 w) (ty_K q a1 a2 a3 a4 a6 v) with y | y | y
        · exact y
        · have ew := ty_K_inj hw hv y
          subst ew
          omega
        · have := ty_pl_mono (F := ty_b fs) (K := ty_K q a1 a2 a3 a4 a6) hv fv y
          unfold ty_P at e hPv
          omega
      have le := ty_K_t hw hv (ty_I_b1 hG.1 hw) (ty_I_b1 hG.1 hv) ek
      rw [(hG.2.2 w hw).2 hp, (hG.2.2 v hv).2 (ty_G_p hG hv fv)] at le
      have bV := ty_T_le q a1 a3 a4 v
      exact (nI_leI (by omega) (by omega)).mp le
    · rw [ty_G_p hG hw hf] at hp
      exact absurd hp (by decide)
    · obtain ⟨w, hw, hf, e⟩ := ty_pl_sur (F := ty_b fs) (K := ty_K q a1 a2 a3 a4 a6) (N := 10) (fun v w hv hw h => ty_K_inj hv hw h) k hk
      exact absurd e (z w hw hf)
theorem ty_wrk88 {post : Int32 → St1 → Prop} {J : Int32 → Int32 → Int32 → Int32 → Int32 → Int32 → Int32 → Int32 → Int32 → (Nat → Int32) → (Nat → Int32) → (Nat → Int32) → (Nat → Int32) → (Nat → Int32) → (Nat → Int32) → Prop} {x1 x2 x3 : Int32} {q i : Nat}
    (hG : ty_G p q kn fs a1 a3 a4 a6) (hi : i < 10) (H : J x2 (nI (i + 1)) p (nI q) n o t kn fs a1 a2 a3 a4 a5 a6) :
    wL_ranks_88 post J x1 x2 x3 (nI i) p (nI q) n o t kn fs a1 a2 a3 a4 a5 a6 := by
  have hq := hG.1.1
  refine pk_eq q 0 (fun z => ty_wtp hG hi (fun hp => ?_) (fun hp => br_t (by decide) (nm_r (nI_1 i) H))) (fun z => nm_r (nI_1 i) H)
  refine pk_le (ty_T q a1 a3 a4 i) 0 (fun _ => nm_r (nI_1 i) H) (fun y => ?_) rfl rfl (by have := ty_T_le q a1 a3 a4 i; omega)
  rw [z, ty_T_0] at y
  exact absurd y (by omega)
theorem ty_wrk {post : Int32 → St1 → Prop} {q : Nat} (hG : ty_G p q kn fs a1 a3 a4 a6) (H : post 1 (p, nI q, n, o, t, kn, fs, a1, a2, a3, a4, a5, a6)) :
    wpL_ranks post (p, nI q, n, o, t, kn, fs, a1, a2, a3, a4, a5, a6) := by
  unfold wpL_ranks
  dsimp only
  refine ty_wfo hG.2.1 ?_
  refine pk_loop (σ := Unit) (fun f i _ => wL_ranks_12 post fs 0 f (nI (ty_cnt (ty_b fs) i)) (nI i) p (nI q) n o t kn fs a1 a2 a3 a4 a5 a6) (fun _ _ => True) 10 0 () (by omega) trivial ?_ ?_
  · intro f _ _
    exact pk_le 10 10 (fun _ => ty_wrk115 hG H) (fun z => absurd z (by omega))
  · intro f i _ hi _ ih
    have t := ih () trivial
    have e : ty_cnt (ty_b fs) (i + 1) = ty_cnt (ty_b fs) i + (if ty_b fs i then 1 else 0) := rfl
    rw [e] at t
    have bP := ty_P_le q fs a1 a2 a3 a4 a6 i
    refine pk_le 10 i (fun z => absurd z (by omega)) (fun _ => ty_wpl hG hi (fun hf => ?_) (fun hf => ?_))
    · rw [hf, if_pos rfl, ← nI_1 (ty_cnt (ty_b fs) i)] at t
      refine br_t ((ty_bit1 fs (by omega)).mpr hf) (br_f (by decide) (br_f (nI_pos (by omega)) (br_t rfl (br_f (by decide) (ty_wat hG bP (fun w hw fw ew => ?_) (fun z => absurd rfl (z i hi hf)))))))
      have ei : w = i := ty_pl_inj (fun v w hv hw h => ty_K_inj hv hw h) hw hi fw hf ew
      subst ei
      exact br_t rfl (ty_wrk88 hG hi t)
    · rw [hf, if_neg (by decide)] at t
      refine br_f (fun z => ?_) (br_t rfl (br_t (by decide) (br_t rfl (br_t rfl (ty_wrk88 hG hi t)))))
      rw [(ty_bit1 fs (by omega)).mp z] at hf
      exact absurd hf (by decide)
end
end
section
section
variable {p sz n o t kn fs : Int32} {a1 a2 a3 a4 a5 a6 : Nat → Int32}
theorem ty_wsy {post : Int32 → Prop} {s : Nat} (hs : s < 4) (h : post 1) : wpX_isSymbol post () (nI s) := br_f (nI_pos (by omega)) (br_f (nI_ge (b := 4) hs (by decide)) h)
theorem ty_wru {post : Int32 → St1 → Prop} {q : Nat} (hq : q < 6) (H : post (a4 q) (p, nI q, n, o, t, 0, fs, a1, a2, a3, a4, a5, a6)) : wpX_rub post (p, nI (q + 1), n, o, t, kn, fs, a1, a2, a3, a4, a5, a6) := by
  refine br_f (nI_ne0 (by omega) (by omega)) (nm_r (nI_pred q) ⟨pk_in q 6 hq, ?_⟩)
  rw [nI_clamp (by omega)]
  exact H
theorem ty_wru0 {post : Int32 → St1 → Prop} (H : post (-1) (p, nI 0, n, o, t, kn, fs, a1, a2, a3, a4, a5, a6)) : wpX_rub post (p, nI 0, n, o, t, kn, fs, a1, a2, a3, a4, a5, a6) := br_t rfl H
theorem ty_I_put {q s : Nat} (hI : ty_I q a1 a3 a4) (hq : q < 6) (hs : s < 4) : ty_I (q + 1) a1 a3 (upd a4 q (nI s)) := by
  refine ⟨by omega, hI.2.1, hI.2.2.1, fun j hj => ?_⟩
  by_cases e : j = q
  · rw [e, pk_us]
    exact ⟨s, hs, rfl⟩
  · rw [pk_un e]
    exact hI.2.2.2 j hj
theorem ty_I_q {q q' : Nat} (hI : ty_I q a1 a3 a4) (hq : q' ≤ 6) : ty_I q' a1 a3 a4 := ⟨hq, hI.2.1, hI.2.2.1, hI.2.2.2⟩
theorem ty_wtyp {post : Int32 → St1 → Prop} {q s : Nat} (hI : ty_I q a1 a3 a4) (hs : s < 4)
    (h6 : q = 6 → post (-2) (p, nI q, n, o, t, kn, fs, a1, a2, a3, a4, a5, a6))
    (H : q < 6 → ∀ n o t kn fs b5 b6, ¬ kn = 0 → ty_L p (q + 1) fs a1 a3 (upd a4 q (nI s)) b6 → post (nI (ty_cnt (ty_fd p (q + 1) a1 a3 (upd a4 q (nI s))) 10)) (p, nI (q + 1), n, o, t, kn, fs, a1, a2, a3, upd a4 q (nI s), b5, b6)) :
    wpX_type post (p, nI q, n, o, t, kn, fs, a1, a2, a3, a4, a5, a6) (nI s) := by
  have hq := hI.1
  unfold wpX_type
  dsimp only
  refine ty_wsy hs (br_f (by decide) (pk_lt q 6 (fun z => ⟨pk_in q 6 z, nm_r (e' := upd a4 q (nI s)) (by rw [nI_clamp (by omega), ty_byte s (by omega)]) (nm_r (nI_1 q) ?_)⟩) (fun z => h6 (by omega))))
  exact ty_wfc (ty_I_put hI z hs) (fun y => absurd rfl y) (H z)
/-- the set of symbols that go on to something found -/
def ty_hs (g : Nat → Nat) : Nat → Int32
  | 0 => 0
  | i + 1 => if 0 < g i then ty_hs g i ||| ((1 : Int32) <<< (nI i &&& 31)) else ty_hs g i
def ty_g (p : Int32) (q : Nat) (a1 a3 a4 : Nat → Int32) (s : Nat) : Nat := ty_cnt (ty_fd p (q + 1) a1 a3 (upd a4 q (nI s))) 10
/-- the state after a look at hints: the query is as it was -/
def ty_H (p : Int32) (q : Nat) (a1 a3 a4 : Nat → Int32) (kn fs : Int32) (b4 b6 : Nat → Int32) : Prop := (∀ j, j < q → b4 j = a4 j) ∧ ty_I q a1 a3 b4 ∧ (¬ kn = 0 → ty_L p q fs a1 a3 b4 b6)
theorem ty_H_put {q s : Nat} {b4 b6 b6' : Nat → Int32} {kn fs fs' : Int32} (h : ty_H p q a1 a3 a4 kn fs b4 b6) (hq : q < 6) (hs : s < 4) : ty_H p q a1 a3 a4 0 fs' (upd b4 q (nI s)) b6' := by
  refine ⟨fun j hj => ?_, ty_I_q (ty_I_put h.2.1 hq hs) (by omega), fun y => absurd rfl y⟩
  rw [pk_un (by omega)]
  exact h.1 j hj
theorem ty_H_g {q s : Nat} {b4 b6 : Nat → Int32} {kn fs : Int32} (h : ty_H p q a1 a3 a4 kn fs b4 b6) : ty_cnt (ty_fd p (q + 1) a1 a3 (upd b4 q (nI s))) 10 = ty_g p q a1 a3 a4 s := by
  refine ty_cnt_eq (fun v _ => ty_fd_eq (fun j hj => ?_))
  by_cases e : j = q
  · rw [e, pk_us, pk_us]
  · rw [pk_un e, pk_un e]
    exact h.1 j (by omega)
theorem ty_whi {post : Int32 → St1 → Prop} {q : Nat} (hI : ty_I q a1 a3 a4) (hk : ¬ kn = 0 → ty_L p q fs a1 a3 a4 a6)
    (H : ∀ n o t kn fs b4 b5 b6, ty_H p q a1 a3 a4 kn fs b4 b6 → post (if q < 6 then ty_hs (ty_g p q a1 a3 a4) 4 else 0) (p, nI q, n, o, t, kn, fs, a1, a2, a3, b4, b5, b6)) :
    wpX_hints post (p, nI q, n, o, t, kn, fs, a1, a2, a3, a4, a5, a6) := by
  have hq := hI.1
  have h0 : ty_H p q a1 a3 a4 kn fs a4 a6 := ⟨fun j _ => rfl, hI, hk⟩
  by_cases hq6 : q < 6
  · rw [if_pos hq6] at H
    refine pk_loop (σ := Int32 × Int32 × Int32 × Int32 × Int32 × (Nat → Int32) × (Nat → Int32) × (Nat → Int32)) (fun f i s => wX_hints_4 post f (ty_hs (ty_g p q a1 a3 a4) i) (nI i) p (nI q) s.1 s.2.1 s.2.2.1 s.2.2.2.1 s.2.2.2.2.1 a1 a2 a3 s.2.2.2.2.2.1 s.2.2.2.2.2.2.1 s.2.2.2.2.2.2.2) (fun i s => ty_H p q a1 a3 a4 s.2.2.2.1 s.2.2.2.2.1 s.2.2.2.2.2.1 s.2.2.2.2.2.2.2) 4 0 (n, o, t, kn, fs, a4, a5, a6) (by omega) h0 ?_ ?_
    · intro f s h
      exact pk_le 4 4 (fun _ => H _ _ _ _ _ _ _ _ h) (fun z => absurd z (by omega))
    · intro f i s hi h ih
      obtain ⟨n, o, t, kn, fs, b4, b5, b6⟩ := s
      dsimp only at h ih
      have e : ty_hs (ty_g p q a1 a3 a4) (i + 1) = if 0 < ty_g p q a1 a3 a4 i then ty_hs (ty_g p q a1 a3 a4) i ||| ((1 : Int32) <<< (nI i &&& 31)) else ty_hs (ty_g p q a1 a3 a4) i := rfl
      rw [e] at ih
      refine pk_le 4 i (fun z => absurd z (by omega)) (fun _ => pk_le 6 q (fun z => absurd z (by omega)) (fun _ => ty_wtyp h.2.1 hi (fun z => absurd z (by omega)) (fun _ n o t kn fs b5 b6 _ _ => ty_wru hq6 ?_)))
      have t := ih (n, o, t, 0, fs, upd b4 q (nI i), b5, b6) (ty_H_put h hq6 hi)
      dsimp only at t
      have bg := ty_cnt_max (ty_fd p (q + 1) a1 a3 (upd b4 q (nI i))) 10
      refine pk_le (ty_cnt (ty_fd p (q + 1) a1 a3 (upd b4 q (nI i))) 10) 0 (fun z => nm_r (ty_or0 _) (nm_r (nI_1 i) ?_)) (fun z => nm_e (nm_r (nI_1 i) ?_))
      · rw [ty_H_g h] at z
        rw [if_neg (by omega)] at t
        exact t
      · rw [ty_H_g h] at z
        rw [if_pos z] at t
        exact t
  · rw [if_neg hq6] at H
    exact ⟨1, pk_le 4 0 (fun z => absurd z (by omega)) (fun _ => pk_le 6 q (fun _ => H _ _ _ _ _ _ _ _ h0) (fun z => absurd z (by omega)))⟩
theorem ty_wLhi9 {post : Int32 → St1 → Prop} {q : Nat} {kn fs : Int32} {b4 b5 b6 : Nat → Int32} (h0 : ty_H p q a1 a3 a4 kn fs b4 b6)
    (H : ∀ n o t kn fs b4 b5 b6, ty_H p q a1 a3 a4 kn fs b4 b6 → post 1 (p, nI q, n, o, t, kn, fs, a1, a2, a3, b4, b5, b6)) :
    ∃ f, wL_hints_9 post (if q < 6 then ty_hs (ty_g p q a1 a3 a4) 4 else 0) f 0 0 p (nI q) n o t kn fs a1 a2 a3 b4 b5 b6 := by
  have hq := h0.2.1.1
  by_cases hq6 : q < 6
  · rw [if_pos hq6]
    refine pk_loop (σ := Int32 × Int32 × Int32 × Int32 × Int32 × (Nat → Int32) × (Nat → Int32) × (Nat → Int32)) (fun f i s => wL_hints_9 post (ty_hs (ty_g p q a1 a3 a4) 4) f (ty_hs (ty_g p q a1 a3 a4) i) (nI i) p (nI q) s.1 s.2.1 s.2.2.1 s.2.2.2.1 s.2.2.2.2.1 a1 a2 a3 s.2.2.2.2.2.1 s.2.2.2.2.2.2.1 s.2.2.2.2.2.2.2) (fun i s => ty_H p q a1 a3 a4 s.2.2.2.1 s.2.2.2.2.1 s.2.2.2.2.2.1 s.2.2.2.2.2.2.2) 4 0 (n, o, t, kn, fs, b4, b5, b6) (by omega) h0 ?_ ?_
    · intro f s h
      exact pk_le 4 4 (fun _ => br_t rfl (H _ _ _ _ _ _ _ _ h)) (fun z => absurd z (by omega))
    · intro f i s hi h ih
      obtain ⟨n, o, t, kn, fs, b4, b5, b6⟩ := s
      dsimp only at h ih
      have e : ty_hs (ty_g p q a1 a3 a4) (i + 1) = if 0 < ty_g p q a1 a3 a4 i then ty_hs (ty_g p q a1 a3 a4) i ||| ((1 : Int32) <<< (nI i &&& 31)) else ty_hs (ty_g p q a1 a3 a4) i := rfl
      rw [e] at ih
      have bg := ty_cnt_max (ty_fd p (q + 1) a1 a3 (upd b4 q (nI i))) 10
      refine pk_le 4 i (fun z => absurd z (by omega)) (fun _ => ty_wtyp h.2.1 hi (fun z => absurd z (by omega)) (fun _ n o t kn fs b5 b6 _ _ => br_f (nI_pos (n := ty_cnt (ty_fd p (q + 1) a1 a3 (upd b4 q (nI i))) 10) (by omega)) (ty_wru hq6 ?_)))
      have t := ih (n, o, t, 0, fs, upd b4 q (nI i), b5, b6) (ty_H_put h hq6 hi)
      dsimp only at t
      refine pk_le (ty_cnt (ty_fd p (q + 1) a1 a3 (upd b4 q (nI i))) 10) 0 (fun z => nm_r (nI_1 i) ?_) (fun z => nm_e (nm_r (nI_1 i) ?_))
      · rw [ty_H_g h] at z
        rw [if_neg (by omega)] at t
        exact t
      · rw [ty_H_g h] at z
        rw [if_pos z] at t
        exact t
  · rw [if_neg hq6]
    refine pk_loop (σ := Unit) (fun f i _ => wL_hints_9 post 0 f 0 (nI i) p (nI q) n o t kn fs a1 a2 a3 b4 b5 b6) (fun _ _ => True) 4 0 () (by omega) trivial ?_ ?_
    · intro f _ _
      exact pk_le 4 4 (fun _ => br_t rfl (H _ _ _ _ _ _ _ _ h0)) (fun z => absurd z (by omega))
    · intro f i _ hi _ ih
      exact pk_le 4 i (fun z => absurd z (by omega)) (fun _ => ty_wtyp h0.2.1 hi (fun _ => br_t (by decide) (br_t (by decide) (nm_r (nI_1 i) (ih () trivial)))) (fun z => absurd z hq6))
theorem ty_wLhi {post : Int32 → St1 → Prop} {q : Nat} (hI : ty_I q a1 a3 a4) (hk : ¬ kn = 0 → ty_L p q fs a1 a3 a4 a6)
    (H : ∀ n o t kn fs b4 b5 b6, ty_H p q a1 a3 a4 kn fs b4 b6 → post 1 (p, nI q, n, o, t, kn, fs, a1, a2, a3, b4, b5, b6)) :
    wpL_hints post (p, nI q, n, o, t, kn, fs, a1, a2, a3, a4, a5, a6) := by
  unfold wpL_hints
  dsimp only
  exact ty_whi hI hk (fun n o t kn fs b4 b5 b6 h => ty_wLhi9 h H)
end
end
section
section
variable {p sz n o t kn fs : Int32} {a1 a2 a3 a4 a5 a6 : Nat → Int32}
theorem ty_wbe {post : Int32 → St1 → Prop} {s g : Nat} (hs : s < 4) (hg : g < 8)
    (Hf : post (-2) (p, sz, n, o, t, kn, fs, a1, a2, a3, a4, a5, a6))
    (H : ∀ w, w < 10 → (∀ v, v < w → ty_b p v = true) → ty_b p w = false → post (nI w) (p ||| ((1 : Int32) <<< (nI w &&& 31)), sz, n, o, t, 0, fs, upd a1 w (nI 1), upd a2 w (nI g), upd a3 (w * 6) (nI s), a4, a5, a6)) :
    wpX_begin post (p, sz, n, o, t, kn, fs, a1, a2, a3, a4, a5, a6) (nI s) (nI g) := by
  unfold wpX_begin
  dsimp only
  refine ty_wsy hs (br_f (by decide) (br_f (nI_pos (by omega)) (br_t (nI_le (b := 9) (by omega) (by decide)) ?_)))
  refine pk_loop (σ := Unit) (fun f i _ => wX_begin_21 post (nI s) (nI g) p sz n o t kn fs a1 a2 a3 a4 a5 a6 f (nI i)) (fun i _ => ∀ v, v < i → ty_b p v = true) 10 0 () (by omega) (fun v hv => absurd hv (by omega)) ?_ ?_
  · intro f _ _
    exact pk_le 10 10 (fun _ => Hf) (fun z => absurd z (by omega))
  · intro f i _ hi h ih
    have e6 : nI i * 6 = nI (i * 6) := pk_mul i 6
    refine pk_le 10 i (fun z => absurd z (by omega)) (fun _ => ty_whas hi (fun hp => br_f (by decide) (nm_r (nI_1 i) (ih () ?_))) (fun hp => br_t rfl (nm_e ⟨pk_in (i * 6) 60 (by omega) e6, nm_r (e' := upd a3 (i * 6) (nI s)) ?_ ⟨pk_in i 10 hi, nm_r (e' := upd a1 i (nI 1)) ?_ ⟨pk_in i 10 hi, nm_r (e' := upd a2 i (nI g)) ?_ (H i hi h hp)⟩⟩⟩)))
    · intro v hv
      by_cases e : v = i
      · rw [e]
        exact hp
      · exact h v (by omega)
    · rw [e6, nI_clamp (by omega), ty_byte s (by omega)]
    · rw [nI_clamp (by omega)]
      rfl
    · rw [nI_clamp (by omega), ty_byte g (by omega)]
theorem ty_wex {post : Int32 → St1 → Prop} {w s l : Nat} (hw : w < 10) (hs : s < 4) (hl : l ≤ 6) (e : a1 w = nI l)
    (H0 : (ty_b p w = false ∨ l = 6) → post 0 (p, sz, n, o, t, kn, fs, a1, a2, a3, a4, a5, a6))
    (H1 : ty_b p w = true → l < 6 → post 1 (p, sz, n, o, t, 0, fs, upd a1 w (nI (l + 1)), a2, upd a3 (w * 6 + l) (nI s), a4, a5, a6)) :
    wpX_extend post (p, sz, n, o, t, kn, fs, a1, a2, a3, a4, a5, a6) (nI w) (nI s) := by
  have ew : (nI w).toNatClampNeg = w := nI_clamp (by omega)
  unfold wpX_extend
  dsimp only
  rw [ew, e, ty_ix, nI_clamp (show w * 6 + l < 2 ^ 31 by omega)]
  exact ty_whas hw (fun hp => br_f (by decide) (ty_wsy hs (br_f (by decide) ⟨pk_in w 10 hw, pk_lt l 6 (fun z => ⟨pk_in w 10 hw, pk_in (w * 6 + l) 60 (by omega), nm_r (e' := upd a3 (w * 6 + l) (nI s)) (by rw [ty_byte s (by omega)]) ⟨pk_in w 10 hw, pk_in w 10 hw, nm_r (e' := upd a1 w (nI (l + 1))) (by rw [nI_1, ty_byte _ (by omega)]) (H1 hp z)⟩⟩) (fun z => H0 (Or.inr (by omega)))⟩))) (fun hp => br_t rfl (H0 (Or.inl hp)))
theorem ty_wre {post : Int32 → St1 → Prop} {w : Nat} (hw : w < 10)
    (H0 : post 0 (p, sz, n, o, t, kn, fs, a1, a2, a3, a4, a5, a6))
    (H1 : ty_b p w = true → post 1 (p &&& (((1 : Int32) <<< (nI w &&& 31)) ^^^ (-1)), sz, n, o, t, 0, fs, a1, a2, a3, a4, a5, a6)) :
    wpX_remove post (p, sz, n, o, t, kn, fs, a1, a2, a3, a4, a5, a6) (nI w) := by
  unfold wpX_remove
  dsimp only
  exact ty_whas hw (fun hp => br_f (by decide) (nm_e (H1 hp))) (fun hp => br_t rfl H0)
theorem ty_wwe {post : Int32 → St1 → Prop} {w g : Nat} (hw : w < 10) (hg : g < 8)
    (H : ∀ r b2, post r (p, sz, n, o, t, kn, fs, a1, b2, a3, a4, a5, a6)) :
    wpX_weigh post (p, sz, n, o, t, kn, fs, a1, a2, a3, a4, a5, a6) (nI w) (nI g) := by
  unfold wpX_weigh
  dsimp only
  exact ty_whas hw (fun hp => br_f (by decide) (br_f (nI_pos (by omega)) (br_t (nI_le (b := 9) (by omega) (by decide)) ⟨pk_in w 10 hw, nm_e (H 1 _)⟩))) (fun hp => br_t rfl (H 0 a2))

/-! what the law keeps of its own -/
def ty_uT (x3 x7 : Int32) : Int32 := if x7 < 22 then 0 else if 29 ≤ x7 then 0 else if 6 ≤ x3 then 0 else 1
def ty_u2 (x2 x3 x7 x8 : Int32) : Int32 := if ty_uT x3 x7 = 0 then x2 else (x2 &&& (((3 : Int32) <<< ((2 * x3) &&& 31)) ^^^ (-1))) ||| ((x8 &&& 3) <<< ((2 * x3) &&& 31))
def ty_u3 (x3 x7 : Int32) : Int32 := if ty_uT x3 x7 = 0 then if x7 < 29 then x3 else if x3 ≤ 0 then x3 else x3 - 1 else x3 + 1
def ty_uF (x9 x10 : Int32) : Int32 := if x9 = 0 then if x10 = 1 then 1 else 0 else 0
def ty_uG (x5 x7 x8 x10 : Int32) : Int32 := if x7 < 8 then 0 else if 19 ≤ x7 then 0 else if (x8 &&& 255) - (x8 &&& 255) / 10 * 10 = 0 then if x10 = 1 then if 6 ≤ x5 then 0 else 1 else 0 else 0
def ty_u4 (x4 x5 x7 x8 x9 x10 : Int32) : Int32 := if ty_uF x9 x10 = 0 then if ty_uG x5 x7 x8 x10 = 0 then x4 else (x4 &&& (((3 : Int32) <<< ((2 * x5) &&& 31)) ^^^ (-1))) ||| (((x8 >>> ((8 : Int32) &&& 31)) &&& 3) <<< ((2 * x5) &&& 31)) else x8 &&& 3
def ty_u5 (x5 x7 x8 x9 x10 : Int32) : Int32 := if x10 = 0 then 0 else if ty_uF x9 x10 = 0 then if ty_uG x5 x7 x8 x10 = 0 then x5 else x5 + 1 else 1
/-- the law's query holds the object's -/
def ty_JQ (q : Nat) (x2 : Int32) (a4 : Nat → Int32) : Prop := ∀ j, j < q → ∀ i, i < 2 → ty_b x2 (2 * j + i) = ty_b (a4 j) i
/-- the law's word is the object's word 0 -/
def ty_JW (x4 x5 p : Int32) (a1 a3 : Nat → Int32) : Prop := (ty_b p 0 = false → x5 = 0) ∧ (ty_b p 0 = true → x5 = a1 0 ∧ ∀ j, j < (a1 0).toNatClampNeg → ∀ i, i < 2 → ty_b x4 (2 * j + i) = ty_b (a3 j) i)
/-- two bits put at the end -/
theorem ty_fput {x : Int32} {q s : Nat} {a : Nat → Int32} (hq : q < 6) (h : ∀ j, j < q → ∀ i, i < 2 → ty_b x (2 * j + i) = ty_b (a j) i) :
    ∀ j, j < q + 1 → ∀ i, i < 2 → ty_b ((x &&& (((3 : Int32) <<< ((2 * nI q) &&& 31)) ^^^ (-1))) ||| ((nI s) <<< ((2 * nI q) &&& 31))) (2 * j + i) = ty_b (upd a q (nI s) j) i := by
  intro j hj i hi
  rw [show (2 : Int32) * nI q = nI (2 * q) from pk_mul 2 q, ty_or, ty_and, ty_xor, ty_shl (2 * q) (by omega) 3 (by omega), ty_shl (2 * q) (by omega) (nI s) (by omega), ty_mone _ (by omega)]
  by_cases e : j = q
  · subst e
    rw [pk_us, show 2 * j + i - 2 * j = i by omega, ty_three i (by omega), decide_eq_true (show 2 * j ≤ 2 * j + i by omega), decide_eq_true hi]
    simp
  · rw [pk_un e, decide_eq_false (show ¬ 2 * q ≤ 2 * j + i by omega), h j (by omega) i hi]
    simp
theorem ty_uT0 {x3 : Int32} {c : Nat} (hc : c < 32) (h : c < 22 ∨ 29 ≤ c) : ty_uT x3 (nI c) = 0 := by
  unfold ty_uT
  rcases h with h | h
  · rw [if_pos (show nI c < 22 from nI_lt (b := 22) h (by decide))]
  · rw [if_neg (show ¬ nI c < 22 from nI_nlt (b := 22) (by omega) (by omega)), if_pos (show ((29 : Int32) ≤ nI c) from nI_le (a := 29) h (by omega))]
theorem ty_u2_0 {x2 x3 x8 : Int32} {c : Nat} (hc : c < 32) (h : c < 22 ∨ 29 ≤ c) : ty_u2 x2 x3 (nI c) x8 = x2 := by
  unfold ty_u2
  rw [ty_uT0 hc h, if_pos rfl]
theorem ty_u3_0 {x3 : Int32} {c : Nat} (h : c < 22) : ty_u3 x3 (nI c) = x3 := by
  unfold ty_u3
  rw [ty_uT0 (by omega) (Or.inl h), if_pos rfl, if_pos (show nI c < 29 from nI_lt (b := 29) (by omega) (by decide))]
theorem ty_uG_lo {x5 x8 x10 : Int32} {c : Nat} (h : c < 8) : ty_uG x5 (nI c) x8 x10 = 0 := by
  unfold ty_uG
  rw [if_pos (show nI c < 8 from nI_lt (b := 8) h (by decide))]
theorem ty_uG_hi {x5 x8 x10 : Int32} {c : Nat} (hc : c < 32) (h : 19 ≤ c) : ty_uG x5 (nI c) x8 x10 = 0 := by
  unfold ty_uG
  rw [if_neg (show ¬ nI c < 8 from nI_nlt (b := 8) (by omega) (by omega)), if_pos (show ((19 : Int32) ≤ nI c) from nI_le (a := 19) h (by omega))]
theorem ty_uF_eq {x : Int32} : ty_uF x x = 0 := by
  unfold ty_uF
  by_cases h : x = 0
  · rw [if_pos h, h]
    decide
  · rw [if_neg h]
/-- word 0 is as it was -/
theorem ty_JW_keep {x4 x5 p' x7 x8 : Int32} {q : Nat} {b1 b3 : Nat → Int32} (hI : ty_I q a1 a3 a4) (h : ty_JW x4 x5 p a1 a3) (hp : ty_b p' 0 = ty_b p 0) (hG : ty_uG x5 x7 x8 (p' &&& 1) = 0) (h1 : b1 0 = a1 0) (h3 : ∀ j, j < 6 → b3 j = a3 j) :
    ty_JW (ty_u4 x4 x5 x7 x8 (p &&& 1) (p' &&& 1)) (ty_u5 x5 x7 x8 (p &&& 1) (p' &&& 1)) p' b1 b3 := by
  have e : p &&& 1 = p' &&& 1 := by rw [ty_and1, ty_and1, hp]
  have e4 : ty_u4 x4 x5 x7 x8 (p &&& 1) (p' &&& 1) = x4 := by
    unfold ty_u4
    rw [hG, e, ty_uF_eq, if_pos rfl, if_pos rfl]
  have e5 : ty_u5 x5 x7 x8 (p &&& 1) (p' &&& 1) = if p' &&& 1 = 0 then 0 else x5 := by
    unfold ty_u5
    rw [hG, e, ty_uF_eq, if_pos rfl, if_pos rfl]
  rw [e4, e5, ty_and1]
  refine ⟨fun z => ?_, fun z => ?_⟩
  · rw [z]
    rfl
  · have z' := z
    rw [hp] at z'
    rw [z, h1]
    refine ⟨(h.2 z').1, fun j hj i hi => ?_⟩
    obtain ⟨l, hl, e⟩ := hI.2.1 0 (by omega)
    have hj' := hj
    rw [e, nI_clamp (by omega)] at hj'
    rw [h3 j (by omega)]
    exact (h.2 z').2 j hj i hi
theorem ty_opb {post : St1 → Prop} {q c : Nat} {x2 x4 x5 x8 : Int32} (hI : ty_I q a1 a3 a4) (hk : ¬ kn = 0 → ty_L p q fs a1 a3 a4 a6) (hQ : ty_JQ q x2 a4) (hW : ty_JW x4 x5 p a1 a3) (hc : c < 8)
    (H : ∀ q' p' n o t kn fs b1 b2 b3 b4 b5 b6, ty_I q' b1 b3 b4 → (¬ kn = 0 → ty_L p' q' fs b1 b3 b4 b6) → ty_u3 (nI q) (nI c) = nI q' → ty_JQ q' (ty_u2 x2 (nI q) (nI c) x8) b4 → ty_JW (ty_u4 x4 x5 (nI c) x8 (p &&& 1) (p' &&& 1)) (ty_u5 x5 (nI c) x8 (p &&& 1) (p' &&& 1)) p' b1 b3 → post (p', nI q', n, o, t, kn, fs, b1, b2, b3, b4, b5, b6)) :
    wpL_call post (p, nI q, n, o, t, kn, fs, a1, a2, a3, a4, a5, a6) (nI c) x8 := by
  obtain ⟨s, hs, es⟩ := pk_andE x8 (m := 3) 2 (by decide)
  obtain ⟨g, hg, eg⟩ := pk_andE (x8 >>> ((2 : Int32) &&& 31)) (m := 7) 3 (by decide)
  have e2 : ty_u2 x2 (nI q) (nI c) x8 = x2 := ty_u2_0 (by omega) (Or.inl (by omega))
  have e3 : ty_u3 (nI q) (nI c) = nI q := ty_u3_0 (by omega)
  unfold wpL_call
  dsimp only
  rw [es, eg]
  refine pk_le 8 c (fun z => absurd z (by omega)) (fun _ => ty_wbe hs hg ?_ ?_)
  · exact H q p n o t kn fs a1 a2 a3 a4 a5 a6 hI hk e3 (by rw [e2]; exact hQ) (ty_JW_keep hI hW rfl (ty_uG_lo hc) rfl (fun _ _ => rfl))
  · intro w hw hb h0
    refine H q (p ||| ((1 : Int32) <<< (nI w &&& 31))) n o t 0 fs (upd a1 w (nI 1)) (upd a2 w (nI g)) (upd a3 (w * 6) (nI s)) a4 a5 a6 ⟨hI.1, fun v hv => ?_, fun j hj => ?_, hI.2.2.2⟩ (fun y => absurd rfl y) e3 (by rw [e2]; exact hQ) ?_
    · by_cases e : v = w
      · rw [e, pk_us]
        exact ⟨1, by omega, rfl⟩
      · rw [pk_un e]
        exact hI.2.1 v hv
    · by_cases e : j = w * 6
      · rw [e, pk_us]
        exact ⟨s, hs, rfl⟩
      · rw [pk_un e]
        exact hI.2.2.1 j hj
    · by_cases e : w = 0
      · subst e
        have hb' : ty_b (p ||| ((1 : Int32) <<< (nI 0 &&& 31))) 0 = true := by
          rw [ty_set p 0 (by omega) (by omega)]
          simp
        have a9 : p &&& 1 = 0 := by rw [ty_and1, h0]; rfl
        have a10 : (p ||| ((1 : Int32) <<< (nI 0 &&& 31))) &&& 1 = 1 := by rw [ty_and1, hb']; rfl
        have u4 : ty_u4 x4 x5 (nI c) x8 0 1 = nI s := by
          unfold ty_u4
          rw [show ty_uF 0 1 = 1 from by decide, if_neg (by decide), es]
        have u5 : ty_u5 x5 (nI c) x8 0 1 = 1 := by
          unfold ty_u5
          rw [show ty_uF 0 1 = 1 from by decide, if_neg (by decide), if_neg (by decide)]
        rw [a9, a10, u4, u5]
        refine ⟨fun z => ?_, fun _ => ⟨?_, fun j hj i hi => ?_⟩⟩
        · rw [hb'] at z
          exact absurd z (by decide)
        · rw [pk_us]
          rfl
        · rw [pk_us, nI_clamp (by omega)] at hj
          rw [show j = 0 by omega, pk_us, Nat.mul_zero, Nat.zero_add]
      · refine ty_JW_keep hI hW ?_ (ty_uG_lo hc) ?_ ?_
        · rw [ty_set p w (by omega) (by omega)]
          simp
          omega
        · rw [pk_un (by omega)]
        · intro j hj
          rw [pk_un (by omega)]
theorem ty_ope {post : St1 → Prop} {q c : Nat} {x2 x4 x5 x8 : Int32} (hI : ty_I q a1 a3 a4) (hk : ¬ kn = 0 → ty_L p q fs a1 a3 a4 a6) (hQ : ty_JQ q x2 a4) (hW : ty_JW x4 x5 p a1 a3) (hc : 8 ≤ c) (hc' : c < 19)
    (H : ∀ q' p' n o t kn fs b1 b2 b3 b4 b5 b6, ty_I q' b1 b3 b4 → (¬ kn = 0 → ty_L p' q' fs b1 b3 b4 b6) → ty_u3 (nI q) (nI c) = nI q' → ty_JQ q' (ty_u2 x2 (nI q) (nI c) x8) b4 → ty_JW (ty_u4 x4 x5 (nI c) x8 (p &&& 1) (p' &&& 1)) (ty_u5 x5 (nI c) x8 (p &&& 1) (p' &&& 1)) p' b1 b3 → post (p', nI q', n, o, t, kn, fs, b1, b2, b3, b4, b5, b6)) :
    wpL_call post (p, nI q, n, o, t, kn, fs, a1, a2, a3, a4, a5, a6) (nI c) x8 := by
  obtain ⟨s, hs, es⟩ := pk_andE (x8 >>> ((8 : Int32) &&& 31)) (m := 3) 2 (by decide)
  obtain ⟨j, hj, ej⟩ := pk_andE x8 (m := 255) 8 (by decide)
  have er : (x8 &&& 255) - (x8 &&& 255) / 10 * 10 = nI (j % 10) := by
    rw [ej]
    exact pk_rem (d := 10) (by omega) (by decide) (by decide)
  have hw : j % 10 < 10 := Nat.mod_lt _ (by omega)
  revert er hw
  generalize j % 10 = w
  intro er hw
  have e2 : ty_u2 x2 (nI q) (nI c) x8 = x2 := ty_u2_0 (by omega) (Or.inl (by omega))
  have e3 : ty_u3 (nI q) (nI c) = nI q := ty_u3_0 (by omega)
  obtain ⟨l, hl, el⟩ := hI.2.1 w hw
  have eG : ∀ x10, ty_uG x5 (nI c) x8 x10 = if w = 0 then if x10 = 1 then if 6 ≤ x5 then 0 else 1 else 0 else 0 := by
    intro x10
    unfold ty_uG
    rw [if_neg (show ¬ nI c < 8 from nI_nlt (b := 8) hc (by omega)), if_neg (show ¬ ((19 : Int32) ≤ nI c) from nI_ge (b := 19) hc' (by omega)), er]
    by_cases e : w = 0
    · rw [if_pos e, e, if_pos nI_0]
    · rw [if_neg e, if_neg (nI_ne0 (by omega) (by omega))]
  unfold wpL_call
  dsimp only
  rw [er, es]
  refine pk_le 8 c (fun _ => pk_le 19 c (fun z => absurd z (by omega)) (fun _ => ⟨by decide, ty_wex hw hs hl el (fun h => ?_) (fun hp hl6 => ?_)⟩)) (fun z => absurd z (by omega))
  · refine H q p n o t kn fs a1 a2 a3 a4 a5 a6 hI hk e3 (by rw [e2]; exact hQ) (ty_JW_keep hI hW rfl ?_ rfl (fun _ _ => rfl))
    rw [eG]
    by_cases e : w = 0
    · subst e
      rw [if_pos rfl, ty_and1]
      rcases h with h | h
      · rw [h, if_neg (by decide)]
      · cases hp : ty_b p 0
        · rw [if_neg (by decide)]
        · rw [(hW.2 hp).1, el, h]
          decide
    · rw [if_neg e]
  · refine H q p n o t 0 fs (upd a1 w (nI (l + 1))) a2 (upd a3 (w * 6 + l) (nI s)) a4 a5 a6 ⟨hI.1, fun v hv => ?_, fun j hj => ?_, hI.2.2.2⟩ (fun y => absurd rfl y) e3 (by rw [e2]; exact hQ) ?_
    · by_cases e : v = w
      · rw [e, pk_us]
        exact ⟨l + 1, by omega, rfl⟩
      · rw [pk_un e]
        exact hI.2.1 v hv
    · by_cases e : j = w * 6 + l
      · rw [e, pk_us]
        exact ⟨s, hs, rfl⟩
      · rw [pk_un e]
        exact hI.2.2.1 j hj
    · by_cases e : w = 0
      · subst e
        have x5e : x5 = nI l := by rw [(hW.2 hp).1, el]
        have a9 : p &&& 1 = 1 := by rw [ty_and1, hp]; rfl
        have g1 : ty_uG x5 (nI c) x8 1 = 1 := by
          rw [eG, if_pos rfl, if_pos rfl, x5e, if_neg (show ¬ ((6 : Int32) ≤ nI l) from nI_ge (b := 6) hl6 (by omega))]
        have u4 : ty_u4 x4 x5 (nI c) x8 1 1 = (x4 &&& (((3 : Int32) <<< ((2 * nI l) &&& 31)) ^^^ (-1))) ||| (nI s <<< ((2 * nI l) &&& 31)) := by
          unfold ty_u4
          rw [ty_uF_eq, if_pos rfl, g1, if_neg (by decide), es, x5e]
        have u5 : ty_u5 x5 (nI c) x8 1 1 = nI (l + 1) := by
          unfold ty_u5
          rw [if_neg (by decide), ty_uF_eq, if_pos rfl, g1, if_neg (by decide), x5e, nI_1]
        rw [a9, u4, u5]
        refine ⟨fun z => ?_, fun _ => ⟨?_, ?_⟩⟩
        · rw [hp] at z
          exact absurd z (by decide)
        · rw [pk_us]
        · rw [pk_us, nI_clamp (by omega), Nat.zero_mul, Nat.zero_add]
          have hh := (hW.2 hp).2
          rw [el, nI_clamp (by omega)] at hh
          exact ty_fput hl6 hh
      · refine ty_JW_keep hI hW rfl ?_ ?_ ?_
        · rw [eG, if_neg e]
        · rw [pk_un (by omega)]
        · intro j hj
          rw [pk_un (by omega)]
theorem ty_opr {post : St1 → Prop} {q c : Nat} {x2 x4 x5 x8 : Int32} (hI : ty_I q a1 a3 a4) (hk : ¬ kn = 0 → ty_L p q fs a1 a3 a4 a6) (hQ : ty_JQ q x2 a4) (hW : ty_JW x4 x5 p a1 a3) (hc : 19 ≤ c) (hc' : c < 22)
    (H : ∀ q' p' n o t kn fs b1 b2 b3 b4 b5 b6, ty_I q' b1 b3 b4 → (¬ kn = 0 → ty_L p' q' fs b1 b3 b4 b6) → ty_u3 (nI q) (nI c) = nI q' → ty_JQ q' (ty_u2 x2 (nI q) (nI c) x8) b4 → ty_JW (ty_u4 x4 x5 (nI c) x8 (p &&& 1) (p' &&& 1)) (ty_u5 x5 (nI c) x8 (p &&& 1) (p' &&& 1)) p' b1 b3 → post (p', nI q', n, o, t, kn, fs, b1, b2, b3, b4, b5, b6)) :
    wpL_call post (p, nI q, n, o, t, kn, fs, a1, a2, a3, a4, a5, a6) (nI c) x8 := by
  obtain ⟨g, hg, eg⟩ := pk_andE (x8 >>> ((8 : Int32) &&& 31)) (m := 7) 3 (by decide)
  obtain ⟨j, hj, ej⟩ := pk_andE x8 (m := 255) 8 (by decide)
  have er : (x8 &&& 255) - (x8 &&& 255) / 10 * 10 = nI (j % 10) := by
    rw [ej]
    exact pk_rem (d := 10) (by omega) (by decide) (by decide)
  have hw : j % 10 < 10 := Nat.mod_lt _ (by omega)
  revert er hw
  generalize j % 10 = w
  intro er hw
  have e2 : ty_u2 x2 (nI q) (nI c) x8 = x2 := ty_u2_0 (by omega) (Or.inl (by omega))
  have e3 : ty_u3 (nI q) (nI c) = nI q := ty_u3_0 (by omega)
  have same : ∀ b2, post (p, nI q, n, o, t, kn, fs, a1, b2, a3, a4, a5, a6) := fun b2 => H q p n o t kn fs a1 b2 a3 a4 a5 a6 hI hk e3 (by rw [e2]; exact hQ) (ty_JW_keep hI hW rfl (ty_uG_hi (by omega) hc) rfl (fun _ _ => rfl))
  unfold wpL_call
  dsimp only
  rw [er, eg]
  refine pk_le 8 c (fun _ => pk_le 19 c (fun _ => pk_le 21 c (fun _ => pk_le 22 c (fun z => absurd z (by omega)) (fun _ => ⟨by decide, ty_wwe hw hg (fun r b2 => same b2)⟩)) (fun _ => ⟨by decide, ty_wre hw (same a2) (fun hp => ?_)⟩)) (fun z => absurd z (by omega))) (fun z => absurd z (by omega))
  refine H q (p &&& (((1 : Int32) <<< (nI w &&& 31)) ^^^ (-1))) n o t 0 fs a1 a2 a3 a4 a5 a6 hI (fun y => absurd rfl y) e3 (by rw [e2]; exact hQ) ?_
  by_cases e : w = 0
  · subst e
    have hb' : ty_b (p &&& (((1 : Int32) <<< (nI 0 &&& 31)) ^^^ (-1))) 0 = false := by
      rw [ty_clr p 0 (by omega) (by omega)]
      simp
    refine ⟨fun _ => ?_, fun z => ?_⟩
    · unfold ty_u5
      rw [ty_and1 (p &&& (((1 : Int32) <<< (nI 0 &&& 31)) ^^^ (-1))), hb']
      rfl
    · rw [hb'] at z
      exact absurd z (by decide)
  · refine ty_JW_keep hI hW ?_ (ty_uG_hi (by omega) hc) rfl (fun _ _ => rfl)
    rw [ty_clr p w (by omega) (by omega)]
    simp
    omega
theorem ty_opt {post : St1 → Prop} {q c : Nat} {x2 x4 x5 x8 : Int32} (hI : ty_I q a1 a3 a4) (hk : ¬ kn = 0 → ty_L p q fs a1 a3 a4 a6) (hQ : ty_JQ q x2 a4) (hW : ty_JW x4 x5 p a1 a3) (hc : 22 ≤ c) (hc' : c < 29)
    (H : ∀ q' p' n o t kn fs b1 b2 b3 b4 b5 b6, ty_I q' b1 b3 b4 → (¬ kn = 0 → ty_L p' q' fs b1 b3 b4 b6) → ty_u3 (nI q) (nI c) = nI q' → ty_JQ q' (ty_u2 x2 (nI q) (nI c) x8) b4 → ty_JW (ty_u4 x4 x5 (nI c) x8 (p &&& 1) (p' &&& 1)) (ty_u5 x5 (nI c) x8 (p &&& 1) (p' &&& 1)) p' b1 b3 → post (p', nI q', n, o, t, kn, fs, b1, b2, b3, b4, b5, b6)) :
    wpL_call post (p, nI q, n, o, t, kn, fs, a1, a2, a3, a4, a5, a6) (nI c) x8 := by
  obtain ⟨s, hs, es⟩ := pk_andE x8 (m := 3) 2 (by decide)
  have hq := hI.1
  have eT : ty_uT (nI q) (nI c) = if 6 ≤ q then 0 else 1 := by
    unfold ty_uT
    rw [if_neg (show ¬ nI c < 22 from nI_nlt (b := 22) hc (by omega)), if_neg (show ¬ ((29 : Int32) ≤ nI c) from nI_ge (b := 29) hc' (by omega))]
    by_cases e : 6 ≤ q
    · rw [if_pos e, if_pos (show ((6 : Int32) ≤ nI q) from nI_le (a := 6) e (by omega))]
    · rw [if_neg e, if_neg (show ¬ ((6 : Int32) ≤ nI q) from nI_ge (b := 6) (by omega) (by omega))]
  have kW : ty_JW (ty_u4 x4 x5 (nI c) x8 (p &&& 1) (p &&& 1)) (ty_u5 x5 (nI c) x8 (p &&& 1) (p &&& 1)) p a1 a3 := ty_JW_keep hI hW rfl (ty_uG_hi (by omega) (by omega)) rfl (fun _ _ => rfl)
  unfold wpL_call
  dsimp only
  rw [es]
  refine pk_le 8 c (fun _ => pk_le 19 c (fun _ => pk_le 21 c (fun _ => pk_le 22 c (fun _ => pk_le 29 c (fun z => absurd z (by omega)) (fun _ => ty_wtyp hI hs (fun h6 => ?_) (fun h6 n o t kn fs b5 b6 hk' hL => ?_))) (fun z => absurd z (by omega))) (fun z => absurd z (by omega))) (fun z => absurd z (by omega))) (fun z => absurd z (by omega))
  · rw [if_pos (by omega)] at eT
    refine H q p n o t kn fs a1 a2 a3 a4 a5 a6 hI hk ?_ ?_ kW
    · unfold ty_u3
      rw [eT, if_pos rfl, if_pos (show nI c < 29 from nI_lt (b := 29) hc' (by decide))]
    · unfold ty_u2
      rw [eT, if_pos rfl]
      exact hQ
  · rw [if_neg (by omega)] at eT
    refine H (q + 1) p n o t kn fs a1 a2 a3 (upd a4 q (nI s)) b5 b6 (ty_I_put hI h6 hs) (fun _ => hL) ?_ ?_ kW
    · unfold ty_u3
      rw [eT, if_neg (by decide), nI_1]
    · unfold ty_u2
      rw [eT, if_neg (by decide), es]
      exact ty_fput h6 hQ
theorem ty_opu {post : St1 → Prop} {q c : Nat} {x2 x4 x5 x8 : Int32} (hI : ty_I q a1 a3 a4) (hk : ¬ kn = 0 → ty_L p q fs a1 a3 a4 a6) (hQ : ty_JQ q x2 a4) (hW : ty_JW x4 x5 p a1 a3) (hc : 29 ≤ c) (hc' : c < 32)
    (H : ∀ q' p' n o t kn fs b1 b2 b3 b4 b5 b6, ty_I q' b1 b3 b4 → (¬ kn = 0 → ty_L p' q' fs b1 b3 b4 b6) → ty_u3 (nI q) (nI c) = nI q' → ty_JQ q' (ty_u2 x2 (nI q) (nI c) x8) b4 → ty_JW (ty_u4 x4 x5 (nI c) x8 (p &&& 1) (p' &&& 1)) (ty_u5 x5 (nI c) x8 (p &&& 1) (p' &&& 1)) p' b1 b3 → post (p', nI q', n, o, t, kn, fs, b1, b2, b3, b4, b5, b6)) :
    wpL_call post (p, nI q, n, o, t, kn, fs, a1, a2, a3, a4, a5, a6) (nI c) x8 := by
  have hq := hI.1
  have eT : ty_uT (nI q) (nI c) = 0 := ty_uT0 hc' (Or.inr hc)
  have e2 : ty_u2 x2 (nI q) (nI c) x8 = x2 := ty_u2_0 hc' (Or.inr hc)
  have kW : ty_JW (ty_u4 x4 x5 (nI c) x8 (p &&& 1) (p &&& 1)) (ty_u5 x5 (nI c) x8 (p &&& 1) (p &&& 1)) p a1 a3 := ty_JW_keep hI hW rfl (ty_uG_hi hc' (by omega)) rfl (fun _ _ => rfl)
  unfold wpL_call
  dsimp only
  refine pk_le 8 c (fun _ => pk_le 19 c (fun _ => pk_le 21 c (fun _ => pk_le 22 c (fun _ => pk_le 29 c (fun _ => ?_) (fun z => absurd z (by omega))) (fun z => absurd z (by omega))) (fun z => absurd z (by omega))) (fun z => absurd z (by omega))) (fun z => absurd z (by omega))
  cases q with
  | zero =>
    refine ty_wru0 (H 0 p n o t kn fs a1 a2 a3 a4 a5 a6 hI hk ?_ (by rw [e2]; exact hQ) kW)
    unfold ty_u3
    rw [eT, if_pos rfl, if_neg (show ¬ nI c < 29 from nI_nlt (b := 29) hc (by omega)), if_pos (show nI 0 ≤ (0 : Int32) from nI_le (b := 0) (by omega) (by decide))]
  | succ q =>
    refine ty_wru (by omega) (H q p n o t 0 fs a1 a2 a3 a4 a5 a6 (ty_I_q hI (by omega)) (fun y => absurd rfl y) ?_ (by rw [e2]; exact fun j hj => hQ j (by omega)) kW)
    unfold ty_u3
    rw [eT, if_pos rfl, if_neg (show ¬ nI c < 29 from nI_nlt (b := 29) hc (by omega)), if_neg (nI_nle (by omega) (by omega)), nI_pred]
theorem ty_wcall {post : St1 → Prop} {q c : Nat} {x2 x4 x5 x8 : Int32} (hI : ty_I q a1 a3 a4) (hk : ¬ kn = 0 → ty_L p q fs a1 a3 a4 a6) (hQ : ty_JQ q x2 a4) (hW : ty_JW x4 x5 p a1 a3) (hc : c < 32)
    (H : ∀ q' p' n o t kn fs b1 b2 b3 b4 b5 b6, ty_I q' b1 b3 b4 → (¬ kn = 0 → ty_L p' q' fs b1 b3 b4 b6) → ty_u3 (nI q) (nI c) = nI q' → ty_JQ q' (ty_u2 x2 (nI q) (nI c) x8) b4 → ty_JW (ty_u4 x4 x5 (nI c) x8 (p &&& 1) (p' &&& 1)) (ty_u5 x5 (nI c) x8 (p &&& 1) (p' &&& 1)) p' b1 b3 → post (p', nI q', n, o, t, kn, fs, b1, b2, b3, b4, b5, b6)) :
    wpL_call post (p, nI q, n, o, t, kn, fs, a1, a2, a3, a4, a5, a6) (nI c) x8 := by
  by_cases h1 : c < 8
  · exact ty_opb hI hk hQ hW h1 H
  · by_cases h2 : c < 19
    · exact ty_ope hI hk hQ hW (by omega) h2 H
    · by_cases h3 : c < 22
      · exact ty_opr hI hk hQ hW (by omega) h3 H
      · by_cases h4 : c < 29
        · exact ty_opt hI hk hQ hW (by omega) h4 H
        · exact ty_opu hI hk hQ hW (by omega) hc H
end
end
section
section
variable {p sz n o t kn fs : Int32} {a1 a2 a3 a4 a5 a6 : Nat → Int32}
theorem ty_mask : ∀ q, q < 7 → ∀ i, i < 32 → ty_b (((1 : Int32) <<< ((2 * nI q) &&& 31)) - 1) i = decide (i < 2 * q) := by decide +kernel
theorem ty_wbg {post : Int32 → Prop} {x4 x2 : Int32} {q l : Nat} (hq : q ≤ 6) (hl : l ≤ 6) (H0 : post 0) (H1 : q ≤ l → (∀ i, i < 2 * q → ty_b x4 i = ty_b x2 i) → post 1) : wpL_begins post () x4 (nI l) x2 (nI q) := by
  refine nm_e (pk_lt l q (fun _ => H0) (fun z => br_c (fun e => H1 z (fun i hi => ?_)) (fun _ => H0)))
  have h : ty_b ((x4 ^^^ x2) &&& (((1 : Int32) <<< ((2 * nI q) &&& 31)) - 1)) i = false := by rw [e, ty_z]
  rw [ty_and, ty_xor, ty_mask q (by omega) i (by omega), decide_eq_true hi, Bool.and_true] at h
  cases h1 : ty_b x4 i <;> cases h2 : ty_b x2 i <;> rw [h1, h2] at h <;> first | rfl | exact absurd h (by decide)
theorem ty_wfu {post : Int32 → St1 → Prop} {q : Nat} (hI : ty_I q a1 a3 a4) (hk : ¬ kn = 0 → ty_L p q fs a1 a3 a4 a6)
    (H : ∀ n o t kn fs b5 b6, ¬ kn = 0 → ty_L p q fs a1 a3 a4 b6 → post fs (p, nI q, n, o, t, kn, fs, a1, a2, a3, a4, b5, b6)) :
    wpX_found post (p, nI q, n, o, t, kn, fs, a1, a2, a3, a4, a5, a6) := by
  unfold wpX_found
  dsimp only
  exact ty_wle hI hk (fun n o t kn fs b5 b6 z h => H n o t kn fs b5 b6 z h)
theorem ty_wtu {post : Int32 → St1 → Prop} {q w : Nat} (hI : ty_I q a1 a3 a4) (hk : ¬ kn = 0 → ty_L p q fs a1 a3 a4 a6) (hw : w < 10) (hp : ty_b p w = true)
    (H : ∀ n o t kn fs b5 b6, ¬ kn = 0 → ty_L p q fs a1 a3 a4 b6 → post (nI (ty_T q a1 a3 a4 w)) (p, nI q, n, o, t, kn, fs, a1, a2, a3, a4, b5, b6)) :
    wpX_typos post (p, nI q, n, o, t, kn, fs, a1, a2, a3, a4, a5, a6) (nI w) := by
  unfold wpX_typos
  dsimp only
  refine ty_whas hw (fun _ => br_f (by decide) (ty_wle hI hk (fun n o t kn fs b5 b6 z h => ⟨pk_in w 10 hw, ?_⟩))) (fun y => ?_)
  · rw [nI_clamp (by omega)]
    dsimp only
    rw [(h w hw).2 hp]
    exact H n o t kn fs b5 b6 z h
  · rw [hp] at y
    exact absurd y (by decide)
theorem ty_wco {post : Int32 → St1 → Prop} {q : Nat} (hI : ty_I q a1 a3 a4) (hk : ¬ kn = 0 → ty_L p q fs a1 a3 a4 a6)
    (H : ∀ n o t kn fs b5 b6 c, ¬ kn = 0 → ty_L p q fs a1 a3 a4 b6 → (ty_b fs 0 = true → ¬ a1 0 < c) → ((∀ w, w < 10 → ty_b fs w = false) → c = 0) → post c (p, nI q, n, o, t, kn, fs, a1, a2, a3, a4, b5, b6)) :
    wpX_common post (p, nI q, n, o, t, kn, fs, a1, a2, a3, a4, a5, a6) := by
  unfold wpX_common
  dsimp only
  exact ty_wle hI hk (fun n o t kn fs b5 b6 z h => ty_wco10 hI (fun c h1 h0 => H n o t kn fs b5 b6 c z h h1 h0))
section
variable {post : Int32 → Prop} {L : Nat} {xs : Nat → Int32} {J : Int32 → Int32 → Int32 → Int32 → Int32 → Int32 → Int32 → Int32 → Int32 → Int32 → Int32 → Int32 → (Nat → Int32) → (Nat → Int32) → (Nat → Int32) → (Nat → Int32) → (Nat → Int32) → (Nat → Int32) → Prop} {x2 x3 x4 x5 x6 x7 x8 x9 x10 x11 x12 x13 x14 x15 x16 z0 : Int32} {kc ks : Nat}
theorem ty_w387 {q : Nat} (hI : ty_I q a1 a3 a4) (hk : ¬ kn = 0 → ty_L p q fs a1 a3 a4 a6) (h0 : (∀ w, w < 10 → ty_fd p q a1 a3 a4 w = false) → x15 = 0)
    (H : ∀ n o t kn fs b5 b6, ¬ kn = 0 → ty_L p q fs a1 a3 a4 b6 → J x2 x3 x4 x5 (x6 + 1) p (nI q) n o t kn fs a1 a2 a3 a4 b5 b6) :
    wL_law_387 post L xs J x2 x3 x4 x5 x6 x15 kc ks p (nI q) n o t kn fs a1 a2 a3 a4 a5 a6 := by
  unfold wL_law_387
  refine ty_wfu hI hk (fun n o t kn fs b5 b6 z h => br_c (fun e => br_t (h0 (fun w hw => ?_)) (nm_e (H n o t kn fs b5 b6 z h))) (fun e => nm_e (H n o t kn fs b5 b6 z h)))
  rw [← (h w hw).1, e, ty_z]
theorem ty_w375 {q : Nat} (hI : ty_I q a1 a3 a4) (hk : ¬ kn = 0 → ty_L p q fs a1 a3 a4 a6) (h0 : (∀ w, w < 10 → ty_fd p q a1 a3 a4 w = false) → x15 = 0) (hx : ¬ x16 = 0 → ¬ x5 < x15)
    (H : ∀ n o t kn fs b5 b6, ¬ kn = 0 → ty_L p q fs a1 a3 a4 b6 → J x2 x3 x4 x5 (x6 + 1) p (nI q) n o t kn fs a1 a2 a3 a4 b5 b6) :
    wL_law_375 post L xs J x2 x3 x4 x5 x6 x15 x16 kc ks p (nI q) n o t kn fs a1 a2 a3 a4 a5 a6 :=
  br_c (fun _ => ty_w387 hI hk h0 H) (fun e => br_f (hx e) (ty_w387 hI hk h0 H))
theorem ty_w334 {q : Nat} (hG : ty_G p q kn fs a1 a3 a4 a6) (hQ : ty_JQ q x2 a4) (hW : ty_JW x4 x5 p a1 a3) (h14 : ¬ x14 = 0 → ty_b p 0 = true) (h0 : (∀ w, w < 10 → ty_fd p q a1 a3 a4 w = false) → x15 = 0) (hx : ¬ z0 = 0 → ¬ x5 < x15)
    (H : ∀ n o t kn fs b4 b5 b6, ty_H p q a1 a3 a4 kn fs b4 b6 → J x2 (nI q) x4 x5 (x6 + 1) p (nI q) n o t kn fs a1 a2 a3 b4 b5 b6) :
    wL_law_334 post L xs J x2 (nI q) x4 x5 x6 x14 x15 z0 kc ks p (nI q) n o t kn fs a1 a2 a3 a4 a5 a6 := by
  unfold wL_law_334
  refine ty_wrk hG (br_f (by decide) (ty_wLhi hG.1 (fun _ => hG.2.2) (fun n o t kn fs b4 b5 b6 h => br_f (by decide) ?_)))
  have c0 : (∀ w, w < 10 → ty_fd p q a1 a3 b4 w = false) → x15 = 0 := fun y => h0 (fun w hw => by
    rw [← ty_fd_eq h.1]
    exact y w hw)
  have fin : ∀ n o t kn fs b5 b6, (¬ kn = 0 → ty_L p q fs a1 a3 b4 b6) → wL_law_375 post L xs J x2 (nI q) x4 x5 x6 x15 z0 kc ks p (nI q) n o t kn fs a1 a2 a3 b4 b5 b6 := fun n o t kn fs b5 b6 hk => ty_w375 h.2.1 hk c0 hx (fun n o t kn fs b5 b6 z hL => H n o t kn fs b4 b5 b6 ⟨h.1, h.2.1, fun _ => hL⟩)
  refine br_c (fun _ => fin n o t kn fs b5 b6 h.2.2) (fun e => ?_)
  have hp := h14 e
  obtain ⟨l, hl, el⟩ := hG.1.2.1 0 (by omega)
  have hW2 := hW.2 hp
  rw [el, nI_clamp (by omega)] at hW2
  obtain ⟨x5e, hw4⟩ := hW2
  subst x5e
  have hq := hG.1.1
  refine ty_wbg hq hl (br_t rfl (fin n o t kn fs b5 b6 h.2.2)) (fun hql hb => br_f (by decide) (ty_wtu (w := 0) h.2.1 h.2.2 (by omega) hp (fun n o t kn fs b5 b6 z hL => br_t ?_ (fin n o t kn fs b5 b6 (fun _ => hL)))))
  have hT : ty_T q a1 a3 b4 0 = 0 := by
    refine ty_T_pre hq (l := l) (by rw [el, nI_clamp (by omega)]) hql (fun j hj => ?_)
    rw [Nat.zero_mul, Nat.zero_add, h.1 j hj]
    obtain ⟨s, hs, es⟩ := hG.1.2.2.1 j (by omega)
    obtain ⟨s', hs', es'⟩ := hG.1.2.2.2 j (by omega)
    have hh : s = s' := ty_two hs hs' (fun i hi => by
      rw [← es, ← es', ← hw4 j (by omega) i hi, ← hQ j hj i hi]
      exact hb (2 * j + i) (by omega))
    rw [es, es', hh]
  rw [hT]
  rfl
theorem ty_w311 {q : Nat} (hI : ty_I q a1 a3 a4) (hk : ¬ kn = 0 → ty_L p q fs a1 a3 a4 a6) (hQ : ty_JQ q x2 a4) (hW : ty_JW x4 x5 p a1 a3) (h14 : ¬ z0 = 0 → ty_b p 0 = true)
    (H : ∀ n o t kn fs b4 b5 b6, ty_H p q a1 a3 a4 kn fs b4 b6 → J x2 (nI q) x4 x5 (x6 + 1) p (nI q) n o t kn fs a1 a2 a3 b4 b5 b6) :
    wL_law_311 post L xs J x2 (nI q) x4 x5 x6 z0 kc ks p (nI q) n o t kn fs a1 a2 a3 a4 a5 a6 := by
  unfold wL_law_311
  refine ty_wco hI hk (fun n o t kn fs b5 b6 c z h h1 h0 => ty_wfo z (br_c (fun e => ty_w334 ⟨hI, z, h⟩ hQ hW h14 (fun y => h0 (fun w hw => ?_)) (fun _ => ?_) H) (fun e => ty_w334 ⟨hI, z, h⟩ hQ hW h14 (fun y => h0 (fun w hw => ?_)) (fun y => absurd rfl y) H)))
  · rw [(h w hw).1]
    exact y w hw
  · have hf : ty_b fs 0 = true := by
      cases hb : ty_b fs 0
      · rw [ty_and1, hb] at e
        exact absurd e (by decide)
      · rfl
    rw [(hW.2 (ty_G_p ⟨hI, z, h⟩ (by omega) hf)).1]
    exact h1 hf
  · rw [(h w hw).1]
    exact y w hw
theorem ty_v298 (H : wL_law_311 post L xs J x2 x3 x4 z0 x6 (if x10 = 1 then 1 else 0) kc ks p sz n o t kn fs a1 a2 a3 a4 a5 a6) : wL_law_298 post L xs J x2 x3 x4 x6 x10 z0 kc ks p sz n o t kn fs a1 a2 a3 a4 a5 a6 :=
  br_c (fun e => by rw [if_pos e] at H; exact H) (fun e => by rw [if_neg e] at H; exact H)
theorem ty_v264 (H : wL_law_311 post L xs J x2 x3 z0 (if x10 = 0 then 0 else if x12 = 0 then if x13 = 0 then x5 else x5 + 1 else 1) x6 (if x10 = 1 then 1 else 0) kc ks p sz n o t kn fs a1 a2 a3 a4 a5 a6) : wL_law_264 post L xs J x2 x3 x5 x6 x10 x12 x13 z0 kc ks p sz n o t kn fs a1 a2 a3 a4 a5 a6 :=
  br_c (fun e => ty_v298 (by rw [if_pos e] at H; exact H)) (fun e => br_c (fun e2 => br_c (fun e3 => ty_v298 (by rw [if_neg e, if_pos e2, if_pos e3] at H; exact H)) (fun e3 => ty_v298 (by rw [if_neg e, if_pos e2, if_neg e3] at H; exact H))) (fun e2 => ty_v298 (by rw [if_neg e, if_neg e2] at H; exact H)))
theorem ty_v216 (H : wL_law_264 post L xs J x2 x3 x5 x6 x10 x12 z0 (if x12 = 0 then if z0 = 0 then x4 else (x4 &&& (((3 : Int32) <<< ((2 * x5) &&& 31)) ^^^ (-1))) ||| (((x8 >>> ((8 : Int32) &&& 31)) &&& 3) <<< ((2 * x5) &&& 31)) else x8 &&& 3) kc ks p sz n o t kn fs a1 a2 a3 a4 a5 a6) : wL_law_216 post L xs J x2 x3 x4 x5 x6 x8 x10 x12 z0 kc ks p sz n o t kn fs a1 a2 a3 a4 a5 a6 :=
  br_c (fun e => br_c (fun e2 => by rw [if_pos e, if_pos e2] at H; exact H) (fun e2 => by rw [if_pos e, if_neg e2] at H; exact H)) (fun e => by rw [if_neg e] at H; exact H)
theorem ty_v170 (H : wL_law_216 post L xs J x2 x3 x4 x5 x6 x8 x10 z0 (ty_uG x5 x7 x8 x10) kc ks p sz n o t kn fs a1 a2 a3 a4 a5 a6) : wL_law_170 post L xs J x2 x3 x4 x5 x6 x7 x8 x10 z0 kc ks p sz n o t kn fs a1 a2 a3 a4 a5 a6 := by
  unfold ty_uG at H
  exact br_c (fun e => by rw [if_pos e] at H; exact H) (fun e => br_c (fun e2 => by rw [if_neg e, if_pos e2] at H; exact H) (fun e2 => ⟨by decide, br_c (fun e3 => br_c (fun e4 => br_c (fun e5 => by rw [if_neg e, if_neg e2, if_pos e3, if_pos e4, if_pos e5] at H; exact H) (fun e5 => by rw [if_neg e, if_neg e2, if_pos e3, if_pos e4, if_neg e5] at H; exact H)) (fun e4 => by rw [if_neg e, if_neg e2, if_pos e3, if_neg e4] at H; exact H)) (fun e3 => by rw [if_neg e, if_neg e2, if_neg e3] at H; exact H)⟩))
theorem ty_v153 (H : wL_law_170 post L xs J x2 z0 x4 x5 x6 x7 x8 x10 (ty_uF x9 x10) kc ks p sz n o t kn fs a1 a2 a3 a4 a5 a6) : wL_law_153 post L xs J x2 x4 x5 x6 x7 x8 x9 x10 z0 kc ks p sz n o t kn fs a1 a2 a3 a4 a5 a6 := by
  unfold ty_uF at H
  exact br_c (fun e => br_c (fun e2 => by rw [if_pos e, if_pos e2] at H; exact H) (fun e2 => by rw [if_pos e, if_neg e2] at H; exact H)) (fun e => by rw [if_neg e] at H; exact H)
theorem ty_v123 (H : wL_law_153 post L xs J z0 x4 x5 x6 x7 x8 x9 x10 (if x11 = 0 then if x7 < 29 then x3 else if x3 ≤ 0 then x3 else x3 - 1 else x3 + 1) kc ks p sz n o t kn fs a1 a2 a3 a4 a5 a6) : wL_law_123 post L xs J x3 x4 x5 x6 x7 x8 x9 x10 x11 z0 kc ks p sz n o t kn fs a1 a2 a3 a4 a5 a6 :=
  br_c (fun e => br_c (fun e2 => by rw [if_pos e, if_pos e2] at H; exact H) (fun e2 => br_c (fun e3 => by rw [if_pos e, if_neg e2, if_pos e3] at H; exact H) (fun e3 => by rw [if_pos e, if_neg e2, if_neg e3] at H; exact H))) (fun e => by rw [if_neg e] at H; exact H)
theorem ty_v94 (H : wL_law_123 post L xs J x3 x4 x5 x6 x7 x8 x9 x10 z0 (if z0 = 0 then x2 else (x2 &&& (((3 : Int32) <<< ((2 * x3) &&& 31)) ^^^ (-1))) ||| ((x8 &&& 3) <<< ((2 * x3) &&& 31))) kc ks p sz n o t kn fs a1 a2 a3 a4 a5 a6) : wL_law_94 post L xs J x2 x3 x4 x5 x6 x7 x8 x9 x10 z0 kc ks p sz n o t kn fs a1 a2 a3 a4 a5 a6 :=
  br_c (fun e => by rw [if_pos e] at H; exact H) (fun e => by rw [if_neg e] at H; exact H)
theorem ty_v21 (H : wL_law_94 post L xs J x2 x3 x4 x5 x6 x7 x8 x9 x10 (ty_uT x3 x7) kc ks p sz n o t kn fs a1 a2 a3 a4 a5 a6) :
    ((x7 < 22 → wL_law_93 post L xs J x2 x3 x4 x5 x6 x7 x8 x9 x10 kc ks p sz n o t kn fs a1 a2 a3 a4 a5 a6) ∧ (¬ x7 < 22 → ((29 ≤ x7 → wL_law_93 post L xs J x2 x3 x4 x5 x6 x7 x8 x9 x10 kc ks p sz n o t kn fs a1 a2 a3 a4 a5 a6) ∧ (¬ 29 ≤ x7 → ((6 ≤ x3 → wL_law_93 post L xs J x2 x3 x4 x5 x6 x7 x8 x9 x10 kc ks p sz n o t kn fs a1 a2 a3 a4 a5 a6) ∧ (¬ 6 ≤ x3 → wL_law_94 post L xs J x2 x3 x4 x5 x6 x7 x8 x9 x10 1 kc ks p sz n o t kn fs a1 a2 a3 a4 a5 a6)))))) := by
  unfold ty_uT at H
  exact br_c (fun e => by rw [if_pos e] at H; exact H) (fun e => br_c (fun e2 => by rw [if_neg e, if_pos e2] at H; exact H) (fun e2 => br_c (fun e3 => by rw [if_neg e, if_neg e2, if_pos e3] at H; exact H) (fun e3 => by rw [if_neg e, if_neg e2, if_neg e3] at H; exact H)))
theorem ty_vall (H : wL_law_311 post L xs J (ty_u2 x2 x3 x7 x8) (ty_u3 x3 x7) (ty_u4 x4 x5 x7 x8 x9 x10) (ty_u5 x5 x7 x8 x9 x10) x6 (if x10 = 1 then 1 else 0) kc ks p sz n o t kn fs a1 a2 a3 a4 a5 a6) : wL_law_94 post L xs J x2 x3 x4 x5 x6 x7 x8 x9 x10 (ty_uT x3 x7) kc ks p sz n o t kn fs a1 a2 a3 a4 a5 a6 :=
  ty_v94 (ty_v123 (ty_v153 (ty_v170 (ty_v216 (ty_v264 H)))))
end
/-- the law's loop -/
theorem ty_law {L : Nat} {xs : Nat → Int32} {kc ks q : Nat} {x2 x4 x5 : Int32} (hL : L ≤ 260) (hI : ty_I q a1 a3 a4) (hk : ¬ kn = 0 → ty_L p q fs a1 a3 a4 a6) (hQ : ty_JQ q x2 a4) (hW : ty_JW x4 x5 p a1 a3) :
    ∃ f, wL_law_21 (fun r => r = 1) L xs kc ks f x2 (nI q) x4 x5 0 p (nI q) n o t kn fs a1 a2 a3 a4 a5 a6 := by
  refine pk_loop (σ := Int32 × Int32 × Int32 × Nat × Int32 × Int32 × Int32 × Int32 × Int32 × Int32 × (Nat → Int32) × (Nat → Int32) × (Nat → Int32) × (Nat → Int32) × (Nat → Int32) × (Nat → Int32)) (fun f k s => wL_law_21 (fun r => r = 1) L xs kc ks f s.1 (nI s.2.2.2.1) s.2.1 s.2.2.1 (nI k) s.2.2.2.2.1 (nI s.2.2.2.1) s.2.2.2.2.2.1 s.2.2.2.2.2.2.1 s.2.2.2.2.2.2.2.1 s.2.2.2.2.2.2.2.2.1 s.2.2.2.2.2.2.2.2.2.1 s.2.2.2.2.2.2.2.2.2.2.1 s.2.2.2.2.2.2.2.2.2.2.2.1 s.2.2.2.2.2.2.2.2.2.2.2.2.1 s.2.2.2.2.2.2.2.2.2.2.2.2.2.1 s.2.2.2.2.2.2.2.2.2.2.2.2.2.2.1 s.2.2.2.2.2.2.2.2.2.2.2.2.2.2.2)
    (fun _ s => ty_I s.2.2.2.1 s.2.2.2.2.2.2.2.2.2.2.1 s.2.2.2.2.2.2.2.2.2.2.2.2.1 s.2.2.2.2.2.2.2.2.2.2.2.2.2.1 ∧ (¬ s.2.2.2.2.2.2.2.2.1 = 0 → ty_L s.2.2.2.2.1 s.2.2.2.1 s.2.2.2.2.2.2.2.2.2.1 s.2.2.2.2.2.2.2.2.2.2.1 s.2.2.2.2.2.2.2.2.2.2.2.2.1 s.2.2.2.2.2.2.2.2.2.2.2.2.2.1 s.2.2.2.2.2.2.2.2.2.2.2.2.2.2.2) ∧ ty_JQ s.2.2.2.1 s.1 s.2.2.2.2.2.2.2.2.2.2.2.2.2.1 ∧ ty_JW s.2.1 s.2.2.1 s.2.2.2.2.1 s.2.2.2.2.2.2.2.2.2.2.1 s.2.2.2.2.2.2.2.2.2.2.2.2.1) L 0 (x2, x4, x5, q, p, n, o, t, kn, fs, a1, a2, a3, a4, a5, a6) (by omega) ⟨hI, hk, hQ, hW⟩ ?_ ?_
  · intro f s _
    exact pk_le L L (fun _ => rfl) (fun z => absurd z (by omega))
  · intro f k s hk' hh ih
    obtain ⟨x2, x4, x5, q, p, n, o, t, kn, fs, a1, a2, a3, a4, a5, a6⟩ := s
    dsimp only at hh ih
    obtain ⟨hI, hk, hQ, hW⟩ := hh
    have ek : (nI k).toNatClampNeg = k := nI_clamp (by omega)
    obtain ⟨c, hc, ec⟩ := pk_andE (xs k) (m := 31) 5 (by decide)
    refine pk_le L k (fun z => absurd z (by omega)) (fun _ => ⟨pk_in k L hk', nm_r (e' := nI c) (by rw [ek]; exact ec) ⟨pk_in k L hk', nm_e (nm_e (ty_wcall hI hk hQ hW hc (fun q' p' n o t kn fs b1 b2 b3 b4 b5 b6 hI' hk2 e3 hQ' hW' => ?_)))⟩⟩)
    refine nm_e (ty_v21 (ty_vall ?_))
    rw [e3]
    refine ty_w311 hI' hk2 hQ' hW' (fun y => ?_) (fun n o t kn fs c4 c5 c6 hH => ?_)
    · rw [ty_and1] at y
      cases hb : ty_b p' 0
      · rw [hb] at y
        exact absurd rfl y
      · rfl
    · rw [nI_1]
      exact ih (_, _, _, q', p', n, o, t, kn, fs, b1, b2, b3, c4, c5, c6) ⟨hH.2.1, hH.2.2, fun j hj i hi => (hQ' j hj i hi).trans (congrArg (fun z => ty_b z i) (hH.1 j hj).symm), hW'⟩
end
theorem i_vc (xs : Nat → Int32) (L : Nat) (hL : L ≤ 260) : wpL_law (fun r => r = 1) L xs := by
  refine ⟨6, 100, by omega, by omega, ?_⟩
  unfold wpX_init
  dsimp only
  refine ⟨by omega, by omega, by omega, by omega, by omega, by omega, by omega, by omega, by omega, by omega, by omega, by omega, ?_⟩
  refine ty_law (q := 0) hL ⟨by omega, fun w _ => ⟨0, by omega, rfl⟩, fun j _ => ⟨0, by omega, rfl⟩, fun j _ => ⟨0, by omega, rfl⟩⟩ (fun y => absurd rfl y) (fun j hj => absurd hj (by omega)) ⟨fun _ => rfl, fun y => ?_⟩
  rw [ty_z] at y
  exact absurd y (by decide)
end
