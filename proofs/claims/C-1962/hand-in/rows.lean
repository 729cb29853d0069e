section
/-! numbers and stores: rows of kit/rows -/
theorem pk_us {f : Nat → Int32} {k : Nat} {x : Int32} : upd f k x k = x := if_pos rfl
theorem pk_un {f : Nat → Int32} {k j : Nat} {x : Int32} (h : j ≠ k) : upd f k x j = f j := if_neg h
theorem pk_sub {a b : Nat} (h : b ≤ a) : nI a - nI b = nI (a - b) := by
  obtain ⟨c, rfl⟩ : ∃ c, a = c + b := ⟨a - b, by omega⟩
  rw [← nI_add, Int32.add_sub_cancel, Nat.add_sub_cancel]
theorem pk_m1 (n : Nat) : nI (n + 1) + (-1) = nI n := by
  rw [← nI_1, Int32.add_assoc, show (1 : Int32) + (-1) = 0 from rfl, Int32.add_zero]
theorem pk_mul (a b : Nat) : nI a * nI b = nI (a * b) := (Int32.ofNat_mul a b).symm
theorem pk_div {a d : Nat} (ha : a < 2 ^ 31) (h0 : 0 < d) (hd : d < 2 ^ 31) : nI a / nI d = nI (a / d) := by
  apply Int32.toInt_inj.mp
  rw [lg_idiv_nonneg (by rw [nI_toInt ha]; omega) (by rw [nI_toInt hd]; omega), nI_toInt ha, nI_toInt hd, nI_toInt (Nat.lt_of_le_of_lt (Nat.div_le_self a d) ha)]
  first | rfl | exact (Int.natCast_ediv _ _).symm
theorem pk_rem {a d : Nat} (ha : a < 2 ^ 31) (h0 : 0 < d) (hd : d < 2 ^ 31) : nI a - nI a / nI d * nI d = nI (a % d) := by
  rw [pk_div ha h0 hd, pk_mul, pk_sub (Nat.div_mul_le_self a d)]
  exact congrArg nI (by have := Nat.div_add_mod' a d; omega)
theorem pk_ix (x : Int32) {n : Nat} (hn : n < 2 ^ 31) : x < 0 ∨ nI n ≤ x ∨ ∃ j : Nat, j < n ∧ x = nI j := by
  by_cases h : x < 0
  · exact Or.inl h
  · obtain ⟨j, hj, rfl⟩ := nI_of h
    by_cases h2 : j < n
    · exact Or.inr (Or.inr ⟨j, h2, rfl⟩)
    · exact Or.inr (Or.inl (nI_le (by omega) hj))
theorem pk_le {x y : Int32} {A B : Prop} (a b : Nat) (f : a ≤ b → A) (g : b < a → B) (hx : x = nI a := by rfl) (hy : y = nI b := by rfl) (ha : a < 2 ^ 31 := by omega) (hb : b < 2 ^ 31 := by omega) : (x ≤ y → A) ∧ (¬ x ≤ y → B) := by
  subst hx hy
  rw [nI_leI ha hb]
  exact ⟨f, fun z => g (by omega)⟩
theorem pk_lt {x y : Int32} {A B : Prop} (a b : Nat) (f : a < b → A) (g : b ≤ a → B) (hx : x = nI a := by rfl) (hy : y = nI b := by rfl) (ha : a < 2 ^ 31 := by omega) (hb : b < 2 ^ 31 := by omega) : (x < y → A) ∧ (¬ x < y → B) := by
  subst hx hy
  rw [nI_ltI ha hb]
  exact ⟨f, fun z => g (by omega)⟩
theorem pk_eq {x y : Int32} {A B : Prop} (a b : Nat) (f : a = b → A) (g : a ≠ b → B) (hx : x = nI a := by rfl) (hy : y = nI b := by rfl) (ha : a < 2 ^ 31 := by omega) (hb : b < 2 ^ 31 := by omega) : (x = y → A) ∧ (¬ x = y → B) := by
  subst hx hy
  rw [nI_eq ha hb]
  exact ⟨f, g⟩
theorem pk_in {x : Int32} (n N : Nat) (h : n < N) (hx : x = nI n := by rfl) (hN : N < 2 ^ 31 := by omega) : vp_in x N := by
  subst hx
  exact vp_in_nI h hN
theorem pk_cl {x : Int32} (n : Nat) (hx : x = nI n := by rfl) (h : n < 2 ^ 31 := by omega) : x.toNatClampNeg = n := by
  subst hx
  exact nI_clamp h
theorem pk_tn {n : Nat} (h : n < 2 ^ 32) : (nI n).toBitVec.toNat = n := Nat.mod_eq_of_lt h
theorem pk_and (x : Int32) {m : Int32} (k : Nat) (hm : m.toBitVec.toNat = 2 ^ k - 1) : x &&& m = nI (x.toBitVec.toNat % 2 ^ k) := by
  apply Int32.toBitVec_inj.mp
  apply BitVec.eq_of_toNat_eq
  rw [Int32.toBitVec_and, BitVec.toNat_and, hm, Nat.and_two_pow_sub_one_eq_mod]
  show _ = (BitVec.ofNat 32 _).toNat
  rw [BitVec.toNat_ofNat]
  exact (Nat.mod_eq_of_lt (Nat.lt_of_le_of_lt (Nat.mod_le _ _) x.toBitVec.isLt)).symm
theorem pk_andN {n : Nat} (h : n < 2 ^ 32) {m : Int32} (k : Nat) (hm : m.toBitVec.toNat = 2 ^ k - 1) : nI n &&& m = nI (n % 2 ^ k) := by
  rw [pk_and _ k hm, pk_tn h]
theorem pk_shr (a s : Int32) (k : Nat) (hs : (s.toBitVec.smod 32).toNat = k) : (a >>> s).toInt = a.toInt >>> k := by
  show (a.toBitVec.sshiftRight (s.toBitVec.smod 32).toNat).toInt = _
  rw [hs, BitVec.toInt_sshiftRight]
  rfl
theorem pk_shrN {n : Nat} (h : n < 2 ^ 31) (s : Int32) (k : Nat) (hs : (s.toBitVec.smod 32).toNat = k) : nI n >>> s = nI (n / 2 ^ k) := by
  apply Int32.toInt_inj.mp
  have h2 : n / 2 ^ k ≤ n := Nat.div_le_self _ _
  rw [pk_shr _ _ k hs, nI_toInt h, nI_toInt (by omega), Int.shiftRight_eq_div_pow]
  rfl
theorem sb_cl0 : (0 : Int32).toNatClampNeg = 0 := by decide
theorem nb_add {a b : Nat} {x y : Int32} (hx : x = nI a) (hy : y = nI b) : x + y = nI (a + b) := by
  subst hx hy
  exact nI_add a b
theorem nb_m1 : (-1 : Int32) < 0 := by decide
theorem nb_vb0 : vp_nar .boolean 0 = 0 := by decide
theorem nb_vb1 : vp_nar .boolean 1 = 1 := by decide
/-- an int is not positive, or a natural number from 1 on -/
theorem nb_pos (x : Int32) : x ≤ 0 ∨ ∃ m : Nat, 1 ≤ m ∧ m < 2 ^ 31 ∧ x = nI m := by
  by_cases h : x < 0
  · exact Or.inl (Int32.le_of_lt h)
  · obtain ⟨j, hj, rfl⟩ := nI_of h
    by_cases h0 : j = 0
    · subst h0
      exact Or.inl (by decide)
    · exact Or.inr ⟨j, by omega, hj, rfl⟩
theorem nb_le0 {x : Int32} {m : Nat} (h : x ≤ 0) (h1 : 1 ≤ m) (h2 : m < 2 ^ 31) : x ≠ nI m := by
  intro e
  rw [e] at h
  exact nI_nle (by omega) h2 h
theorem nb_neg {x : Int32} {m : Nat} (h : x < 0) (h2 : m < 2 ^ 31) : x ≠ nI m := by
  intro e
  rw [e] at h
  exact nI_pos h2 h
theorem nb_m1le {m : Nat} (h2 : m < 2 ^ 31) : ¬ nI m ≤ -1 := by
  intro h
  rw [Int32.le_iff_toInt_le, nI_toInt h2, show (-1 : Int32).toInt = -1 from by decide] at h
  omega
theorem nb_le_m1 {m : Nat} (h2 : m < 2 ^ 31) : (-1 : Int32) ≤ nI m := by
  rw [Int32.le_iff_toInt_le, nI_toInt h2, show (-1 : Int32).toInt = -1 from by decide]
  omega
theorem nb_ne_m1 {m : Nat} (h2 : m < 2 ^ 31) : nI m ≠ -1 := fun e => nb_m1le h2 (e ▸ Int32.le_refl _)
theorem nb_ne_m4 {m : Nat} (h2 : m < 2 ^ 31) : nI m ≠ -4 := by
  intro e
  have h := congrArg Int32.toInt e
  rw [nI_toInt h2, show (-4 : Int32).toInt = -4 from by decide] at h
  omega
theorem nb_inj {a b : Nat} (h : nI a = nI b) (ha : a < 2 ^ 31) (hb : b < 2 ^ 31) : a = b := (nI_eq ha hb).mp h
theorem nb_p8 : ∀ j : Nat, 8 ^ j = 2 ^ (3 * j) := fun j => by rw [show 8 = 2 ^ 3 from rfl, ← Nat.pow_mul]
end
section
/-! codes: a list of levels as a number to the base 8, digits 1 .. 7 -/
def cd_nl (m : Nat) : Nat := if m = 0 then 0 else if m < 8 then 1 else if m < 64 then 2 else if m < 512 then 3 else if m < 4096 then 4 else 5
def cd_dg (n m i : Nat) : Nat := m / 8 ^ (n - 1 - i) % 8
def cd_mt : Nat → Nat → Nat → Prop
  | 0, _, _ => True
  | d + 1, p, q => cd_mt d (p / 8) (q / 8) ∧ (p % 8 = 6 ∨ p % 8 = q % 8)
def cd_ok (m : Nat) : Prop := 1 ≤ m ∧ m < 4096 ∧ ∀ i, i < cd_nl m → 1 ≤ cd_dg (cd_nl m) m i
def cd_top (m : Nat) : Prop := cd_ok m ∧ ∀ i, i < cd_nl m → cd_dg (cd_nl m) m i ≤ 5
def cd_fil (m : Nat) : Prop := cd_ok m ∧ ∀ i, i + 1 < cd_nl m → cd_dg (cd_nl m) m i ≠ 7
def cd_fx (f : Nat) : Nat := if f % 8 = 7 then cd_nl f - 1 else cd_nl f
def cd_fit (f t : Nat) : Prop := (f % 8 = 7 → cd_fx f ≤ cd_nl t) ∧ (f % 8 ≠ 7 → cd_nl t = cd_fx f) ∧ ∀ i, i < cd_fx f → (cd_dg (cd_nl f) f i = 6 ∨ cd_dg (cd_nl f) f i = cd_dg (cd_nl t) t i)

theorem cd_nl0 : cd_nl 0 = 0 := rfl
theorem cd_nl_div {m : Nat} (h : 1 ≤ m) (h4 : m < 4096) : cd_nl (m / 8) + 1 = cd_nl m := by
  unfold cd_nl
  repeat' split
  all_goals omega
theorem cd_nl_ext {q b : Nat} (hq : q < 512) (hb : b < 7) : cd_nl (q * 8 + b + 1) = cd_nl q + 1 := by
  unfold cd_nl
  repeat' split
  all_goals omega
theorem cd_nl_le {m : Nat} (h : m < 4096) : cd_nl m ≤ 4 := by
  unfold cd_nl
  repeat' split
  all_goals omega
theorem cd_nl_le5 (m : Nat) : cd_nl m ≤ 5 := by
  unfold cd_nl
  repeat' split
  all_goals omega
theorem cd_nl_pos {m : Nat} (h : 1 ≤ m) : 1 ≤ cd_nl m := by
  unfold cd_nl
  repeat' split
  all_goals omega
theorem cd_nl_z {m : Nat} (h : cd_nl m = 0) : m = 0 := by
  by_cases h0 : m = 0
  · exact h0
  · have := cd_nl_pos (m := m) (by omega)
    omega
theorem cd_nl_5 {m : Nat} (h : 4096 ≤ m) : cd_nl m = 5 := by
  unfold cd_nl
  repeat' split
  all_goals omega
theorem cd_c5 {n : Nat} (h : n ≤ 4) : n = 0 ∨ n = 1 ∨ n = 2 ∨ n = 3 ∨ n = 4 := by omega
theorem cd_nl_hi {m : Nat} (h : m < 4096) : m < 8 ^ cd_nl m := by
  unfold cd_nl
  repeat' split
  all_goals (simp only [Nat.reducePow]; omega)
theorem cd_nl_lo {m : Nat} (h1 : 1 ≤ m) (h : m < 4096) : 8 ^ (cd_nl m - 1) ≤ m := by
  unfold cd_nl
  repeat' split
  all_goals (first | omega | (simp only [Nat.reduceSub, Nat.reducePow]; omega))
theorem cd_nl_eq {m n : Nat} (hn1 : 1 ≤ n) (hn : n ≤ 4) (h1 : 8 ^ (n - 1) ≤ m) (h2 : m < 8 ^ n) : cd_nl m = n := by
  rcases cd_c5 hn with rfl | rfl | rfl | rfl | rfl
  all_goals (simp only [Nat.reduceSub, Nat.reducePow] at h1 h2; unfold cd_nl; repeat' split)
  all_goals omega
theorem cd_dg_lt (n m i : Nat) : cd_dg n m i < 8 := Nat.mod_lt _ (by decide)
theorem cd_dg_ext {n m i : Nat} (h : i < n) : cd_dg (n + 1) m i = cd_dg n (m / 8) i := by
  unfold cd_dg
  rw [show n + 1 - 1 - i = (n - 1 - i) + 1 by omega, Nat.pow_succ, Nat.mul_comm, Nat.div_div_eq_div_mul]
theorem cd_dg_last {n m : Nat} : cd_dg (n + 1) m n = m % 8 := by
  unfold cd_dg
  rw [show n + 1 - 1 - n = 0 by omega, Nat.pow_zero, Nat.div_one]
theorem cd_dg_pre {n d m i : Nat} (hi : i < d) (hd : d ≤ n) : cd_dg d (m / 8 ^ (n - d)) i = cd_dg n m i := by
  unfold cd_dg
  rw [Nat.div_div_eq_div_mul, ← Nat.pow_add, show n - d + (d - 1 - i) = n - 1 - i by omega]
/-- the beginnings: one level more -/
theorem cd_pre_s {n i m : Nat} (hi : i < n) : m / 8 ^ (n - (i + 1)) = m / 8 ^ (n - i) * 8 + cd_dg n m i := by
  unfold cd_dg
  have e : m / 8 ^ (n - i) = m / 8 ^ (n - 1 - i) / 8 := by
    rw [Nat.div_div_eq_div_mul, ← Nat.pow_succ, show (n - 1 - i).succ = n - i by omega]
  rw [e, show n - (i + 1) = n - 1 - i by omega]
  omega
theorem cd_pre_div {n i m : Nat} (hi : i < n) : m / 8 ^ (n - (i + 1)) / 8 = m / 8 ^ (n - i) := by
  rw [Nat.div_div_eq_div_mul, ← Nat.pow_succ, show (n - (i + 1)).succ = n - i by omega]
theorem cd_pre_mod {n i m : Nat} (hi : i < n) : m / 8 ^ (n - (i + 1)) % 8 = cd_dg n m i := by
  unfold cd_dg
  rw [show n - (i + 1) = n - 1 - i by omega]
theorem cd_pre_0 {m : Nat} (h : m < 4096) : m / 8 ^ (cd_nl m) = 0 := Nat.div_eq_of_lt (cd_nl_hi h)
theorem cd_pre_nl : ∀ (k m : Nat), m < 4096 → k ≤ cd_nl m → cd_nl (m / 8 ^ k) = cd_nl m - k := by
  intro k
  induction k with
  | zero => intro m _ _; rw [Nat.pow_zero, Nat.div_one]; rfl
  | succ k ih =>
    intro m hm hk
    have h1 : 1 ≤ m := by
      by_cases h0 : m = 0
      · rw [h0, cd_nl0] at hk; omega
      · omega
    have e := cd_nl_div h1 hm
    rw [Nat.pow_succ, Nat.mul_comm, ← Nat.div_div_eq_div_mul, ih (m / 8) (by omega) (by omega)]
    omega
theorem cd_pre_pos {m k : Nat} (h1 : 1 ≤ m) (h : m < 4096) (hk : k < cd_nl m) : 1 ≤ m / 8 ^ k := by
  have e := cd_pre_nl k m h (by omega)
  by_cases h0 : m / 8 ^ k = 0
  · rw [h0, cd_nl0] at e; omega
  · exact Nat.pos_of_ne_zero h0
theorem cd_pre_lt {m k : Nat} (h : m < 4096) : m / 8 ^ k < 4096 := Nat.lt_of_le_of_lt (Nat.div_le_self _ _) h
theorem cd_mt_iff : ∀ (d p q : Nat), cd_mt d p q ↔ ∀ i, i < d → (cd_dg d p i = 6 ∨ cd_dg d p i = cd_dg d q i) := by
  intro d
  induction d with
  | zero => intro p q; exact ⟨fun _ i hi => absurd hi (by omega), fun _ => trivial⟩
  | succ d ih =>
    intro p q
    constructor
    · intro h i hi
      by_cases e : i = d
      · subst e
        rw [cd_dg_last, cd_dg_last]
        exact h.2
      · have h2 := (ih _ _).mp h.1 i (by omega)
        rw [cd_dg_ext (by omega), cd_dg_ext (by omega)]
        exact h2
    · intro h
      refine And.intro ((ih _ _).mpr fun i hi => ?_) ?_
      · have h2 := h i (by omega)
        rw [cd_dg_ext hi, cd_dg_ext hi] at h2
        exact h2
      · have h2 := h d (by omega)
        rw [cd_dg_last, cd_dg_last] at h2
        exact h2
theorem cd_dg_z {n m : Nat} (h : 1 ≤ n) : cd_dg n m (n - 1) = m % 8 := by
  obtain ⟨k, rfl⟩ : ∃ k, n = k + 1 := ⟨n - 1, by omega⟩
  exact cd_dg_last
/-- what a filter with the rest sign asks -/
theorem cd_fit_r {f t : Nat} (h1 : 1 ≤ f) (h : f < 4096) (h7 : f % 8 = 7) : cd_fit f t ↔ cd_nl (f / 8) ≤ cd_nl t ∧ cd_mt (cd_nl (f / 8)) (f / 8) (t / 8 ^ (cd_nl t - cd_nl (f / 8))) := by
  have e := cd_nl_div h1 h
  have ex : cd_fx f = cd_nl (f / 8) := by
    unfold cd_fx
    rw [if_pos h7]
    omega
  unfold cd_fit
  rw [ex, cd_mt_iff]
  constructor
  · intro hh
    refine ⟨hh.1 h7, fun i hi => ?_⟩
    have h2 := hh.2.2 i hi
    rw [← e, cd_dg_ext hi] at h2
    rw [cd_dg_pre hi (hh.1 h7)]
    exact h2
  · intro hh
    refine ⟨fun _ => hh.1, fun hn => absurd h7 hn, fun i hi => ?_⟩
    have h2 := hh.2 i hi
    rw [cd_dg_pre hi hh.1] at h2
    rw [← e, cd_dg_ext hi]
    exact h2
theorem cd_fit_p {f t : Nat} (h7 : f % 8 ≠ 7) : cd_fit f t ↔ cd_nl t = cd_nl f ∧ cd_mt (cd_nl f) f t := by
  have ex : cd_fx f = cd_nl f := by
    unfold cd_fx
    rw [if_neg h7]
  unfold cd_fit
  rw [ex, cd_mt_iff]
  constructor
  · intro hh
    refine ⟨hh.2.1 h7, fun i hi => ?_⟩
    have h2 := hh.2.2 i hi
    rw [hh.2.1 h7] at h2
    exact h2
  · intro hh
    refine ⟨fun hn => absurd hn h7, fun _ => hh.1, fun i hi => ?_⟩
    rw [hh.1]
    exact hh.2 i hi
theorem cd_mt_pre : ∀ (k d p q : Nat), cd_mt (d + k) p q → cd_mt d (p / 8 ^ k) (q / 8 ^ k) := by
  intro k
  induction k with
  | zero =>
    intro d p q h
    rw [Nat.pow_zero, Nat.div_one, Nat.div_one]
    exact h
  | succ k ih =>
    intro d p q h
    have h2 := ih d (p / 8) (q / 8) (And.left h)
    rw [Nat.div_div_eq_div_mul, Nat.div_div_eq_div_mul, Nat.mul_comm, ← Nat.pow_succ] at h2
    exact h2
end
section
/-! subscriptions: for each client a list of (filter, grade); what is counted over them -/
def tr_wt (f : Nat) : Nat → Nat → Nat
  | 0, _ => 0
  | m + 1, r => tr_wt f m r + (if r = f / 8 ^ m then 1 else 0)
def tr_ls (h : Nat → Nat) : List (Nat × Nat) → Nat
  | [] => 0
  | e :: l => h e.1 + tr_ls h l
def tr_ss (L : Nat → List (Nat × Nat)) (h : Nat → Nat) : Nat := tr_ls h (L 0) + tr_ls h (L 1) + tr_ls h (L 2) + tr_ls h (L 3)
def tr_set (L : Nat → List (Nat × Nat)) (c : Nat) (l : List (Nat × Nat)) : Nat → List (Nat × Nat) := fun j => if j = c then l else L j
def tr_w (L : Nat → List (Nat × Nat)) (r : Nat) : Nat := tr_ss L (fun f => tr_wt f (cd_nl f) r)
def tr_g (p : Nat) : List (Nat × Nat) → Int32
  | [] => -1
  | e :: l => if e.1 = p then nI e.2 else tr_g p l
def tr_L (L : Nat → List (Nat × Nat)) : Prop := ∀ c, c < 4 → ((L c).length ≤ 5 ∧ ((L c).map Prod.fst).Nodup ∧ ∀ e, e ∈ L c → (cd_fil e.1 ∧ e.2 ≤ 2))

theorem tr_wt_s {f m r : Nat} : tr_wt f (m + 1) r = tr_wt f m r + (if r = f / 8 ^ m then 1 else 0) := rfl
theorem tr_wt_le : ∀ (f m r : Nat), tr_wt f m r ≤ m := by
  intro f m r
  induction m with
  | zero => exact Nat.le_refl 0
  | succ m ih =>
    rw [tr_wt_s]
    split
    · omega
    · omega
theorem tr_wt_pos {f k r : Nat} : ∀ m, k < m → r = f / 8 ^ k → 1 ≤ tr_wt f m r := by
  intro m
  induction m with
  | zero => intro h; omega
  | succ m ih =>
    intro h e
    rw [tr_wt_s]
    by_cases z : k = m
    · subst z
      rw [if_pos e]
      omega
    · have := ih (by omega) e
      omega
theorem tr_wt_ex {f r : Nat} : ∀ m, 0 < tr_wt f m r → ∃ k, k < m ∧ r = f / 8 ^ k := by
  intro m
  induction m with
  | zero => intro h; exact absurd h (Nat.lt_irrefl 0)
  | succ m ih =>
    intro h
    rw [tr_wt_s] at h
    by_cases z : r = f / 8 ^ m
    · exact ⟨m, by omega, z⟩
    · rw [if_neg z] at h
      obtain ⟨k, hk, e⟩ := ih h
      exact ⟨k, by omega, e⟩
theorem tr_wt_eq {f r m : Nat} : ∀ m', m ≤ m' → (∀ k, m ≤ k → k < m' → r ≠ f / 8 ^ k) → tr_wt f m' r = tr_wt f m r := by
  intro m'
  induction m' with
  | zero => intro h _; rw [show m = 0 by omega]
  | succ m' ih =>
    intro h H
    by_cases z : m = m' + 1
    · rw [z]
    · rw [tr_wt_s, if_neg (H m' (by omega) (by omega)), Nat.add_zero]
      exact ih (by omega) fun k h1 h2 => H k h1 (by omega)
theorem tr_wt_mono {f r m : Nat} : ∀ m', m ≤ m' → tr_wt f m r ≤ tr_wt f m' r := by
  intro m'
  induction m' with
  | zero => intro h; rw [show m = 0 by omega]; exact Nat.le_refl _
  | succ m' ih =>
    intro h
    by_cases z : m = m' + 1
    · rw [z]; exact Nat.le_refl _
    · have := ih (by omega)
      rw [tr_wt_s]
      omega
theorem tr_ls_c {h : Nat → Nat} {e : Nat × Nat} {l : List (Nat × Nat)} : tr_ls h (e :: l) = h e.1 + tr_ls h l := rfl
theorem tr_ls_app {h : Nat → Nat} {l2 : List (Nat × Nat)} : ∀ l1 : List (Nat × Nat), tr_ls h (l1 ++ l2) = tr_ls h l1 + tr_ls h l2 := by
  intro l1
  induction l1 with
  | nil => show tr_ls h l2 = 0 + tr_ls h l2; omega
  | cons e l ih => rw [List.cons_append, tr_ls_c, tr_ls_c, ih]; omega
theorem tr_ls_mem {h : Nat → Nat} {e : Nat × Nat} : ∀ l : List (Nat × Nat), e ∈ l → h e.1 ≤ tr_ls h l := by
  intro l
  induction l with
  | nil => intro he; cases he
  | cons e' l ih =>
    intro he
    rw [tr_ls_c]
    rcases List.mem_cons.mp he with z | z
    · subst z; omega
    · have := ih z; omega
theorem tr_ls_ex {h : Nat → Nat} : ∀ l : List (Nat × Nat), 0 < tr_ls h l → ∃ e, e ∈ l ∧ 0 < h e.1 := by
  intro l
  induction l with
  | nil => intro he; exact absurd he (Nat.lt_irrefl 0)
  | cons e' l ih =>
    intro he
    rw [tr_ls_c] at he
    by_cases z : 0 < h e'.1
    · exact ⟨e', List.mem_cons_self, z⟩
    · obtain ⟨e, h1, h2⟩ := ih (by omega)
      exact ⟨e, List.mem_cons_of_mem _ h1, h2⟩
theorem tr_ls_bd {h : Nat → Nat} {B : Nat} : ∀ l : List (Nat × Nat), (∀ e, e ∈ l → h e.1 ≤ B) → tr_ls h l ≤ B * l.length := by
  intro l
  induction l with
  | nil => intro _; exact Nat.zero_le _
  | cons e' l ih =>
    intro H
    have h1 := H e' List.mem_cons_self
    have h2 := ih fun e he => H e (List.mem_cons_of_mem _ he)
    rw [tr_ls_c, List.length_cons, Nat.mul_add, Nat.mul_one]
    omega
theorem tr_c4 {c : Nat} (h : c < 4) : c = 0 ∨ c = 1 ∨ c = 2 ∨ c = 3 := by omega
theorem tr_set_s {L : Nat → List (Nat × Nat)} {c : Nat} {l : List (Nat × Nat)} : tr_set L c l c = l := if_pos rfl
theorem tr_set_n {L : Nat → List (Nat × Nat)} {c j : Nat} {l : List (Nat × Nat)} (h : j ≠ c) : tr_set L c l j = L j := if_neg h
theorem tr_ss_set {L : Nat → List (Nat × Nat)} {c : Nat} {l : List (Nat × Nat)} {h : Nat → Nat} (hc : c < 4) : tr_ss (tr_set L c l) h + tr_ls h (L c) = tr_ss L h + tr_ls h l := by
  unfold tr_ss
  rcases tr_c4 hc with rfl | rfl | rfl | rfl
  · rw [tr_set_s, tr_set_n (by decide), tr_set_n (by decide), tr_set_n (by decide)]; omega
  · rw [tr_set_s, tr_set_n (by decide), tr_set_n (by decide), tr_set_n (by decide)]; omega
  · rw [tr_set_s, tr_set_n (by decide), tr_set_n (by decide), tr_set_n (by decide)]; omega
  · rw [tr_set_s, tr_set_n (by decide), tr_set_n (by decide), tr_set_n (by decide)]; omega
theorem tr_ss_ge {L : Nat → List (Nat × Nat)} {c : Nat} {h : Nat → Nat} (hc : c < 4) : tr_ls h (L c) ≤ tr_ss L h := by
  unfold tr_ss
  rcases tr_c4 hc with rfl | rfl | rfl | rfl
  all_goals omega
theorem tr_ss_mem {L : Nat → List (Nat × Nat)} {c : Nat} {h : Nat → Nat} {e : Nat × Nat} (hc : c < 4) (he : e ∈ L c) : h e.1 ≤ tr_ss L h :=
  Nat.le_trans (tr_ls_mem _ he) (tr_ss_ge hc)
theorem tr_ss_ex {L : Nat → List (Nat × Nat)} {h : Nat → Nat} (H : 0 < tr_ss L h) : ∃ c e, c < 4 ∧ e ∈ L c ∧ 0 < h e.1 := by
  unfold tr_ss at H
  by_cases h0 : 0 < tr_ls h (L 0)
  · obtain ⟨e, h1, h2⟩ := tr_ls_ex _ h0; exact ⟨0, e, by decide, h1, h2⟩
  · by_cases h0' : 0 < tr_ls h (L 1)
    · obtain ⟨e, h1, h2⟩ := tr_ls_ex _ h0'; exact ⟨1, e, by decide, h1, h2⟩
    · by_cases h0'' : 0 < tr_ls h (L 2)
      · obtain ⟨e, h1, h2⟩ := tr_ls_ex _ h0''; exact ⟨2, e, by decide, h1, h2⟩
      · obtain ⟨e, h1, h2⟩ := tr_ls_ex (h := h) (L 3) (by omega); exact ⟨3, e, by decide, h1, h2⟩
theorem tr_w_bd {L : Nat → List (Nat × Nat)} (hL : tr_L L) (r : Nat) : tr_w L r ≤ 80 := by
  have H : ∀ c, c < 4 → tr_ls (fun f => tr_wt f (cd_nl f) r) (L c) ≤ 20 := by
    intro c hc
    obtain ⟨h1, _, h3⟩ := hL c hc
    have h4 := tr_ls_bd (h := fun f => tr_wt f (cd_nl f) r) (B := 4) (L c) fun e he => Nat.le_trans (tr_wt_le _ _ _) (cd_nl_le (h3 e he).1.1.2.1)
    omega
  have a0 := H 0 (by decide)
  have a1 := H 1 (by decide)
  have a2 := H 2 (by decide)
  have a3 := H 3 (by decide)
  unfold tr_w tr_ss
  omega
/-- room for one more -/
theorem tr_room {L : Nat → List (Nat × Nat)} (hL : tr_L L) {c : Nat} (hc : c < 4) (h5 : (L c).length < 5) : tr_ss L cd_nl ≤ 76 := by
  have H : ∀ c, c < 4 → tr_ls cd_nl (L c) ≤ 4 * (L c).length ∧ (L c).length ≤ 5 := by
    intro c hc
    obtain ⟨h1, _, h3⟩ := hL c hc
    exact ⟨tr_ls_bd (L c) fun e he => cd_nl_le (h3 e he).1.1.2.1, h1⟩
  have a0 := H 0 (by decide)
  have a1 := H 1 (by decide)
  have a2 := H 2 (by decide)
  have a3 := H 3 (by decide)
  unfold tr_ss
  rcases tr_c4 hc with rfl | rfl | rfl | rfl
  all_goals omega
/-- a beginning of a filter that stands is counted -/
theorem tr_w_pos {L : Nat → List (Nat × Nat)} {c k : Nat} {e : Nat × Nat} (hc : c < 4) (he : e ∈ L c) (hk : k < cd_nl e.1) : 1 ≤ tr_w L (e.1 / 8 ^ k) :=
  Nat.le_trans (tr_wt_pos (cd_nl e.1) hk rfl) (tr_ss_mem (h := fun f => tr_wt f (cd_nl f) (e.1 / 8 ^ k)) hc he)
theorem tr_w_ex {L : Nat → List (Nat × Nat)} {r : Nat} (h : 0 < tr_w L r) : ∃ c e k, c < 4 ∧ e ∈ L c ∧ k < cd_nl e.1 ∧ r = e.1 / 8 ^ k := by
  obtain ⟨c, e, h1, h2, h3⟩ := tr_ss_ex h
  obtain ⟨k, h4, h5⟩ := tr_wt_ex _ h3
  exact ⟨c, e, k, h1, h2, h4, h5⟩
theorem tr_w_0 {L : Nat → List (Nat × Nat)} (hL : tr_L L) : tr_w L 0 = 0 := by
  by_cases h : 0 < tr_w L 0
  · obtain ⟨c, e, k, h1, h2, h3, h4⟩ := tr_w_ex h
    have h5 := ((hL c h1).2.2 e h2).1.1
    have := cd_pre_pos h5.1 h5.2.1 h3
    omega
  · omega
theorem tr_w_self {L : Nat → List (Nat × Nat)} (hL : tr_L L) {c : Nat} {e : Nat × Nat} (hc : c < 4) (he : e ∈ L c) : 1 ≤ tr_w L e.1 := by
  have h5 := ((hL c hc).2.2 e he).1.1
  have h := tr_w_pos (k := 0) hc he (cd_nl_pos h5.1)
  rw [Nat.pow_zero, Nat.div_one] at h
  exact h
theorem tr_closed {L : Nat → List (Nat × Nat)} (hL : tr_L L) {q b : Nat} (hq : 1 ≤ q) (hb : b < 7) (h : tr_w L q = 0) : tr_w L (q * 8 + b + 1) = 0 := by
  by_cases hh : 0 < tr_w L (q * 8 + b + 1)
  · obtain ⟨c, e, k, h1, h2, h3, h4⟩ := tr_w_ex hh
    have h5 := ((hL c h1).2.2 e h2).1.1
    have e1 : e.1 / 8 ^ (k + 1) = q := by
      rw [Nat.pow_succ, ← Nat.div_div_eq_div_mul, ← h4]
      omega
    have h6 : k + 1 < cd_nl e.1 := by
      by_cases z : k + 1 = cd_nl e.1
      · have := cd_pre_0 h5.2.1
        rw [← z, e1] at this
        omega
      · omega
    have := tr_w_pos h1 h2 h6
    rw [e1] at this
    omega
  · omega
theorem tr_g_no {p : Nat} : ∀ l : List (Nat × Nat), (∀ e, e ∈ l → e.1 ≠ p) → tr_g p l = -1 := by
  intro l
  induction l with
  | nil => intro _; rfl
  | cons e l ih =>
    intro H
    show (if e.1 = p then _ else _) = _
    rw [if_neg (H e List.mem_cons_self)]
    exact ih fun e' he => H e' (List.mem_cons_of_mem _ he)
theorem tr_g_yes {p : Nat} : ∀ l : List (Nat × Nat), (∀ e, e ∈ l → e.1 ≠ p) ∨ ∃ g, (p, g) ∈ l ∧ tr_g p l = nI g := by
  intro l
  induction l with
  | nil => exact Or.inl fun e he => by cases he
  | cons e l ih =>
    by_cases z : e.1 = p
    · refine Or.inr ⟨e.2, ?_, ?_⟩
      · rw [← z]
        exact List.mem_cons_self
      · show (if e.1 = p then _ else _) = _
        rw [if_pos z]
    · rcases ih with h | ⟨g, h1, h2⟩
      · refine Or.inl fun e' he => ?_
        rcases List.mem_cons.mp he with y | y
        · rw [y]; exact z
        · exact h e' y
      · refine Or.inr ⟨g, List.mem_cons_of_mem _ h1, ?_⟩
        show (if e.1 = p then _ else _) = _
        rw [if_neg z]
        exact h2
theorem tr_g_mem {p g : Nat} : ∀ l : List (Nat × Nat), (l.map Prod.fst).Nodup → (p, g) ∈ l → tr_g p l = nI g := by
  intro l
  induction l with
  | nil => intro _ he; cases he
  | cons e l ih =>
    intro hd he
    rw [List.map_cons, List.nodup_cons] at hd
    show (if e.1 = p then _ else _) = _
    rcases List.mem_cons.mp he with y | y
    · rw [← y, if_pos rfl]
    · rw [if_neg]
      · exact ih hd.2 y
      · intro z
        exact hd.1 (z ▸ List.mem_map.mpr ⟨(p, g), y, rfl⟩)
theorem tr_g_mid {p f g : Nat} {l2 : List (Nat × Nat)} : ∀ l1 : List (Nat × Nat), (∀ e, e ∈ l1 → e.1 ≠ f) → tr_g p (l1 ++ (f, g) :: l2) = if p = f then nI g else tr_g p (l1 ++ l2) := by
  intro l1
  induction l1 with
  | nil =>
    intro _
    show (if f = p then nI g else tr_g p l2) = if p = f then nI g else tr_g p l2
    by_cases z : p = f
    · rw [if_pos z, if_pos z.symm]
    · rw [if_neg z, if_neg (fun y => z y.symm)]
  | cons e l ih =>
    intro H
    have h0 := H e List.mem_cons_self
    rw [List.cons_append, List.cons_append]
    show (if e.1 = p then nI e.2 else tr_g p (l ++ (f, g) :: l2)) = if p = f then nI g else (if e.1 = p then nI e.2 else tr_g p (l ++ l2))
    rw [ih fun e' he => H e' (List.mem_cons_of_mem _ he)]
    by_cases z : e.1 = p
    · rw [if_pos z, if_pos z, if_neg (fun y => h0 (z.trans y))]
    · rw [if_neg z, if_neg z]
theorem tr_w0_g {L : Nat → List (Nat × Nat)} (hL : tr_L L) {c q : Nat} (hc : c < 4) (h : tr_w L q = 0) : tr_g q (L c) = -1 := by
  refine tr_g_no _ fun e he z => ?_
  have := tr_w_self hL hc he
  rw [z] at this
  omega
end
section
/-! the tree of filters: pa k is the code of node k (0: free; the root is node 0), W r the number of subscriptions at or below code r -/
def tr_ok (ch be : Nat → Int32) (pa W : Nat → Nat) : Prop :=
  pa 0 = 0 ∧ W 0 = 0 ∧
  (∀ k k', 1 ≤ k → k ≤ 80 → 1 ≤ k' → k' ≤ 80 → pa k = pa k' → pa k ≠ 0 → k = k') ∧
  (∀ k b, k ≤ 80 → (k = 0 ∨ pa k ≠ 0) → b < 7 → ((ch (k * 7 + b) = 0 ∧ W (pa k * 8 + b + 1) = 0) ∨ ∃ y, 1 ≤ y ∧ y ≤ 80 ∧ ch (k * 7 + b) = nI y ∧ pa y = pa k * 8 + b + 1)) ∧
  (∀ k, 1 ≤ k → k ≤ 80 → be k = nI (W (pa k))) ∧
  (∀ k, 1 ≤ k → k ≤ 80 → pa k ≠ 0 → 0 < W (pa k))
def tr_sm (h : Nat → Nat) : Nat → Nat
  | 0 => 0
  | n + 1 => tr_sm h n + h (n + 1)
def tr_P (ch gr be : Nat → Int32) (L : Nat → List (Nat × Nat)) (pa : Nat → Nat) : Prop :=
  tr_ok ch be pa (tr_w L) ∧ tr_sm (fun k => tr_w L (pa k)) 80 = tr_ss L cd_nl ∧ ∀ k c, 1 ≤ k → k ≤ 80 → c < 4 → gr (k * 4 + c) = tr_g (pa k) (L c)

theorem tr_sm_s {h : Nat → Nat} {n : Nat} : tr_sm h (n + 1) = tr_sm h n + h (n + 1) := rfl
theorem tr_sm_up {h h' : Nat → Nat} {y : Nat} (hy : 1 ≤ y) : ∀ n, (∀ k, 1 ≤ k → k ≤ n → h' k = h k + (if k = y then 1 else 0)) → tr_sm h' n = tr_sm h n + (if y ≤ n then 1 else 0) := by
  intro n
  induction n with
  | zero =>
    intro _
    show 0 = 0 + _
    rw [if_neg (by omega)]
  | succ n ih =>
    intro H
    have e := ih fun k a b => H k a (by omega)
    have e2 := H (n + 1) (by omega) (by omega)
    rw [tr_sm_s, tr_sm_s, e, e2]
    by_cases z : n + 1 = y
    · rw [if_pos z, if_neg (show ¬ y ≤ n by omega), if_pos (show y ≤ n + 1 by omega)]
      omega
    · rw [if_neg z]
      by_cases z2 : y ≤ n
      · rw [if_pos z2, if_pos (show y ≤ n + 1 by omega)]
        omega
      · rw [if_neg z2, if_neg (show ¬ y ≤ n + 1 by omega)]
        omega
theorem tr_sm_ge {h : Nat → Nat} : ∀ n, (∀ k, 1 ≤ k → k ≤ n → 1 ≤ h k) → n ≤ tr_sm h n := by
  intro n
  induction n with
  | zero => intro _; exact Nat.zero_le _
  | succ n ih =>
    intro H
    have e := ih fun k a b => H k a (by omega)
    have e2 := H (n + 1) (by omega) (by omega)
    rw [tr_sm_s]
    omega
theorem tr_free {ch be : Nat → Int32} {pa W : Nat → Nat} (T : tr_ok ch be pa W) (hs : tr_sm (fun k => W (pa k)) 80 < 80) : ∃ k, 1 ≤ k ∧ k ≤ 80 ∧ pa k = 0 := by
  obtain ⟨t0, w0, inj, chd, blw, liv⟩ := T
  refine Classical.byContradiction fun H => ?_
  have h2 := tr_sm_ge (h := fun k => W (pa k)) 80 fun k h1 h2 => by
    show 1 ≤ W (pa k)
    have h3 := liv k h1 h2 fun z => H ⟨k, h1, h2, z⟩
    omega
  omega
theorem tr_be0 {ch be : Nat → Int32} {pa W : Nat → Nat} (T : tr_ok ch be pa W) (hb : ∀ r, W r ≤ 1000) {k : Nat} (h1 : 1 ≤ k) (h2 : k ≤ 80) : be k = 0 ↔ pa k = 0 := by
  obtain ⟨t0, w0, inj, chd, blw, liv⟩ := T
  have e := blw k h1 h2
  have h3 := hb (pa k)
  constructor
  · intro z
    refine Classical.byContradiction fun H => ?_
    have h4 := liv k h1 h2 H
    rw [e] at z
    exact nI_ne0 h4 (by omega) z
  · intro z
    rw [e, z, w0]
    exact nI_0
theorem tr_same {ch be : Nat → Int32} {pa W : Nat → Nat} (T : tr_ok ch be pa W) {k x : Nat} (hk : k ≤ 80) (ak : k = 0 ∨ pa k ≠ 0) (hx : x ≤ 80) (ax : x = 0 ∨ pa x ≠ 0) (e : pa k = pa x) : k = x := by
  obtain ⟨t0, w0, inj, chd, blw, liv⟩ := T
  by_cases h0 : pa k = 0
  · have hk0 : k = 0 := by
      rcases ak with h | h
      · exact h
      · exact absurd h0 h
    have hx0 : x = 0 := by
      rcases ax with h | h
      · exact h
      · exact absurd (e.symm.trans h0) h
    omega
  · have hk0 : k ≠ 0 := by
      intro z
      rw [z] at h0
      exact h0 t0
    have hx0 : x ≠ 0 := by
      intro z
      rw [z] at e
      exact h0 (e.trans t0)
    exact inj k x (by omega) hk (by omega) hx e h0
theorem tr_be_up {ch be : Nat → Int32} {pa W : Nat → Nat} {z : Int32} (T : tr_ok ch be pa W) : tr_ok ch (upd be 0 z) pa W := by
  obtain ⟨t0, w0, inj, chd, blw, liv⟩ := T
  refine ⟨t0, w0, inj, chd, fun k h1 h2 => ?_, liv⟩
  rw [pk_un (by omega)]
  exact blw k h1 h2
/-- one more below a node that stands -/
theorem tr_inc {ch be : Nat → Int32} {pa W : Nat → Nat} {x b y q : Nat} (T : tr_ok ch be pa W) (hx : x ≤ 80) (ax : x = 0 ∨ pa x ≠ 0) (hb : b < 7) (hy1 : 1 ≤ y) (hy : y ≤ 80) (hc : ch (x * 7 + b) = nI y) (hq : q = pa x * 8 + b + 1) (hp : pa y = q) : tr_ok ch (upd be y (be y + 1)) pa (fun r => W r + (if r = q then 1 else 0)) := by
  have TS := @tr_same _ _ _ _ T
  obtain ⟨t0, w0, inj, chd, blw, liv⟩ := T
  refine ⟨t0, ?_, inj, ?_, ?_, ?_⟩
  · show W 0 + _ = 0
    rw [if_neg (by omega), w0]
  · intro k b' hk ak hb'
    rcases chd k b' hk ak hb' with ⟨h1, h2⟩ | h
    · refine Or.inl ⟨h1, ?_⟩
      show W (pa k * 8 + b' + 1) + _ = 0
      rw [h2, if_neg]
      intro e
      have e1 : pa k = pa x := by omega
      have e2 : b' = b := by omega
      have e3 : k = x := TS hk ak hx ax e1
      rw [e2, e3, hc] at h1
      exact nI_ne0 (by omega) (by omega) h1
    · exact Or.inr h
  · intro k hk1 hk
    by_cases e : k = y
    · subst e
      rw [pk_us, blw k hk1 hk]
      show nI _ + 1 = nI (W (pa k) + _)
      rw [if_pos hp, nI_1]
    · rw [pk_un e, blw k hk1 hk]
      show _ = nI (W (pa k) + _)
      rw [if_neg, Nat.add_zero]
      intro e2
      exact e (inj k y hk1 hk hy1 hy (by omega) (by omega))
  · intro k hk1 hk h
    have h2 := liv k hk1 hk h
    show 0 < W (pa k) + _
    omega
/-- a new node -/
theorem tr_new {ch ch' be : Nat → Int32} {pa W : Nat → Nat} {x b k q : Nat} (T : tr_ok ch be pa W) (hx : x ≤ 80) (ax : x = 0 ∨ pa x ≠ 0) (hb : b < 7) (hq : q = pa x * 8 + b + 1) (hw : W q = 0) (hcl : ∀ b', b' < 7 → W (q * 8 + b' + 1) = 0) (hk1 : 1 ≤ k) (hk : k ≤ 80) (hk0 : pa k = 0) (h1 : ch' (x * 7 + b) = nI k) (h2 : ∀ b', b' < 7 → ch' (k * 7 + b') = 0) (h3 : ∀ k' b', k' ≠ k → b' < 7 → ¬ (k' = x ∧ b' = b) → ch' (k' * 7 + b') = ch (k' * 7 + b')) : tr_ok ch' (upd be k (be k + 1)) (fun j => if j = k then q else pa j) (fun r => W r + (if r = q then 1 else 0)) := by
  have TS := @tr_same _ _ _ _ T
  obtain ⟨t0, w0, inj, chd, blw, liv⟩ := T
  refine ⟨?_, ?_, ?_, ?_, ?_, ?_⟩
  · show (if 0 = k then q else pa 0) = 0
    rw [if_neg (by omega), t0]
  · show W 0 + _ = 0
    rw [if_neg (by omega), w0]
  · intro a c ha1 ha hc1 hc e ne
    have e' : (if a = k then q else pa a) = (if c = k then q else pa c) := e
    have ne' : (if a = k then q else pa a) ≠ 0 := ne
    by_cases za : a = k
    · by_cases zc : c = k
      · omega
      · rw [if_pos za, if_neg zc] at e'
        have h4 := liv c hc1 hc (by omega)
        rw [← e', hw] at h4
        omega
    · rw [if_neg za] at e' ne'
      by_cases zc : c = k
      · rw [if_pos zc] at e'
        have h4 := liv a ha1 ha ne'
        rw [e', hw] at h4
        omega
      · rw [if_neg zc] at e'
        exact inj a c ha1 ha hc1 hc e' ne'
  · intro j b' hj aj hb'
    have aj' : j = 0 ∨ (if j = k then q else pa j) ≠ 0 := aj
    show (ch' (j * 7 + b') = 0 ∧ W ((if j = k then q else pa j) * 8 + b' + 1) + (if (if j = k then q else pa j) * 8 + b' + 1 = q then 1 else 0) = 0) ∨ ∃ y, 1 ≤ y ∧ y ≤ 80 ∧ ch' (j * 7 + b') = nI y ∧ (if y = k then q else pa y) = (if j = k then q else pa j) * 8 + b' + 1
    by_cases zj : j = k
    · simp only [if_pos zj]
      refine Or.inl ⟨?_, ?_⟩
      · rw [zj]
        exact h2 b' hb'
      · rw [hcl b' hb', if_neg (by omega)]
    · simp only [if_neg zj] at aj' ⊢
      by_cases zz : j = x ∧ b' = b
      · refine Or.inr ⟨k, hk1, hk, ?_, ?_⟩
        · rw [zz.1, zz.2]
          exact h1
        · rw [if_pos rfl, zz.1, zz.2]
          exact hq
      · rw [h3 j b' zj hb' zz]
        rcases chd j b' hj aj' hb' with ⟨g1, g2⟩ | ⟨y, y1, y2, y3, y4⟩
        · refine Or.inl ⟨g1, ?_⟩
          rw [g2, if_neg]
          intro e
          exact zz ⟨TS hj aj' hx ax (by omega), by omega⟩
        · refine Or.inr ⟨y, y1, y2, y3, ?_⟩
          rw [if_neg]
          · exact y4
          · intro z
            rw [z] at y4
            omega
  · intro j hj1 hj
    show upd be k (be k + 1) j = nI (W (if j = k then q else pa j) + (if (if j = k then q else pa j) = q then 1 else 0))
    by_cases zj : j = k
    · simp only [if_pos zj, if_true]
      rw [zj, pk_us, blw k hk1 hk, hk0, w0, hw]
      exact nI_1 0
    · simp only [if_neg zj]
      rw [pk_un zj, blw j hj1 hj, if_neg, Nat.add_zero]
      intro e
      have h4 := liv j hj1 hj (by omega)
      rw [e, hw] at h4
      omega
  · intro j hj1 hj hne
    have hne' : (if j = k then q else pa j) ≠ 0 := hne
    show 0 < W (if j = k then q else pa j) + (if (if j = k then q else pa j) = q then 1 else 0)
    by_cases zj : j = k
    · simp only [if_pos zj, if_true]
      omega
    · simp only [if_neg zj] at hne' ⊢
      have h4 := liv j hj1 hj hne'
      omega
/-- one less: the last below its node -/
theorem tr_dec {ch be : Nat → Int32} {pa W W' : Nat → Nat} {x b y q p : Nat} (T : tr_ok ch be pa W) (hx : x ≤ 80) (hp : (x = 0 ∧ p = 0) ∨ (x ≠ 0 ∧ p ≠ 0 ∧ (pa x = p ∨ (pa x = 0 ∧ W p = 0)))) (hb : b < 7) (hq : q = p * 8 + b + 1) (hy1 : 1 ≤ y) (hy : y ≤ 80) (hpy : pa y = q) (hW : ∀ r, W r = W' r + (if r = q then 1 else 0)) (h0 : W' q = 0) : tr_ok (upd ch (x * 7 + b) 0) (upd be y (be y - 1)) (fun j => if j = y then 0 else pa j) W' := by
  have TS := @tr_same _ _ _ _ T
  obtain ⟨t0, w0, inj, chd, blw, liv⟩ := T
  have w0' : W' 0 = 0 := by
    have h := hW 0
    rw [w0] at h
    omega
  refine ⟨?_, w0', ?_, ?_, ?_, ?_⟩
  · show (if 0 = y then 0 else pa 0) = 0
    rw [if_neg (by omega), t0]
  · intro a c ha1 ha hc1 hc e ne
    have e' : (if a = y then 0 else pa a) = (if c = y then 0 else pa c) := e
    have ne' : (if a = y then 0 else pa a) ≠ 0 := ne
    by_cases za : a = y
    · rw [if_pos za] at ne'
      exact absurd rfl ne'
    · rw [if_neg za] at e' ne'
      by_cases zc : c = y
      · rw [if_pos zc] at e'
        exact absurd e' ne'
      · rw [if_neg zc] at e'
        exact inj a c ha1 ha hc1 hc e' ne'
  · intro j b' hj aj hb'
    have aj' : j = 0 ∨ (if j = y then 0 else pa j) ≠ 0 := aj
    show (upd ch (x * 7 + b) 0 (j * 7 + b') = 0 ∧ W' ((if j = y then 0 else pa j) * 8 + b' + 1) = 0) ∨ ∃ z, 1 ≤ z ∧ z ≤ 80 ∧ upd ch (x * 7 + b) 0 (j * 7 + b') = nI z ∧ (if z = y then 0 else pa z) = (if j = y then 0 else pa j) * 8 + b' + 1
    by_cases zj : j = y
    · rw [if_pos zj] at aj'
      rcases aj' with h | h
      · omega
      · exact absurd rfl h
    · simp only [if_neg zj] at aj' ⊢
      by_cases zz : j = x ∧ b' = b
      · obtain ⟨z1, z2⟩ := zz
        subst z1 z2
        refine Or.inl ⟨pk_us, ?_⟩
        have e : pa j = p := by
          rcases hp with ⟨h1, h2⟩ | ⟨h1, h2, h3 | ⟨h3, h4⟩⟩
          · rw [h1, t0, h2]
          · exact h3
          · rcases aj' with h | h
            · exact absurd h h1
            · exact absurd h3 h
        rw [e, ← hq]
        exact h0
      · rw [pk_un (show j * 7 + b' ≠ x * 7 + b by omega)]
        rcases chd j b' hj aj' hb' with ⟨g1, g2⟩ | ⟨z, y1, y2, y3, y4⟩
        · refine Or.inl ⟨g1, ?_⟩
          have h := hW (pa j * 8 + b' + 1)
          rw [g2] at h
          omega
        · refine Or.inr ⟨z, y1, y2, y3, ?_⟩
          rw [if_neg]
          · exact y4
          · intro e
            rw [e, hpy] at y4
            have e1 : pa j = p := by omega
            have e2 : b' = b := by omega
            rcases hp with ⟨h1, h2⟩ | ⟨h1, h2, h3 | ⟨h3, h4⟩⟩
            · rcases aj' with h | h
              · exact zz ⟨by omega, e2⟩
              · omega
            · exact zz ⟨TS hj aj' hx (Or.inr (by omega)) (by omega), e2⟩
            · have h5 := liv j (by
                rcases aj' with h | h
                · rw [h, t0] at e1; omega
                · by_cases j0 : j = 0
                  · rw [j0, t0] at e1; omega
                  · omega) hj (by omega)
              rw [e1, h4] at h5
              omega
  · intro j hj1 hj
    show upd be y (be y - 1) j = nI (W' (if j = y then 0 else pa j))
    by_cases zj : j = y
    · rw [if_pos zj, zj, pk_us, blw y hy1 hy, hpy, hW q, if_pos rfl, h0, w0']
      exact nI_pred 0
    · rw [pk_un zj, if_neg zj, blw j hj1 hj, hW (pa j), if_neg, Nat.add_zero]
      intro e
      exact zj (inj j y hj1 hj hy1 hy (by omega) (by omega))
  · intro j hj1 hj hne
    have hne' : (if j = y then 0 else pa j) ≠ 0 := hne
    show 0 < W' (if j = y then 0 else pa j)
    by_cases zj : j = y
    · rw [if_pos zj] at hne'
      exact absurd rfl hne'
    · rw [if_neg zj] at hne' ⊢
      have h4 := liv j hj1 hj hne'
      rw [hW (pa j), if_neg, Nat.add_zero] at h4
      · exact h4
      · intro e
        exact zj (inj j y hj1 hj hy1 hy (by omega) (by omega))
/-- one less, others stay -/
theorem tr_dec2 {ch be : Nat → Int32} {pa W W' : Nat → Nat} {y q : Nat} (T : tr_ok ch be pa W) (hq : 1 ≤ q) (hy1 : 1 ≤ y) (hy : y ≤ 80) (hpy : pa y = q) (hW : ∀ r, W r = W' r + (if r = q then 1 else 0)) (h0 : 1 ≤ W' q) : tr_ok ch (upd be y (be y - 1)) pa W' := by
  obtain ⟨t0, w0, inj, chd, blw, liv⟩ := T
  refine ⟨t0, ?_, inj, ?_, ?_, ?_⟩
  · have h := hW 0
    rw [w0] at h
    omega
  · intro j b' hj aj hb'
    rcases chd j b' hj aj hb' with ⟨g1, g2⟩ | h
    · refine Or.inl ⟨g1, ?_⟩
      have h := hW (pa j * 8 + b' + 1)
      rw [g2] at h
      omega
    · exact Or.inr h
  · intro j hj1 hj
    by_cases zj : j = y
    · rw [zj, pk_us, blw y hy1 hy, hpy, hW q, if_pos rfl]
      exact nI_pred _
    · rw [pk_un zj, blw j hj1 hj, hW (pa j), if_neg, Nat.add_zero]
      intro e
      exact zj (inj j y hj1 hj hy1 hy (by omega) (by omega))
  · intro j hj1 hj hne
    have h4 := liv j hj1 hj hne
    by_cases z : pa j = q
    · rw [z]
      omega
    · rw [hW (pa j), if_neg z, Nat.add_zero] at h4
      exact h4
end
section
/-! a filter enters the tree, a filter leaves it: level by level -/
def en_b (f i : Nat) : Nat := cd_dg (cd_nl f) f i - 1
def en_I (f i : Nat) (L : Nat → List (Nat × Nat)) (ch gr be : Nat → Int32) (x : Nat) : Prop :=
  ∃ pa W : Nat → Nat, tr_ok ch be pa W ∧ x ≤ 80 ∧ (x = 0 ∨ pa x ≠ 0) ∧ pa x = f / 8 ^ (cd_nl f - i) ∧ (∀ r, W r + tr_wt f (cd_nl f - i) r = tr_w L r + tr_wt f (cd_nl f) r) ∧ tr_sm (fun k => W (pa k)) 80 = tr_ss L cd_nl + i ∧ ∀ k c, 1 ≤ k → k ≤ 80 → c < 4 → gr (k * 4 + c) = tr_g (pa k) (L c)
def le_I (f i : Nat) (L : Nat → List (Nat × Nat)) (ch gr be : Nat → Int32) (x : Nat) : Prop :=
  ∃ pa W : Nat → Nat, tr_ok ch be pa W ∧ x ≤ 80 ∧ ((x = 0 ∧ i = 0) ∨ (x ≠ 0 ∧ 1 ≤ i ∧ (pa x = f / 8 ^ (cd_nl f - i) ∨ (pa x = 0 ∧ W (f / 8 ^ (cd_nl f - i)) = 0)))) ∧ (i < cd_nl f → ∃ y, 1 ≤ y ∧ y ≤ 80 ∧ ch (x * 7 + en_b f i) = nI y ∧ pa y = f / 8 ^ (cd_nl f - (i + 1))) ∧ (∀ r, W r = tr_w L r + tr_wt f (cd_nl f - i) r) ∧ tr_sm (fun k => W (pa k)) 80 = tr_ss L cd_nl + (cd_nl f - i) ∧ ∀ k c, 1 ≤ k → k ≤ 80 → c < 4 → gr (k * 4 + c) = tr_g (pa k) (L c)

def le_nx (f i y : Nat) (ch : Nat → Int32) (pa : Nat → Nat) : Prop := i + 1 < cd_nl f → ∃ y2, 1 ≤ y2 ∧ y2 ≤ 80 ∧ ch (y * 7 + en_b f (i + 1)) = nI y2 ∧ pa y2 = f / 8 ^ (cd_nl f - (i + 1 + 1)) ∧ y2 ≠ y
theorem en_b_lt {f i : Nat} (hf : cd_ok f) (hi : i < cd_nl f) : en_b f i < 7 ∧ cd_dg (cd_nl f) f i = en_b f i + 1 := by
  have h1 := hf.2.2 i hi
  have h2 := cd_dg_lt (cd_nl f) f i
  unfold en_b
  omega
theorem en_q {f i : Nat} (hf : cd_ok f) (hi : i < cd_nl f) : f / 8 ^ (cd_nl f - (i + 1)) = f / 8 ^ (cd_nl f - i) * 8 + en_b f i + 1 := by
  have h := cd_pre_s (m := f) hi
  rw [(en_b_lt hf hi).2] at h
  omega
theorem en_0 {f : Nat} {L : Nat → List (Nat × Nat)} {ch gr be : Nat → Int32} {pa : Nat → Nat} {z : Int32} (hf : cd_ok f) (P : tr_P ch gr be L pa) : en_I f 0 L ch gr (upd be 0 z) 0 :=
  ⟨pa, tr_w L, tr_be_up P.1, Nat.zero_le _, Or.inl rfl, by rw [P.1.1, Nat.sub_zero, cd_pre_0 hf.2.1], fun r => by rw [Nat.sub_zero], P.2.1, P.2.2⟩
theorem en_step {f i x : Nat} {L : Nat → List (Nat × Nat)} {ch gr be : Nat → Int32} (hL : tr_L L) (hf : cd_ok f) (hi : i < cd_nl f) (hs : tr_ss L cd_nl ≤ 76) (I : en_I f i L ch gr be x) :
    x ≤ 80 ∧ ((∃ y, 1 ≤ y ∧ y ≤ 80 ∧ ch (x * 7 + en_b f i) = nI y ∧ en_I f (i + 1) L ch gr (upd be y (be y + 1)) y) ∨
    (ch (x * 7 + en_b f i) = 0 ∧ (∃ k, 1 ≤ k ∧ k ≤ 80 ∧ be k = 0) ∧ ∀ (k : Nat) (ch' : Nat → Int32), 1 ≤ k → k ≤ 80 → be k = 0 → (∀ b', b' < 7 → ch' (k * 7 + b') = 0) → (∀ j, (j < k * 7 ∨ k * 7 + 7 ≤ j) → ch' j = ch j) → en_I f (i + 1) L (upd ch' (x * 7 + en_b f i) (nI k)) gr (upd be k (be k + 1)) k)) := by
  obtain ⟨pa, W, T, hx, ax, hp, hW, hsm, hg⟩ := I
  obtain ⟨hb, hd⟩ := en_b_lt hf hi
  have hq0 := en_q hf hi
  rw [← hp] at hq0
  have hn4 := cd_nl_le hf.2.1
  have hbd : ∀ r, W r ≤ 1000 := by
    intro r
    have h1 := hW r
    have h2 := tr_w_bd hL r
    have h3 := tr_wt_le f (cd_nl f) r
    omega
  obtain ⟨q, hqe⟩ : ∃ q, q = f / 8 ^ (cd_nl f - (i + 1)) := ⟨_, rfl⟩
  rw [← hqe] at hq0
  have hq1 : 1 ≤ q := by omega
  have hW' : ∀ r, (W r + (if r = q then 1 else 0)) + tr_wt f (cd_nl f - (i + 1)) r = tr_w L r + tr_wt f (cd_nl f) r := by
    intro r
    have h := hW r
    rw [show cd_nl f - i = (cd_nl f - (i + 1)) + 1 by omega, tr_wt_s, ← hqe] at h
    omega
  refine ⟨hx, ?_⟩
  rcases T.2.2.2.1 x (en_b f i) hx ax hb with ⟨c0, w0⟩ | ⟨y, y1, y2, y3, y4⟩
  · refine Or.inr ⟨c0, ?_, ?_⟩
    · obtain ⟨k, k1, k2, k3⟩ := tr_free T (by rw [hsm]; omega)
      exact ⟨k, k1, k2, (tr_be0 T hbd k1 k2).mpr k3⟩
    · intro k ch' k1 k2 k3 h2 h3
      have hk0 := (tr_be0 T hbd k1 k2).mp k3
      have hxk : x ≠ k := by
        intro z
        rcases ax with h | h
        · omega
        · rw [z] at h
          exact h hk0
      rw [← hq0] at w0
      have hLq : tr_w L q = 0 := by
        have e0 := hW q
        have e1 := tr_wt_mono (f := f) (r := q) (m := cd_nl f - i) (cd_nl f) (by omega)
        rw [w0] at e0
        omega
      refine ⟨_, _, tr_new T hx ax hb hq0 w0 ?_ k1 k2 hk0 pk_us ?_ ?_, k2, Or.inr ?_, ?_, hW', ?_, ?_⟩
      · intro b' hb'
        have c1 := tr_closed hL hq1 hb' hLq
        have e1 := hW (q * 8 + b' + 1)
        have c2 : tr_wt f (cd_nl f) (q * 8 + b' + 1) = tr_wt f (cd_nl f - i) (q * 8 + b' + 1) := by
          refine tr_wt_eq (cd_nl f) (by omega) fun k h1 h2 e => ?_
          have h4 : f / 8 ^ k ≤ f / 8 ^ (cd_nl f - (i + 1)) := Nat.div_le_div_left (Nat.pow_le_pow_right (by decide) (by omega)) (Nat.pow_pos (by decide))
          rw [← hqe] at h4
          omega
        omega
      · intro b' hb'
        rw [pk_un (by omega)]
        exact h2 b' hb'
      · intro k' b' hk' hb' hz
        rw [pk_un (by omega)]
        exact h3 _ (by omega)
      · show (if k = k then q else pa k) ≠ 0
        rw [if_pos rfl]
        omega
      · show (if k = k then q else pa k) = _
        rw [if_pos rfl]
        exact hqe
      · rw [tr_sm_up (h := fun k => W (pa k)) k1 80 ?_, if_pos k2, hsm]
        · omega
        · intro j j1 j2
          show W (if j = k then q else pa j) + (if (if j = k then q else pa j) = q then 1 else 0) = W (pa j) + (if j = k then 1 else 0)
          by_cases zj : j = k
          · simp only [if_pos zj, if_true]
            rw [zj, hk0, w0, T.2.1]
          · simp only [if_neg zj]
            rw [if_neg]
            intro e
            have h4 := T.2.2.2.2.2 j j1 j2 (by omega)
            rw [e, w0] at h4
            omega
      · intro j c j1 j2 hc
        show gr (j * 4 + c) = tr_g (if j = k then q else pa j) (L c)
        by_cases zj : j = k
        · rw [if_pos zj, hg j c j1 j2 hc, zj, hk0, tr_w0_g hL hc hLq, tr_w0_g hL hc (tr_w_0 hL)]
        · rw [if_neg zj]
          exact hg j c j1 j2 hc
  · rw [← hq0] at y4
    refine Or.inl ⟨y, y1, y2, y3, _, _, tr_inc T hx ax hb y1 y2 y3 hq0 y4, y2, Or.inr (by omega), by omega, hW', ?_, hg⟩
    rw [tr_sm_up (h := fun k => W (pa k)) y1 80 ?_, if_pos y2, hsm]
    · omega
    · intro j j1 j2
      show W (pa j) + (if pa j = q then 1 else 0) = W (pa j) + (if j = y then 1 else 0)
      by_cases zj : j = y
      · rw [if_pos zj, zj, if_pos y4]
      · rw [if_neg zj, if_neg]
        intro e
        exact zj (T.2.2.1 j y j1 j2 y1 y2 (by omega) (by omega))
theorem en_n {f x c g : Nat} {L : Nat → List (Nat × Nat)} {ch gr be : Nat → Int32} (hf : cd_ok f) (hc : c < 4) (hn : ∀ e, e ∈ L c → e.1 ≠ f) (I : en_I f (cd_nl f) L ch gr be x) :
    1 ≤ x ∧ x ≤ 80 ∧ ∃ pa, tr_P ch (upd gr (x * 4 + c) (nI g)) be (tr_set L c (L c ++ [(f, g)])) pa := by
  obtain ⟨pa, W, T, hx, ax, hp, hW, hsm, hg⟩ := I
  rw [Nat.sub_self, Nat.pow_zero, Nat.div_one] at hp
  have hf1 := hf.1
  have hx1 : 1 ≤ x := by
    by_cases z : x = 0
    · rw [z, T.1] at hp
      omega
    · omega
  have hss : ∀ h : Nat → Nat, tr_ss (tr_set L c (L c ++ [(f, g)])) h = tr_ss L h + h f := by
    intro h
    have h2 := tr_ss_set (L := L) (l := L c ++ [(f, g)]) (h := h) hc
    have h3 : tr_ls h [(f, g)] = h f + 0 := rfl
    rw [tr_ls_app] at h2
    omega
  have e : W = tr_w (tr_set L c (L c ++ [(f, g)])) := by
    funext r
    have h := hW r
    rw [Nat.sub_self] at h
    have h2 := hss (fun f => tr_wt f (cd_nl f) r)
    have h4 : tr_wt f 0 r = 0 := rfl
    have h5 : tr_w L r = tr_ss L (fun f => tr_wt f (cd_nl f) r) := rfl
    have h6 : tr_w (tr_set L c (L c ++ [(f, g)])) r = tr_ss (tr_set L c (L c ++ [(f, g)])) (fun f => tr_wt f (cd_nl f) r) := rfl
    omega
  rw [e] at T hsm
  refine ⟨hx1, hx, pa, T, ?_, ?_⟩
  · rw [hsm, hss]
  · intro k c' k1 k2 hc'
    by_cases zc : c' = c
    · rw [zc, tr_set_s, tr_g_mid _ hn, List.append_nil]
      by_cases zk : k = x
      · rw [zk, pk_us, if_pos hp]
      · rw [pk_un (by omega), if_neg, hg k c k1 k2 hc]
        intro e
        exact zk (T.2.2.1 k x k1 k2 hx1 hx (by omega) (by omega))
    · rw [tr_set_n zc, pk_un (by omega)]
      exact hg k c' k1 k2 hc'
/-- a grade is stored at a node that stands -/
theorem tr_re {f x c g g0 : Nat} {L : Nat → List (Nat × Nat)} {l1 l2 : List (Nat × Nat)} {ch gr be : Nat → Int32} {pa : Nat → Nat} (hf : cd_ok f) (hc : c < 4) (hl : L c = l1 ++ (f, g0) :: l2) (h1 : ∀ e, e ∈ l1 → e.1 ≠ f) (hx1 : 1 ≤ x) (hx : x ≤ 80) (hp : pa x = f) (P : tr_P ch gr be L pa) :
    tr_P ch (upd gr (x * 4 + c) (nI g)) be (tr_set L c (l1 ++ (f, g) :: l2)) pa := by
  obtain ⟨T, hsm, hg⟩ := P
  have hf1 := hf.1
  have hss : ∀ h : Nat → Nat, tr_ss (tr_set L c (l1 ++ (f, g) :: l2)) h = tr_ss L h := by
    intro h
    have h2 := tr_ss_set (L := L) (l := l1 ++ (f, g) :: l2) (h := h) hc
    rw [hl, tr_ls_app, tr_ls_app, tr_ls_c, tr_ls_c] at h2
    have e1 : h (f, g).1 = h f := rfl
    have e2 : h (f, g0).1 = h f := rfl
    rw [e1, e2] at h2
    omega
  have e : tr_w (tr_set L c (l1 ++ (f, g) :: l2)) = tr_w L := funext fun r => hss _
  refine ⟨by rw [e]; exact T, by rw [e, hss]; exact hsm, ?_⟩
  intro k c' k1 k2 hc'
  by_cases zc : c' = c
  · rw [zc, tr_set_s, tr_g_mid _ h1]
    by_cases zk : k = x
    · rw [zk, pk_us, if_pos hp]
    · have h3 : pa k ≠ f := fun e => zk (T.2.2.1 k x k1 k2 hx1 hx (by omega) (by omega))
      rw [pk_un (by omega), if_neg h3, hg k c k1 k2 hc, hl, tr_g_mid _ h1, if_neg h3]
  · rw [tr_set_n zc, pk_un (by omega)]
    exact hg k c' k1 k2 hc'
theorem le_0 {f x c g0 : Nat} {L : Nat → List (Nat × Nat)} {l1 l2 : List (Nat × Nat)} {ch gr be : Nat → Int32} {pa : Nat → Nat} {z : Int32} (hL : tr_L L) (hf : cd_ok f) (hc : c < 4) (hl : L c = l1 ++ (f, g0) :: l2) (h1 : ∀ e, e ∈ l1 → e.1 ≠ f) (h2 : ∀ e, e ∈ l2 → e.1 ≠ f) (hx1 : 1 ≤ x) (hx : x ≤ 80) (hp : pa x = f) (P : tr_P ch gr be L pa) :
    le_I f 0 (tr_set L c (l1 ++ l2)) ch (upd gr (x * 4 + c) (-1)) (upd be 0 z) 0 := by
  obtain ⟨T, hsm, hg⟩ := P
  have hf1 := hf.1
  have hn1 := cd_nl_pos hf1
  have hss : ∀ h : Nat → Nat, tr_ss L h = tr_ss (tr_set L c (l1 ++ l2)) h + h f := by
    intro h
    have h3 := tr_ss_set (L := L) (l := l1 ++ l2) (h := h) hc
    rw [hl, tr_ls_app, tr_ls_app, tr_ls_c] at h3
    have e2 : h (f, g0).1 = h f := rfl
    rw [e2] at h3
    omega
  refine ⟨pa, tr_w L, tr_be_up T, Nat.zero_le _, Or.inl ⟨rfl, rfl⟩, ?_, fun r => hss _, ?_, ?_⟩
  · intro hi
    have hb := en_b_lt hf hi
    have hq := en_q hf hi
    rw [Nat.sub_zero, cd_pre_0 hf.2.1] at hq
    rcases T.2.2.2.1 0 (en_b f 0) (by omega) (Or.inl rfl) hb.1 with ⟨c0, w0⟩ | ⟨y, y1, y2, y3, y4⟩
    · rw [T.1, ← hq] at w0
      have he : (f, g0) ∈ L c := by
        rw [hl]
        exact List.mem_append_right _ List.mem_cons_self
      have h5 := tr_w_pos (k := cd_nl f - (0 + 1)) hc he (show cd_nl f - (0 + 1) < cd_nl f by omega)
      have e2 : (f, g0).1 = f := rfl
      rw [e2] at h5
      omega
    · rw [T.1, ← hq] at y4
      exact ⟨y, y1, y2, y3, y4⟩
  · rw [Nat.sub_zero, hsm]
    exact hss cd_nl
  · intro k c' k1 k2 hc'
    by_cases zc : c' = c
    · rw [zc, tr_set_s]
      by_cases zk : k = x
      · rw [zk, pk_us, hp, tr_g_no]
        intro e he
        rcases List.mem_append.mp he with h | h
        · exact h1 e h
        · exact h2 e h
      · have h3 : pa k ≠ f := fun e => zk (T.2.2.1 k x k1 k2 hx1 hx (by omega) (by omega))
        rw [pk_un (by omega), hg k c k1 k2 hc, hl, tr_g_mid _ h1, if_neg h3]
    · rw [tr_set_n zc, pk_un (by omega)]
      exact hg k c' k1 k2 hc'
theorem le_step {f i x : Nat} {L : Nat → List (Nat × Nat)} {ch gr be : Nat → Int32} (hL : tr_L L) (hf : cd_ok f) (hi : i < cd_nl f) (I : le_I f i L ch gr be x) :
    x ≤ 80 ∧ ∃ y, 1 ≤ y ∧ y ≤ 80 ∧ ch (x * 7 + en_b f i) = nI y ∧ ((be y - 1 = 0 ∧ le_I f (i + 1) L (upd ch (x * 7 + en_b f i) 0) gr (upd be y (be y - 1)) y) ∨ (be y - 1 ≠ 0 ∧ le_I f (i + 1) L ch gr (upd be y (be y - 1)) y)) := by
  obtain ⟨pa, W, T, hx, hxp, hnx, hW, hsm, hg⟩ := I
  obtain ⟨y, y1, y2, y3, y4⟩ := hnx hi
  clear hnx
  obtain ⟨hb, hd⟩ := en_b_lt hf hi
  have hq0 := en_q hf hi
  have hn4 := cd_nl_le hf.2.1
  obtain ⟨q, hqe⟩ : ∃ q, q = f / 8 ^ (cd_nl f - (i + 1)) := ⟨_, rfl⟩
  obtain ⟨p, hpe⟩ : ∃ p, p = f / 8 ^ (cd_nl f - i) := ⟨_, rfl⟩
  rw [← hqe, ← hpe] at hq0
  rw [← hqe] at y4
  rw [← hpe] at hxp
  have hq1 : 1 ≤ q := by omega
  have hWW : ∀ r, W r = (fun r => tr_w L r + tr_wt f (cd_nl f - (i + 1)) r) r + (if r = q then 1 else 0) := by
    intro r
    have h := hW r
    rw [show cd_nl f - i = (cd_nl f - (i + 1)) + 1 by omega, tr_wt_s, ← hqe] at h
    show W r = tr_w L r + tr_wt f (cd_nl f - (i + 1)) r + _
    omega
  have hxp' : (x = 0 ∧ p = 0) ∨ (x ≠ 0 ∧ p ≠ 0 ∧ (pa x = p ∨ (pa x = 0 ∧ W p = 0))) := by
    rcases hxp with ⟨h1, h2⟩ | ⟨h1, h2, h3⟩
    · refine Or.inl ⟨h1, ?_⟩
      rw [hpe, h2, Nat.sub_zero]
      exact cd_pre_0 hf.2.1
    · refine Or.inr ⟨h1, ?_, h3⟩
      have h5 := cd_pre_pos (k := cd_nl f - i) hf.1 hf.2.1 (by omega)
      omega
  have hyx : y ≠ x := by
    intro z
    rw [z] at y4
    rcases hxp' with ⟨h1, h2⟩ | ⟨h1, h2, h3 | ⟨h3, h4⟩⟩
    · omega
    · omega
    · omega
  have hnext : le_nx f i y ch pa := by
    intro hi2
    obtain ⟨hb2, hd2⟩ := en_b_lt hf hi2
    have hq2 := en_q hf hi2
    rw [← hqe] at hq2
    rcases T.2.2.2.1 y (en_b f (i + 1)) y2 (Or.inr (by omega)) hb2 with ⟨c0, w0⟩ | ⟨z, z1, z2, z3, z4⟩
    · rw [y4, ← hq2] at w0
      have h5 := hW (f / 8 ^ (cd_nl f - (i + 1 + 1)))
      have h6 := tr_wt_pos (f := f) (k := cd_nl f - (i + 1 + 1)) (cd_nl f - i) (by omega) rfl
      omega
    · rw [y4] at z4
      refine ⟨z, z1, z2, z3, by omega, ?_⟩
      intro e
      rw [e, y4] at z4
      omega
  have hby : be y - 1 = nI (tr_w L q + tr_wt f (cd_nl f - (i + 1)) q) := by
    have h := hWW q
    rw [if_pos rfl] at h
    rw [T.2.2.2.2.1 y y1 y2, y4, h]
    exact nI_pred _
  refine ⟨hx, y, y1, y2, y3, ?_⟩
  by_cases z : tr_w L q + tr_wt f (cd_nl f - (i + 1)) q = 0
  · refine Or.inl ⟨by rw [hby, z]; exact nI_0, _, _, tr_dec T hx hxp' hb hq0 y1 y2 y4 hWW z, y2, Or.inr ⟨by omega, by omega, Or.inr ⟨if_pos rfl, ?_⟩⟩, ?_, fun r => rfl, ?_, ?_⟩
    · rw [← hqe]
      exact z
    · intro hi2
      obtain ⟨y2', a1, a2, a3, a4, a5⟩ := hnext hi2
      refine ⟨y2', a1, a2, ?_, ?_⟩
      · rw [pk_un (by have := (en_b_lt hf hi2).1; omega)]
        exact a3
      · show (if y2' = y then 0 else pa y2') = _
        rw [if_neg a5]
        exact a4
    · have h5 := tr_sm_up (h := fun k => (fun r => tr_w L r + tr_wt f (cd_nl f - (i + 1)) r) (if k = y then 0 else pa k)) (h' := fun k => W (pa k)) y1 80 (by
        intro k k1 k2
        show W (pa k) = tr_w L (if k = y then 0 else pa k) + tr_wt f (cd_nl f - (i + 1)) (if k = y then 0 else pa k) + (if k = y then 1 else 0)
        by_cases zk : k = y
        · simp only [if_pos zk]
          have h6 := hWW q
          have h7 : W q = tr_w L q + tr_wt f (cd_nl f - (i + 1)) q + (if q = q then 1 else 0) := h6
          rw [if_pos rfl, z] at h7
          have h8 := hWW 0
          have h9 : W 0 = tr_w L 0 + tr_wt f (cd_nl f - (i + 1)) 0 + (if 0 = q then 1 else 0) := h8
          rw [T.2.1] at h9
          rw [zk, y4, h7]
          omega
        · simp only [if_neg zk]
          have h7 : W (pa k) = tr_w L (pa k) + tr_wt f (cd_nl f - (i + 1)) (pa k) + (if pa k = q then 1 else 0) := hWW (pa k)
          rw [if_neg] at h7
          · exact h7
          · intro e
            exact zk (T.2.2.1 k y k1 k2 y1 y2 (by omega) (by omega)))
      rw [hsm, if_pos y2] at h5
      show tr_sm (fun k => (fun r => tr_w L r + tr_wt f (cd_nl f - (i + 1)) r) (if k = y then 0 else pa k)) 80 = _
      omega
    · intro k c k1 k2 hc
      show gr (k * 4 + c) = tr_g (if k = y then 0 else pa k) (L c)
      by_cases zk : k = y
      · rw [if_pos zk, hg k c k1 k2 hc, zk, y4, tr_w0_g hL hc (show tr_w L q = 0 by omega), tr_w0_g hL hc (tr_w_0 hL)]
      · rw [if_neg zk]
        exact hg k c k1 k2 hc
  · refine Or.inr ⟨?_, pa, _, tr_dec2 T hq1 y1 y2 y4 hWW (show 1 ≤ tr_w L q + tr_wt f (cd_nl f - (i + 1)) q by omega), y2, Or.inr ⟨by omega, by omega, Or.inl (by omega)⟩, ?_, fun r => rfl, ?_, hg⟩
    · rw [hby]
      have h2 := tr_w_bd hL q
      have h3 := tr_wt_le f (cd_nl f - (i + 1)) q
      exact nI_ne0 (by omega) (by omega)
    · intro hi2
      obtain ⟨y2', a1, a2, a3, a4, a5⟩ := hnext hi2
      exact ⟨y2', a1, a2, a3, a4⟩
    · have h5 := tr_sm_up (h := fun k => (fun r => tr_w L r + tr_wt f (cd_nl f - (i + 1)) r) (pa k)) (h' := fun k => W (pa k)) y1 80 (by
        intro k k1 k2
        show W (pa k) = tr_w L (pa k) + tr_wt f (cd_nl f - (i + 1)) (pa k) + (if k = y then 1 else 0)
        have h7 : W (pa k) = tr_w L (pa k) + tr_wt f (cd_nl f - (i + 1)) (pa k) + (if pa k = q then 1 else 0) := hWW (pa k)
        by_cases zk : k = y
        · rw [if_pos zk, h7, zk, if_pos y4]
        · rw [if_neg zk, h7, if_neg]
          intro e
          exact zk (T.2.2.1 k y k1 k2 y1 y2 (by omega) (by omega)))
      rw [hsm, if_pos y2] at h5
      show tr_sm (fun k => (fun r => tr_w L r + tr_wt f (cd_nl f - (i + 1)) r) (pa k)) 80 = _
      omega
theorem le_n {f x : Nat} {L : Nat → List (Nat × Nat)} {ch gr be : Nat → Int32} (I : le_I f (cd_nl f) L ch gr be x) : ∃ pa, tr_P ch gr be L pa := by
  obtain ⟨pa, W, T, hx, hxp, hnx, hW, hsm, hg⟩ := I
  have e : W = tr_w L := by
    funext r
    have h := hW r
    rw [Nat.sub_self] at h
    have h4 : tr_wt f 0 r = 0 := rfl
    omega
  rw [e] at T hsm
  rw [Nat.sub_self] at hsm
  exact ⟨pa, T, hsm, hg⟩
end
section
/-! the reference's reading of numbers -/
def al_p (P : Nat → Prop) (i e : Nat) : Prop := ∀ j, i ≤ j → j < e → P j
theorem al_s {P : Nat → Prop} {i e : Nat} (h : P i) (H : al_p P (i + 1) e) : al_p P i e := by
  intro j h1 h2
  by_cases z : j = i
  · rw [z]; exact h
  · exact H j (by omega) h2
theorem al_t {P : Nat → Prop} {i e : Nat} (H : ¬ al_p P (i + 1) e) : ¬ al_p P i e := fun h => H fun j h1 h2 => h j (by omega) h2
theorem al_n {P : Nat → Prop} {i e : Nat} (hi : i < e) (h : ¬ P i) : ¬ al_p P i e := fun H => h (H i (Nat.le_refl _) hi)
theorem al_e {P : Nat → Prop} {i e : Nat} (h : e ≤ i) : al_p P i e := fun j h1 h2 => by omega
theorem dg_6 : ∀ d, d < 8 → (nI d - 1 = 6 ↔ d = 7) := by decide
theorem dg_5 : ∀ d, d < 8 → (nI d - 1 = 5 ↔ d = 6) := by decide
theorem dg_0 : ∀ d, d < 8 → (nI d - 1 < 0 ↔ d = 0) := by decide
theorem dg_4 : ∀ d, d < 8 → (nI d - 1 ≤ 4 ↔ d ≤ 5) := by decide
theorem dg_e : ∀ d, d < 8 → ∀ e, e < 8 → (nI d - 1 = nI e - 1 ↔ d = e) := by decide
theorem dg_p {d : Nat} (h : 1 ≤ d) : nI d - 1 = nI (d - 1) := by
  obtain ⟨k, rfl⟩ : ∃ k, d = k + 1 := ⟨d - 1, by omega⟩
  exact nI_pred k
section YC
variable {fk : Int32} {fl gs cn ty vy gy wa ls oy ky vk : Nat → Int32}
variable {post : Int32 → Prop}
theorem yc_lv4 : ∀ (n i m : Nat), m < 8 ^ n → m < 2 ^ 31 → (∀ e, e ≤ n → m / 8 ^ e = 0 → (∀ j, j < e → m / 8 ^ j ≠ 0) → post (nI (i + e))) → wY_levels_4 post fk fl gs cn ty vy gy wa ls oy ky vk (n + 1) (nI i) (nI m) := by
  intro n
  induction n with
  | zero =>
    intro i m h h2 H
    have z : m = 0 := by simpa using h
    subst z
    exact br_t (by decide : nI 0 ≤ 0) (H 0 (Nat.le_refl _) rfl fun j hj => absurd hj (Nat.not_lt_zero j))
  | succ n ih =>
    intro i m h h2 H
    by_cases z : m = 0
    · subst z
      exact br_t (by decide : nI 0 ≤ 0) (H 0 (Nat.zero_le _) rfl fun j hj => absurd hj (Nat.not_lt_zero j))
    · have e8 : nI m / 8 = nI (m / 8) := pk_div (d := 8) h2 (by decide) (by decide)
      refine br_f (nI_nle (by omega) h2) (nm_r (nI_1 i) ⟨by decide, nm_r e8 (ih (i + 1) (m / 8) ?_ (by omega) ?_)⟩)
      · rw [Nat.pow_succ] at h
        omega
      · intro e he e0 ej
        have h3 := H (e + 1) (by omega) (by rw [Nat.pow_succ, Nat.mul_comm, ← Nat.div_div_eq_div_mul]; exact e0) (by
          intro j hj
          by_cases j0 : j = 0
          · rw [j0, Nat.pow_zero, Nat.div_one]; exact z
          · have h4 := ej (j - 1) (by omega)
            rw [Nat.div_div_eq_div_mul, Nat.mul_comm, ← Nat.pow_succ, show (j - 1).succ = j by omega] at h4
            exact h4)
        rw [show i + 1 + e = i + (e + 1) by omega]
        exact h3
theorem yc_levels {m : Nat} (h1 : 1 ≤ m) (h2 : m < 2 ^ 31) (H4 : m < 4096 → post (nI (cd_nl m))) (H5 : 4096 ≤ m → ∀ r : Int32, ¬ r ≤ 4 → post r) : wpY_levels post (fk, fl, gs, cn, ty, vy, gy, wa, ls, oy, ky, vk) (nI m) := by
  refine ⟨12, yc_lv4 11 0 m (by omega) h2 fun e he e0 ej => ?_⟩
  rw [Nat.zero_add]
  by_cases h : m < 4096
  · have a1 := cd_pre_0 h
    have : e = cd_nl m := by
      by_cases z : e < cd_nl m
      · have := cd_pre_pos h1 h z
        omega
      · by_cases z2 : cd_nl m < e
        · exact absurd a1 (ej _ z2)
        · omega
    rw [this]
    exact H4 h
  · have h5 : 5 ≤ e := by
      by_cases z : e ≤ 4
      · have h6 : m / 8 ^ 4 ≤ m / 8 ^ e := Nat.div_le_div_left (Nat.pow_le_pow_right (by decide) z) (Nat.pow_pos (by decide))
        have h7 : (8 : Nat) ^ 4 = 4096 := by decide
        rw [h7] at h6
        omega
      · omega
    exact H5 (by omega) _ (nI_ge (a := 4) (by omega) (by omega))
theorem yc_levels0 {x : Int32} (h : x ≤ 0) (H : post 0) : wpY_levels post (fk, fl, gs, cn, ty, vy, gy, wa, ls, oy, ky, vk) x := ⟨1, br_t h H⟩
theorem yc_l14 {i : Nat} (hi : i < 100) : ∀ (d m : Nat), d < 100 → m < 2 ^ 31 → post (nI (m / 8 ^ d % 8) - 1) → wY_level_14 post (nI i) fk fl gs cn ty vy gy wa ls oy ky vk (d + 1) (nI m) (nI (i + d)) := by
  intro d
  induction d with
  | zero =>
    intro m _ h2 hp
    have e8 : nI m - nI m / 8 * 8 = nI (m % 8) := pk_rem (d := 8) h2 (by decide) (by decide)
    refine br_t (Int32.le_refl _) ⟨by decide, ?_⟩
    rw [e8]
    rw [Nat.pow_zero, Nat.div_one] at hp
    exact hp
  | succ d ih =>
    intro m hd h2 hp
    have e8 : nI m / 8 = nI (m / 8) := pk_div (d := 8) h2 (by decide) (by decide)
    refine br_f (nI_ge (by omega) (by omega)) ⟨by decide, nm_r e8 (nm_r (pk_m1 (i + d)) (ih (m / 8) (by omega) (by omega) ?_))⟩
    rw [Nat.pow_succ, Nat.mul_comm, ← Nat.div_div_eq_div_mul] at hp
    exact hp
theorem yc_level {m i : Nat} (h1 : 1 ≤ m) (h2 : m < 4096) (hi : i < cd_nl m) (hp : post (nI (cd_dg (cd_nl m) m i) - 1)) : wpY_level post (fk, fl, gs, cn, ty, vy, gy, wa, ls, oy, ky, vk) (nI m) (nI i) := by
  have h4 := cd_nl_le h2
  refine yc_levels h1 (by omega) (fun _ => ?_) fun h => absurd h2 (by omega)
  refine nm_r (dg_p (by omega)) ⟨cd_nl m - 1 - i + 1, ?_⟩
  have h := yc_l14 (fk := fk) (fl := fl) (gs := gs) (cn := cn) (ty := ty) (vy := vy) (gy := gy) (wa := wa) (ls := ls) (oy := oy) (ky := ky) (vk := vk) (post := post) (i := i) (by omega) (cd_nl m - 1 - i) m (by omega) (by omega) hp
  rw [show i + (cd_nl m - 1 - i) = cd_nl m - 1 by omega] at h
  exact h
theorem yc_t20 {m : Nat} (h1 : 1 ≤ m) (h2 : m < 4096) : ∀ (d i : Nat), i + d = cd_nl m → (al_p (fun j => 1 ≤ cd_dg (cd_nl m) m j ∧ cd_dg (cd_nl m) m j ≤ 5) i (cd_nl m) → post 1) → (¬ al_p (fun j => 1 ≤ cd_dg (cd_nl m) m j ∧ cd_dg (cd_nl m) m j ≤ 5) i (cd_nl m) → post 0) → wY_isTopic_20 post (nI m) (nI (cd_nl m)) fk fl gs cn ty vy gy wa ls oy ky vk (d + 1) (nI i) := by
  have h4 := cd_nl_le h2
  intro d
  induction d with
  | zero =>
    intro i hi hy _
    exact br_t (nI_le (by omega) (by omega)) (hy (al_e (by omega)))
  | succ d ih =>
    intro i hi hy hn
    have hd := cd_dg_lt (cd_nl m) m i
    refine br_f (nI_ge (by omega) (by omega)) (yc_level h1 h2 (by omega) ?_)
    by_cases z0 : cd_dg (cd_nl m) m i = 0
    · exact br_t ((dg_0 _ hd).mpr z0) (hn (al_n (by omega) (fun h => by omega)))
    · refine br_f (fun h => z0 ((dg_0 _ hd).mp h)) ?_
      by_cases z5 : cd_dg (cd_nl m) m i ≤ 5
      · refine br_t ((dg_4 _ hd).mpr z5) (nm_r (nI_1 i) (ih (i + 1) (by omega) (fun H => hy (al_s ⟨by omega, z5⟩ H)) fun H => hn (al_t H)))
      · exact br_f (fun h => z5 ((dg_4 _ hd).mp h)) (hn (al_n (by omega) (fun h => z5 h.2)))
theorem yc_isTopic {x : Int32} (hy : ∀ m, cd_top m → x = nI m → post 1) (hn : (∀ m, cd_top m → x ≠ nI m) → post 0) : wpY_isTopic post (fk, fl, gs, cn, ty, vy, gy, wa, ls, oy, ky, vk) x := by
  rcases nb_pos x with h | ⟨m, h1, h2, rfl⟩
  · refine yc_levels0 h (br_t (Int32.lt_of_le_of_lt h (by decide)) (hn fun m hm => nb_le0 h hm.1.1 (by have := hm.1.2.1; omega)))
  · refine yc_levels h1 h2 (fun h4 => ?_) fun h4 r hr => ?_
    · refine br_f (nI_nlt (b := 1) h1 h2) (br_t (nI_le (b := 4) (cd_nl_le h4) (by decide)) ⟨cd_nl m + 1, yc_t20 h1 h4 (cd_nl m) 0 (by omega) (fun H => hy m ?_ rfl) fun H => hn fun m' hm e => ?_⟩)
      · exact ⟨⟨h1, h4, fun i hi => (H i (by omega) hi).1⟩, fun i hi => (H i (by omega) hi).2⟩
      · have e2 := nb_inj e h2 (by have := hm.1.2.1; omega)
        subst e2
        exact H fun j _ hj => ⟨hm.1.2.2 j hj, hm.2 j hj⟩
    · refine br_f (nI_nlt (b := 1) h1 h2) (br_f hr (hn fun m' hm e => ?_))
      have h5 := hm.1.2.1
      have e2 := nb_inj e h2 (by omega)
      omega
theorem yc_f20 {m : Nat} (h1 : 1 ≤ m) (h2 : m < 4096) : ∀ (d i : Nat), i + d = cd_nl m → (al_p (fun j => 1 ≤ cd_dg (cd_nl m) m j ∧ (j + 1 < cd_nl m → cd_dg (cd_nl m) m j ≠ 7)) i (cd_nl m) → post 1) → (¬ al_p (fun j => 1 ≤ cd_dg (cd_nl m) m j ∧ (j + 1 < cd_nl m → cd_dg (cd_nl m) m j ≠ 7)) i (cd_nl m) → post 0) → wY_isFilter_20 post (nI m) (nI (cd_nl m)) fk fl gs cn ty vy gy wa ls oy ky vk (d + 1) (nI i) := by
  have h4 := cd_nl_le h2
  intro d
  induction d with
  | zero =>
    intro i hi hy _
    exact br_t (nI_le (by omega) (by omega)) (hy (al_e (by omega)))
  | succ d ih =>
    intro i hi hy hn
    have hd := cd_dg_lt (cd_nl m) m i
    refine br_f (nI_ge (by omega) (by omega)) (yc_level h1 h2 (by omega) ?_)
    by_cases z0 : cd_dg (cd_nl m) m i = 0
    · exact br_t ((dg_0 _ hd).mpr z0) (hn (al_n (by omega) (fun h => by omega)))
    · refine br_f (fun h => z0 ((dg_0 _ hd).mp h)) ?_
      by_cases z7 : cd_dg (cd_nl m) m i = 7
      · refine br_t ((dg_6 _ hd).mpr z7) ?_
        rw [dg_p (show 1 ≤ cd_nl m by omega)]
        by_cases zl : i + 1 < cd_nl m
        · exact br_f (nI_ge (by omega) (by omega)) (hn (al_n (by omega) (fun h => h.2 zl z7)))
        · exact br_t (nI_le (by omega) (by omega)) (nm_r (nI_1 i) (ih (i + 1) (by omega) (fun H => hy (al_s ⟨by omega, fun h => absurd h zl⟩ H)) fun H => hn (al_t H)))
      · exact br_f (fun h => z7 ((dg_6 _ hd).mp h)) (nm_r (nI_1 i) (ih (i + 1) (by omega) (fun H => hy (al_s ⟨by omega, fun _ => z7⟩ H)) fun H => hn (al_t H)))
theorem yc_isFilter {x : Int32} (hy : ∀ m, cd_fil m → x = nI m → post 1) (hn : (∀ m, cd_fil m → x ≠ nI m) → post 0) : wpY_isFilter post (fk, fl, gs, cn, ty, vy, gy, wa, ls, oy, ky, vk) x := by
  rcases nb_pos x with h | ⟨m, h1, h2, rfl⟩
  · refine yc_levels0 h (br_t (Int32.lt_of_le_of_lt h (by decide)) (hn fun m hm => nb_le0 h hm.1.1 (by have := hm.1.2.1; omega)))
  · refine yc_levels h1 h2 (fun h4 => ?_) fun h4 r hr => ?_
    · refine br_f (nI_nlt (b := 1) h1 h2) (br_t (nI_le (b := 4) (cd_nl_le h4) (by decide)) ⟨cd_nl m + 1, yc_f20 h1 h4 (cd_nl m) 0 (by omega) (fun H => hy m ?_ rfl) fun H => hn fun m' hm e => ?_⟩)
      · exact ⟨⟨h1, h4, fun i hi => (H i (by omega) hi).1⟩, fun i hi => (H i (by omega) (by omega)).2 hi⟩
      · have e2 := nb_inj e h2 (by have := hm.1.2.1; omega)
        subst e2
        exact H fun j _ hj => ⟨hm.1.2.2 j hj, fun h => hm.2 j h⟩
    · refine br_f (nI_nlt (b := 1) h1 h2) (br_f hr (hn fun m' hm e => ?_))
      have h5 := hm.1.2.1
      have e2 := nb_inj e h2 (by omega)
      omega
theorem yc_f74 {f t e : Nat} (f1 : 1 ≤ f) (f2 : f < 4096) (t1 : 1 ≤ t) (t2 : t < 4096) (he1 : e ≤ cd_nl f) (he2 : e ≤ cd_nl t) : ∀ (d i : Nat), i + d = e → (al_p (fun j => cd_dg (cd_nl f) f j = 6 ∨ cd_dg (cd_nl f) f j = cd_dg (cd_nl t) t j) i e → post 1) → (¬ al_p (fun j => cd_dg (cd_nl f) f j = 6 ∨ cd_dg (cd_nl f) f j = cd_dg (cd_nl t) t j) i e → post 0) → wY_fits_74 post (nI f) (nI t) (nI e) fk fl gs cn ty vy gy wa ls oy ky vk (d + 1) (nI i) := by
  have h4 := cd_nl_le f2
  intro d
  induction d with
  | zero =>
    intro i hi hy _
    exact br_t (nI_le (by omega) (by omega)) (hy (al_e (by omega)))
  | succ d ih =>
    intro i hi hy hn
    have hd := cd_dg_lt (cd_nl f) f i
    have hd' := cd_dg_lt (cd_nl t) t i
    refine br_f (nI_ge (by omega) (by omega)) (yc_level f1 f2 (by omega) ?_)
    by_cases z6 : cd_dg (cd_nl f) f i = 6
    · exact br_t ((dg_5 _ hd).mpr z6) (nm_r (nI_1 i) (ih (i + 1) (by omega) (fun H => hy (al_s (Or.inl z6) H)) fun H => hn (al_t H)))
    · refine br_f (fun h => z6 ((dg_5 _ hd).mp h)) (yc_level t1 t2 (by omega) ?_)
      by_cases ze : cd_dg (cd_nl f) f i = cd_dg (cd_nl t) t i
      · exact br_t ((dg_e _ hd _ hd').mpr ze) (nm_r (nI_1 i) (ih (i + 1) (by omega) (fun H => hy (al_s (Or.inr ze) H)) fun H => hn (al_t H)))
      · exact br_f (fun h => ze ((dg_e _ hd _ hd').mp h)) (hn (al_n (by omega) (fun h => by
          rcases h with h | h
          · exact z6 h
          · exact ze h)))
theorem yc_fits {f t : Nat} (f1 : 1 ≤ f) (f2 : f < 4096) (t1 : 1 ≤ t) (t2 : t < 4096) (hy : cd_fit f t → post 1) (hn : ¬ cd_fit f t → post 0) : wpY_fits post (fk, fl, gs, cn, ty, vy, gy, wa, ls, oy, ky, vk) (nI f) (nI t) := by
  have hf4 := cd_nl_le f2
  have ht4 := cd_nl_le t2
  have hf1 := cd_nl_pos f1
  have ht1 := cd_nl_pos t1
  have hm : f % 8 < 8 := Nat.mod_lt _ (by decide)
  refine yc_levels f1 (by omega) (fun _ => ?_) fun h => absurd f2 (by omega)
  refine yc_levels t1 (by omega) (fun _ => ?_) fun h => absurd t2 (by omega)
  rw [dg_p hf1]
  refine yc_level f1 f2 (by omega) ?_
  rw [cd_dg_z hf1]
  by_cases z7 : f % 8 = 7
  · have ex : cd_fx f = cd_nl f - 1 := if_pos z7
    refine br_t ((dg_6 _ hm).mpr z7) (br_f (by decide) (br_f (by decide) ?_))
    rw [dg_p hf1, ← ex]
    by_cases zl : cd_fx f ≤ cd_nl t
    · refine br_t (nI_le zl (by omega)) ⟨cd_fx f + 1, yc_f74 f1 f2 t1 t2 (by omega) zl (cd_fx f) 0 (by omega) (fun H => hy ⟨fun _ => zl, fun h => absurd z7 h, fun i hi => H i (by omega) hi⟩) fun H => hn fun h => H fun j _ hj => h.2.2 j hj⟩
    · exact br_f (nI_ge (by omega) (by omega)) (hn fun h => zl (h.1 z7))
  · have ex : cd_fx f = cd_nl f := if_neg z7
    refine br_f (fun h => z7 ((dg_6 _ hm).mp h)) (br_t rfl (br_t rfl ?_))
    rw [← ex]
    by_cases zl : cd_nl t = cd_fx f
    · refine br_t (congrArg nI zl) ⟨cd_fx f + 1, yc_f74 f1 f2 t1 t2 (by omega) (by omega) (cd_fx f) 0 (by omega) (fun H => hy ⟨fun h => absurd h z7, fun _ => zl, fun i hi => H i (by omega) hi⟩) fun H => hn fun h => H fun j _ hj => h.2.2 j hj⟩
    · exact br_f (fun h => zl (nb_inj h (by omega) (by omega))) (hn fun h => zl (h.2.1 z7))
theorem yc_matches {x y : Int32} (hy : ∀ f t, cd_fil f → cd_top t → x = nI f → y = nI t → cd_fit f t → post 1) (hn : (∀ f t, cd_fil f → cd_top t → x = nI f → y = nI t → ¬ cd_fit f t) → post 0) : wpY_matches post (fk, fl, gs, cn, ty, vy, gy, wa, ls, oy, ky, vk) x y := by
  unfold wpY_matches
  refine yc_isFilter (fun f hf ef => ?_) fun h => br_t rfl (hn fun f t hf _ ef => absurd ef (h f hf))
  refine br_f (by decide) (yc_isTopic (fun t ht et => ?_) fun h => br_t rfl (hn fun f t _ ht _ et => absurd et (h t ht)))
  refine br_f (by decide) ?_
  subst ef et
  refine yc_fits hf.1.1 hf.1.2.1 ht.1.1 ht.1.2.1 (fun h => br_f (by decide) (hy f t hf ht rfl rfl h)) fun h => br_t rfl (hn fun f' t' hf' ht' ef et => ?_)
  have e1 := nb_inj ef (by have := hf.1.2.1; omega) (by have := hf'.1.2.1; omega)
  have e2 := nb_inj et (by have := ht.1.2.1; omega) (by have := ht'.1.2.1; omega)
  subst e1 e2
  exact h
end YC
end
section
/-! the component's reading of numbers -/
theorem xc_dig {m n i : Nat} (hn : n ≤ 4) (hi : i < n) (hm : m < 4096) : ((nI m >>> ((3 * ((nI n - 1) - nI i)) &&& 31)) &&& 7) - 1 = nI (cd_dg n m i) - 1 := by
  have e : (3 : Int32) * (nI n - 1 - nI i) = nI (3 * (n - 1 - i)) := by
    rw [dg_p (by omega), pk_sub (by omega)]
    exact pk_mul 3 _
  rw [e]
  have hj : n - 1 - i ≤ 3 := by omega
  unfold cd_dg
  clear e
  generalize n - 1 - i = j at hj ⊢
  have hs : ((nI (3 * j) &&& 31).toBitVec.smod 32).toNat = 3 * j := by
    have hj' : j = 0 ∨ j = 1 ∨ j = 2 ∨ j = 3 := by omega
    rcases hj' with rfl | rfl | rfl | rfl
    all_goals decide
  rw [pk_shrN (by omega) _ (3 * j) hs, pk_andN (Nat.lt_of_le_of_lt (Nat.div_le_self _ _) (by omega)) 3 (by decide), nb_p8]
section XC
variable {kc fw : Int32} {lv ch gr be ow kt kv ol hd ln tq vq gq lo nd dp bs br bz ci : Nat → Int32}
variable {post : Int32 → SX → Prop}
theorem xc_s7 {x : Int32} {m : Nat} (hm : m < 2 ^ 31) : ∀ (d i : Nat), i + d = 4 → (∀ e, i ≤ e → e ≤ 4 → (e = 4 ∨ m / 8 ^ e = 0) → (∀ j, i ≤ j → j < e → m / 8 ^ j ≠ 0) → wX_spread_30 post x (nI e) (nI (m / 8 ^ e)) kc fw lv ch gr be ow kt kv ol hd ln tq vq gq lo nd dp bs br bz ci) → wX_spread_7 post x kc fw lv ch gr be ow kt kv ol hd ln tq vq gq lo nd dp bs br bz ci (d + 1) (nI i) (nI (m / 8 ^ i)) (nI i) := by
  intro d
  induction d with
  | zero =>
    intro i hi K
    exact br_t (nI_le (a := 4) (by omega) (by omega)) (K i (Nat.le_refl _) (by omega) (Or.inl (by omega)) fun j h1 h2 => by omega)
  | succ d ih =>
    intro i hi K
    refine br_f (nI_ge (b := 4) (by omega) (by omega)) ?_
    by_cases z : m / 8 ^ i = 0
    · exact br_t (by rw [z]; decide) (K i (Nat.le_refl _) (by omega) (Or.inr z) fun j h1 h2 => by omega)
    · have hl : m / 8 ^ i < 2 ^ 31 := Nat.lt_of_le_of_lt (Nat.div_le_self _ _) hm
      have e3 : nI (m / 8 ^ i) >>> ((3 : Int32) &&& 31) = nI (m / 8 ^ (i + 1)) := by
        rw [pk_shrN hl _ 3 (by decide), Nat.div_div_eq_div_mul]
        rfl
      refine br_f (nI_nle (Nat.pos_of_ne_zero z) hl) (nm_r e3 (nm_r (nI_1 i) (nm_r (nI_1 i) (ih (i + 1) (by omega) fun e h1 h2 h3 h4 => K e (by omega) h2 h3 fun j h5 h6 => ?_))))
      by_cases zj : j = i
      · rw [zj]; exact z
      · exact h4 j (by omega) h6
theorem xc_s43 {m : Nat} (h1 : 1 ≤ m) (h2 : m < 4096) (good : cd_ok m → ∀ lev', (∀ j, j < cd_nl m → lev' j = nI (en_b m j)) → post (nI (cd_nl m)) (kc, fw, lev', ch, gr, be, ow, kt, kv, ol, hd, ln, tq, vq, gq, lo, nd, dp, bs, br, bz, ci)) (bad : ¬ cd_ok m → ∀ lev', post (-1) (kc, fw, lev', ch, gr, be, ow, kt, kv, ol, hd, ln, tq, vq, gq, lo, nd, dp, bs, br, bz, ci)) : ∀ (d i : Nat) (lev : Nat → Int32), i + d = cd_nl m → (∀ j, j < i → lev j = nI (en_b m j)) → (∀ j, j < i → 1 ≤ cd_dg (cd_nl m) m j) → wX_spread_43 post (nI m) (nI (cd_nl m)) kc fw (d + 1) (nI i) lev ch gr be ow kt kv ol hd ln tq vq gq lo nd dp bs br bz ci := by
  have h4 := cd_nl_le h2
  intro d
  induction d with
  | zero =>
    intro i lev hi hl hd
    exact br_t (nI_le (by omega) (by omega)) (good ⟨h1, h2, fun j hj => hd j (by omega)⟩ lev fun j hj => hl j (by omega))
  | succ d ih =>
    intro i lev hi hl hd
    have hin : vp_in (nI i) 4 := vp_in_nI (by omega) (by decide)
    have hc : (nI i).toNatClampNeg = i := nI_clamp (by omega)
    have hdi := cd_dg_lt (cd_nl m) m i
    refine br_f (nI_ge (by omega) (by omega)) ⟨hin, nm_r (e' := upd lev i (nI (cd_dg (cd_nl m) m i) - 1)) (by rw [hc, xc_dig h4 (by omega) h2]) ⟨hin, ?_⟩⟩
    have hv : upd lev i (nI (cd_dg (cd_nl m) m i) - 1) (nI i).toNatClampNeg = nI (cd_dg (cd_nl m) m i) - 1 := by
      rw [hc]
      exact pk_us
    by_cases z : cd_dg (cd_nl m) m i = 0
    · refine br_f ?_ (bad (fun h => ?_) _)
      · rw [hv, z]
        decide
      · have := h.2.2 i (by omega)
        omega
    · refine br_t ?_ (nm_r (nI_1 i) (ih (i + 1) _ (by omega) ?_ ?_))
      · rw [hv, dg_p (by omega)]
        exact nI_pos' (by omega)
      · intro j hj
        by_cases zj : j = i
        · rw [zj, pk_us, dg_p (by omega)]
          rfl
        · rw [pk_un zj]
          exact hl j (by omega)
      · intro j hj
        by_cases zj : j = i
        · rw [zj]; omega
        · exact hd j (by omega)
theorem xc_spread {x : Int32} (good : ∀ m, cd_ok m → x = nI m → ∀ lev', (∀ j, j < cd_nl m → lev' j = nI (en_b m j)) → post (nI (cd_nl m)) (kc, fw, lev', ch, gr, be, ow, kt, kv, ol, hd, ln, tq, vq, gq, lo, nd, dp, bs, br, bz, ci)) (bad : (∀ m, cd_ok m → x ≠ nI m) → ∀ lev', post (-1) (kc, fw, lev', ch, gr, be, ow, kt, kv, ol, hd, ln, tq, vq, gq, lo, nd, dp, bs, br, bz, ci)) : wpX_spread post (kc, fw, lv, ch, gr, be, ow, kt, kv, ol, hd, ln, tq, vq, gq, lo, nd, dp, bs, br, bz, ci) x := by
  rcases nb_pos x with h | ⟨m, h1, h2, rfl⟩
  · exact ⟨1, br_f (by decide) (br_t h (br_t rfl (bad (fun m hm => nb_le0 h hm.1 (by have := hm.2.1; omega)) lv)))⟩
  · have hK := xc_s7 (kc := kc) (fw := fw) (lv := lv) (ch := ch) (gr := gr) (be := be) (ow := ow) (kt := kt) (kv := kv) (ol := ol) (hd := hd) (ln := ln) (tq := tq) (vq := vq) (gq := gq) (lo := lo) (nd := nd) (dp := dp) (bs := bs) (br := br) (bz := bz) (ci := ci) (post := post) (x := nI m) h2 4 0 rfl fun e _ he h3 h4 => by
      have he1 : 1 ≤ e := by
        by_cases z : e = 0
        · rcases h3 with h | h
          · omega
          · rw [z, Nat.pow_zero, Nat.div_one] at h
            omega
        · omega
      refine br_f (nI_ne0 (by omega) (by omega)) ?_
      by_cases z : m / 8 ^ e = 0
      · have hm : m < 4096 := by
          have h5 : m < 8 ^ e := by
            rcases (Nat.div_eq_zero_iff).mp z with h | h
            · exact absurd h (Nat.ne_of_gt (Nat.pow_pos (by decide)))
            · exact h
          have h6 : 8 ^ e ≤ 8 ^ 4 := Nat.pow_le_pow_right (by decide) he
          have h7 : (8 : Nat) ^ 4 = 4096 := by decide
          omega
        have en : e = cd_nl m := by
          by_cases z1 : e < cd_nl m
          · have := cd_pre_pos h1 hm z1
            omega
          · by_cases z2 : cd_nl m < e
            · exact absurd (cd_pre_0 hm) (h4 _ (Nat.zero_le _) z2)
            · omega
        refine br_t (by rw [z]; decide) ⟨cd_nl m + 1, ?_⟩
        rw [en]
        exact xc_s43 h1 hm (fun hk lev' hl => good m hk rfl lev' hl) (fun hk lev' => bad (fun m' hm' e2 => hk (by
          have e3 := nb_inj e2 h2 (by have := hm'.2.1; omega)
          rw [e3]
          exact hm')) lev') (cd_nl m) 0 lv (by omega) (fun j hj => absurd hj (by omega)) (fun j hj => absurd hj (by omega))
      · have hl : m / 8 ^ e < 2 ^ 31 := Nat.lt_of_le_of_lt (Nat.div_le_self _ _) h2
        refine br_f (nI_nle (Nat.pos_of_ne_zero z) hl) (bad (fun m' hm' e2 => ?_) lv)
        have h5 := hm'.2.1
        have e3 := nb_inj e2 h2 (by omega)
        have e4 : e = 4 := by
          rcases h3 with h | h
          · exact h
          · exact absurd h z
        have h7 : (8 : Nat) ^ 4 = 4096 := by decide
        rw [e4, h7] at z
        omega
    rw [Nat.pow_zero, Nat.div_one] at hK
    exact ⟨5, hK⟩
theorem xc_t8 {m : Nat} (hm : cd_ok m) (hl : ∀ j, j < cd_nl m → lv j = nI (en_b m j)) : ∀ (d i : Nat), i + d = cd_nl m → (al_p (fun j => cd_dg (cd_nl m) m j ≤ 5) i (cd_nl m) → post (nI (cd_nl m)) (kc, fw, lv, ch, gr, be, ow, kt, kv, ol, hd, ln, tq, vq, gq, lo, nd, dp, bs, br, bz, ci)) → (¬ al_p (fun j => cd_dg (cd_nl m) m j ≤ 5) i (cd_nl m) → post (-1) (kc, fw, lv, ch, gr, be, ow, kt, kv, ol, hd, ln, tq, vq, gq, lo, nd, dp, bs, br, bz, ci)) → wX_spreadTopic_8 post (nI (cd_nl m)) kc fw lv ch gr be ow kt kv ol hd ln tq vq gq lo nd dp bs br bz ci (d + 1) (nI i) := by
  have h4 := cd_nl_le hm.2.1
  intro d
  induction d with
  | zero =>
    intro i hi hy _
    exact br_t (nI_le (by omega) (by omega)) (hy (al_e (by omega)))
  | succ d ih =>
    intro i hi hy hn
    obtain ⟨hb, hd⟩ := en_b_lt hm (show i < cd_nl m by omega)
    have hv : lv (nI i).toNatClampNeg = nI (en_b m i) := by
      rw [nI_clamp (by omega)]
      exact hl i (by omega)
    refine br_f (nI_ge (by omega) (by omega)) ⟨vp_in_nI (by omega) (by decide), ?_⟩
    by_cases z : cd_dg (cd_nl m) m i ≤ 5
    · exact br_t (by rw [hv]; exact nI_lt (b := 5) (by omega) (by decide)) (nm_r (nI_1 i) (ih (i + 1) (by omega) (fun H => hy (al_s z H)) fun H => hn (al_t H)))
    · exact br_f (by rw [hv]; exact nI_nlt (b := 5) (by omega) (by omega)) (hn (al_n (by omega) z))
theorem xc_spreadTopic {x : Int32} (good : ∀ m, cd_top m → x = nI m → ∀ lev', (∀ j, j < cd_nl m → lev' j = nI (en_b m j)) → post (nI (cd_nl m)) (kc, fw, lev', ch, gr, be, ow, kt, kv, ol, hd, ln, tq, vq, gq, lo, nd, dp, bs, br, bz, ci)) (bad : (∀ m, cd_top m → x ≠ nI m) → ∀ lev', post (-1) (kc, fw, lev', ch, gr, be, ow, kt, kv, ol, hd, ln, tq, vq, gq, lo, nd, dp, bs, br, bz, ci)) : wpX_spreadTopic post (kc, fw, lv, ch, gr, be, ow, kt, kv, ol, hd, ln, tq, vq, gq, lo, nd, dp, bs, br, bz, ci) x := by
  unfold wpX_spreadTopic
  refine xc_spread (fun m hm e lev' hl => ?_) fun h lev' => ?_
  · refine ⟨cd_nl m + 1, xc_t8 hm hl (cd_nl m) 0 (by omega) (fun H => good m ⟨hm, fun j hj => H j (by omega) hj⟩ e lev' hl) fun H => bad (fun m' hm' e2 => H ?_) lev'⟩
    rw [e] at e2
    have e3 := nb_inj e2 (by have := hm.2.1; omega) (by have := hm'.1.2.1; omega)
    rw [e3]
    exact fun j _ hj => hm'.2 j hj
  · exact ⟨1, br_t (by decide : (-1 : Int32) ≤ 0) (bad (fun m hm => h m hm.1) lev')⟩
theorem xc_f8 {m : Nat} (hm : cd_ok m) (hl : ∀ j, j < cd_nl m → lv j = nI (en_b m j)) : ∀ (d i : Nat), i + d + 1 = cd_nl m → (al_p (fun j => cd_dg (cd_nl m) m j ≠ 7) i (cd_nl m - 1) → post (nI (cd_nl m)) (kc, fw, lv, ch, gr, be, ow, kt, kv, ol, hd, ln, tq, vq, gq, lo, nd, dp, bs, br, bz, ci)) → (¬ al_p (fun j => cd_dg (cd_nl m) m j ≠ 7) i (cd_nl m - 1) → post (-1) (kc, fw, lv, ch, gr, be, ow, kt, kv, ol, hd, ln, tq, vq, gq, lo, nd, dp, bs, br, bz, ci)) → wX_spreadFilter_8 post (nI (cd_nl m)) kc fw lv ch gr be ow kt kv ol hd ln tq vq gq lo nd dp bs br bz ci (d + 1) (nI i) := by
  have h4 := cd_nl_le hm.2.1
  intro d
  induction d with
  | zero =>
    intro i hi hy _
    refine br_t ?_ (hy (al_e (by omega)))
    rw [dg_p (by omega)]
    exact nI_le (by omega) (by omega)
  | succ d ih =>
    intro i hi hy hn
    obtain ⟨hb, hd⟩ := en_b_lt hm (show i < cd_nl m by omega)
    have hv : lv (nI i).toNatClampNeg = nI (en_b m i) := by
      rw [nI_clamp (by omega)]
      exact hl i (by omega)
    refine br_f (by rw [dg_p (by omega)]; exact nI_ge (by omega) (by omega)) ⟨vp_in_nI (by omega) (by decide), ?_⟩
    by_cases z : cd_dg (cd_nl m) m i = 7
    · exact br_t (by rw [hv]; exact congrArg nI (show en_b m i = 6 by omega)) (hn (al_n (by omega) (fun h => h z)))
    · refine br_f ?_ (nm_r (nI_1 i) (ih (i + 1) (by omega) (fun H => hy (al_s z H)) fun H => hn (al_t H)))
      rw [hv]
      intro h
      have := nb_inj (b := 6) h (by omega) (by decide)
      omega
theorem xc_spreadFilter {x : Int32} (good : ∀ m, cd_fil m → x = nI m → ∀ lev', (∀ j, j < cd_nl m → lev' j = nI (en_b m j)) → post (nI (cd_nl m)) (kc, fw, lev', ch, gr, be, ow, kt, kv, ol, hd, ln, tq, vq, gq, lo, nd, dp, bs, br, bz, ci)) (bad : (∀ m, cd_fil m → x ≠ nI m) → ∀ lev', post (-1) (kc, fw, lev', ch, gr, be, ow, kt, kv, ol, hd, ln, tq, vq, gq, lo, nd, dp, bs, br, bz, ci)) : wpX_spreadFilter post (kc, fw, lv, ch, gr, be, ow, kt, kv, ol, hd, ln, tq, vq, gq, lo, nd, dp, bs, br, bz, ci) x := by
  unfold wpX_spreadFilter
  refine xc_spread (fun m hm e lev' hl => ?_) fun h lev' => ?_
  · have h1 := cd_nl_pos hm.1
    refine ⟨cd_nl m - 1 + 1, xc_f8 hm hl (cd_nl m - 1) 0 (by omega) (fun H => good m ⟨hm, fun j hj => H j (by omega) (by omega)⟩ e lev' hl) fun H => bad (fun m' hm' e2 => H ?_) lev'⟩
    rw [e] at e2
    have e3 := nb_inj e2 (by have := hm.2.1; omega) (by have := hm'.1.2.1; omega)
    rw [e3]
    exact fun j _ hj => hm'.2 j (by omega)
  · exact ⟨1, br_t (by decide : (-1 : Int32) - 1 ≤ 0) (bad (fun m hm => h m hm.1) lev')⟩
theorem xc_m83 {f t e : Nat} (hf : cd_ok f) (hl : ∀ j, j < cd_nl f → lv j = nI (en_b f j)) (t2 : t < 4096) (he1 : e ≤ cd_nl f) (he2 : e ≤ cd_nl t) : ∀ (d i : Nat), i + d = e → (al_p (fun j => cd_dg (cd_nl f) f j = 6 ∨ cd_dg (cd_nl f) f j = cd_dg (cd_nl t) t j) i e → post 1 (kc, fw, lv, ch, gr, be, ow, kt, kv, ol, hd, ln, tq, vq, gq, lo, nd, dp, bs, br, bz, ci)) → (¬ al_p (fun j => cd_dg (cd_nl f) f j = 6 ∨ cd_dg (cd_nl f) f j = cd_dg (cd_nl t) t j) i e → post 0 (kc, fw, lv, ch, gr, be, ow, kt, kv, ol, hd, ln, tq, vq, gq, lo, nd, dp, bs, br, bz, ci)) → wX_matches_83 post (nI t) (nI (cd_nl t)) (nI e) kc fw lv ch gr be ow kt kv ol hd ln tq vq gq lo nd dp bs br bz ci (d + 1) (nI i) := by
  have h4 := cd_nl_le hf.2.1
  have t4 := cd_nl_le t2
  intro d
  induction d with
  | zero =>
    intro i hi hy _
    exact br_t (nI_le (by omega) (by omega)) (hy (al_e (by omega)))
  | succ d ih =>
    intro i hi hy hn
    obtain ⟨hb, hdd⟩ := en_b_lt hf (show i < cd_nl f by omega)
    have hd := cd_dg_lt (cd_nl f) f i
    have hd' := cd_dg_lt (cd_nl t) t i
    have hin : vp_in (nI i) 4 := vp_in_nI (by omega) (by decide)
    have hv : lv (nI i).toNatClampNeg = nI (cd_dg (cd_nl f) f i) - 1 := by
      rw [nI_clamp (by omega), hl i (by omega), dg_p (by omega)]
      rfl
    refine br_f (nI_ge (by omega) (by omega)) ⟨hin, ?_⟩
    by_cases z6 : cd_dg (cd_nl f) f i = 6
    · exact br_t (by rw [hv]; exact (dg_5 _ hd).mpr z6) (nm_r (nI_1 i) (ih (i + 1) (by omega) (fun H => hy (al_s (Or.inl z6) H)) fun H => hn (al_t H)))
    · refine br_f (by rw [hv]; exact fun h => z6 ((dg_5 _ hd).mp h)) ⟨hin, ?_⟩
      unfold wpX_levelOf
      dsimp only
      rw [xc_dig t4 (by omega) t2]
      by_cases ze : cd_dg (cd_nl f) f i = cd_dg (cd_nl t) t i
      · exact br_t (by rw [hv]; exact (dg_e _ hd _ hd').mpr ze) (nm_r (nI_1 i) (ih (i + 1) (by omega) (fun H => hy (al_s (Or.inr ze) H)) fun H => hn (al_t H)))
      · exact br_f (by rw [hv]; exact fun h => ze ((dg_e _ hd _ hd').mp h)) (hn (al_n (by omega) (fun h => by
          rcases h with h | h
          · exact z6 h
          · exact ze h)))
theorem xc_m43 {f t : Nat} (hf : cd_ok f) (hl : ∀ j, j < cd_nl f → lv j = nI (en_b f j)) (t1 : 1 ≤ t) (t2 : t < 4096) (hy : cd_fit f t → post 1 (kc, fw, lv, ch, gr, be, ow, kt, kv, ol, hd, ln, tq, vq, gq, lo, nd, dp, bs, br, bz, ci)) (hn : ¬ cd_fit f t → post 0 (kc, fw, lv, ch, gr, be, ow, kt, kv, ol, hd, ln, tq, vq, gq, lo, nd, dp, bs, br, bz, ci)) : ((lv (nI (cd_nl f) - 1).toNatClampNeg = 6 → wX_matches_43 post (nI t) (nI (cd_nl t)) (nI (cd_nl f)) 1 kc fw lv ch gr be ow kt kv ol hd ln tq vq gq lo nd dp bs br bz ci) ∧ (¬ lv (nI (cd_nl f) - 1).toNatClampNeg = 6 → wX_matches_43 post (nI t) (nI (cd_nl t)) (nI (cd_nl f)) 0 kc fw lv ch gr be ow kt kv ol hd ln tq vq gq lo nd dp bs br bz ci)) := by
  have hf4 := cd_nl_le hf.2.1
  have ht4 := cd_nl_le t2
  have hf1 := cd_nl_pos hf.1
  have ht1 := cd_nl_pos t1
  obtain ⟨hb, hdd⟩ := en_b_lt hf (show cd_nl f - 1 < cd_nl f by omega)
  rw [cd_dg_z hf1] at hdd
  have hv : lv (nI (cd_nl f) - 1).toNatClampNeg = nI (en_b f (cd_nl f - 1)) := by
    rw [dg_p hf1, nI_clamp (by omega)]
    exact hl _ (by omega)
  by_cases z7 : f % 8 = 7
  · have ex : cd_fx f = cd_nl f - 1 := if_pos z7
    refine br_t (by rw [hv]; exact congrArg nI (show en_b f (cd_nl f - 1) = 6 by omega)) (br_f (by decide) ?_)
    rw [dg_p hf1, ← ex]
    by_cases zl : cd_fx f ≤ cd_nl t
    · exact br_f (nI_nlt zl (by omega)) (br_f (by decide) ⟨cd_fx f + 1, xc_m83 hf hl t2 (by omega) zl (cd_fx f) 0 (by omega) (fun H => hy ⟨fun _ => zl, fun h => absurd z7 h, fun i hi => H i (by omega) hi⟩) fun H => hn fun h => H fun j _ hj => h.2.2 j hj⟩)
    · exact br_t (nI_lt (by omega) (by omega)) (hn fun h => zl (h.1 z7))
  · have ex : cd_fx f = cd_nl f := if_neg z7
    refine br_f ?_ (br_t rfl ?_)
    · rw [hv]
      intro h
      have := nb_inj (b := 6) h (by omega) (by decide)
      omega
    · rw [← ex]
      by_cases zl : cd_nl t < cd_fx f
      · exact br_t (nI_lt (by omega) (by omega)) (hn fun h => by have := h.2.1 z7; omega)
      · refine br_f (nI_nlt (by omega) (by omega)) (br_t rfl ?_)
        by_cases ze : cd_nl t = cd_fx f
        · exact br_t (congrArg nI ze) ⟨cd_fx f + 1, xc_m83 hf hl t2 (by omega) (by omega) (cd_fx f) 0 (by omega) (fun H => hy ⟨fun h => absurd h z7, fun _ => ze, fun i hi => H i (by omega) hi⟩) fun H => hn fun h => H fun j _ hj => h.2.2 j hj⟩
        · exact br_f (fun h => ze (nb_inj h (by omega) (by omega))) (hn fun h => ze (h.2.1 z7))
theorem xc_matches {x y : Int32} (hy : ∀ f t, cd_fil f → cd_top t → x = nI f → y = nI t → cd_fit f t → ∀ lev', post 1 (kc, fw, lev', ch, gr, be, ow, kt, kv, ol, hd, ln, tq, vq, gq, lo, nd, dp, bs, br, bz, ci)) (hn : (∀ f t, cd_fil f → cd_top t → x = nI f → y = nI t → ¬ cd_fit f t) → ∀ lev', post 0 (kc, fw, lev', ch, gr, be, ow, kt, kv, ol, hd, ln, tq, vq, gq, lo, nd, dp, bs, br, bz, ci)) : wpX_matches post (kc, fw, lv, ch, gr, be, ow, kt, kv, ol, hd, ln, tq, vq, gq, lo, nd, dp, bs, br, bz, ci) x y := by
  unfold wpX_matches
  refine xc_spreadTopic (fun t ht et lev1 _ => ?_) fun h1 lev1 => ?_
  · refine xc_spreadFilter (fun f hf ef lev2 hl => ?_) fun h2 lev2 => ?_
    · have ht4 := ht.1.2.1
      have hf4 := hf.1.2.1
      have hnt := cd_nl_le ht4
      have hnf := cd_nl_le hf4
      have hf1 := cd_nl_pos hf.1.1
      rw [et]
      refine br_f (nI_pos (by omega)) (br_t (nI_pos' (by omega)) ⟨by rw [dg_p hf1]; exact vp_in_nI (by omega) (by decide), ?_⟩)
      refine xc_m43 hf.1 hl ht.1.1 ht4 (fun h => hy f t hf ht ef et h lev2) fun h => hn (fun f' t' hf' ht' ef' et' => ?_) lev2
      have e1 := nb_inj (ef.symm.trans ef') (by omega) (by have := hf'.1.2.1; omega)
      have e2 := nb_inj (et.symm.trans et') (by omega) (by have := ht'.1.2.1; omega)
      subst e1 e2
      exact h
    · have hnt := cd_nl_le ht.1.2.1
      exact br_f (nI_pos (by omega)) (br_f (by decide) (hn (fun f' t' hf' ht' ef' et' => absurd ef' (h2 f' hf')) lev2))
  · refine xc_spreadFilter (fun f hf ef lev2 hl => ?_) fun h2 lev2 => ?_
    · exact br_t (by decide) (hn (fun f' t' hf' ht' ef' et' => absurd et' (h1 t' ht')) lev2)
    · exact br_t (by decide) (hn (fun f' t' hf' ht' ef' et' => absurd et' (h1 t' ht')) lev2)
end XC
end
section
/-! the component's tree: a fresh node, the node of a filter, enter, leave -/
theorem xt_ix {k b : Nat} : nI k * 7 + nI b = nI (k * 7 + b) := by
  rw [show nI k * 7 = nI (k * 7) from pk_mul k 7, nI_add]
theorem xt_ix4 {k b : Nat} : nI k * 4 + nI b = nI (k * 4 + b) := by
  rw [show nI k * 4 = nI (k * 4) from pk_mul k 4, nI_add]
theorem tr_down {L : Nat → List (Nat × Nat)} (hL : tr_L L) {f : Nat} (hf : cd_ok f) : ∀ m, m < cd_nl f → tr_w L (f / 8 ^ m) = 0 → tr_w L f = 0 := by
  intro m
  induction m with
  | zero =>
    intro _ h
    rw [Nat.pow_zero, Nat.div_one] at h
    exact h
  | succ m ih =>
    intro hm h
    refine ih (by omega) ?_
    have hi : cd_nl f - (m + 1) < cd_nl f := by omega
    have hq := en_q hf hi
    rw [show cd_nl f - (cd_nl f - (m + 1) + 1) = m by omega, show cd_nl f - (cd_nl f - (m + 1)) = m + 1 by omega] at hq
    rw [hq]
    exact tr_closed hL (cd_pre_pos hf.1 hf.2.1 hm) (en_b_lt hf hi).1 h
section XT
variable {kc fw : Int32} {lv ch gr be ow kt kv ol hd ln tq vq gq lo nd dp bs br bz ci : Nat → Int32}
theorem xt_f28 {post : Int32 → SX → Prop} {k : Nat} (hk : k ≤ 80) (K : ∀ ch' : Nat → Int32, (∀ b, b < 7 → ch' (k * 7 + b) = 0) → (∀ j, (j < k * 7 ∨ k * 7 + 7 ≤ j) → ch' j = ch j) → post (nI k) (kc, fw, lv, ch', gr, be, ow, kt, kv, ol, hd, ln, tq, vq, gq, lo, nd, dp, bs, br, bz, ci)) : ∀ (d i : Nat) (ch1 : Nat → Int32), i + d = 7 → (∀ b, b < i → ch1 (k * 7 + b) = 0) → (∀ j, (j < k * 7 ∨ k * 7 + 7 ≤ j) → ch1 j = ch j) → wX_freshNode_28 post (nI k) kc fw (d + 1) (nI i) lv ch1 gr be ow kt kv ol hd ln tq vq gq lo nd dp bs br bz ci := by
  intro d
  induction d with
  | zero =>
    intro i ch1 hi h1 h2
    exact br_t (nI_le (a := 7) (by omega) (by omega)) (K ch1 (fun b hb => h1 b (by omega)) h2)
  | succ d ih =>
    intro i ch1 hi h1 h2
    have hix : (nI k * 7 + nI i).toNatClampNeg = k * 7 + i := by
      rw [xt_ix]
      exact nI_clamp (by omega)
    refine br_f (nI_ge (b := 7) (by omega) (by omega)) ⟨by rw [xt_ix]; exact vp_in_nI (by omega) (by decide), nm_r (e' := upd ch1 (k * 7 + i) 0) (by rw [hix]) (nm_r (nI_1 i) (ih (i + 1) _ (by omega) ?_ ?_))⟩
    · intro b hb
      by_cases z : b = i
      · rw [z]; exact pk_us
      · rw [pk_un (by omega)]
        exact h1 b (by omega)
    · intro j hj
      rw [pk_un (by omega)]
      exact h2 j hj
theorem xt_f5 {post : Int32 → SX → Prop} (K : ∀ k, 1 ≤ k → k ≤ 80 → (be k = 0 ∨ ∀ k', 1 ≤ k' → k' ≤ 80 → be k' ≠ 0) → ∃ n28 : Nat, wX_freshNode_28 post (nI k) kc fw n28 0 lv ch gr be ow kt kv ol hd ln tq vq gq lo nd dp bs br bz ci) : ∀ (j x : Nat), j ≤ 80 → 1 ≤ x → x ≤ 80 → (be x = 0 ∨ ∀ k', j + 1 ≤ k' → k' ≤ 80 → be k' ≠ 0) → wX_freshNode_5 post kc fw lv ch gr be ow kt kv ol hd ln tq vq gq lo nd dp bs br bz ci (j + 1) (nI x) (nI j) := by
  intro j
  induction j with
  | zero =>
    intro x _ h1 h2 h3
    exact br_t (by decide : nI 0 ≤ 0) (K x h1 h2 h3)
  | succ j ih =>
    intro x hj h1 h2 h3
    have hc : (nI (j + 1)).toNatClampNeg = j + 1 := nI_clamp (by omega)
    refine br_f (nI_nle (by omega) (by omega)) ⟨vp_in_nI (by omega) (by decide), ?_⟩
    by_cases z : be (j + 1) = 0
    · exact br_t (by rw [hc]; exact z) (nm_r (pk_m1 j) (ih (j + 1) (by omega) (by omega) hj (Or.inl z)))
    · refine br_f (by rw [hc]; exact z) (nm_r (pk_m1 j) (ih x (by omega) h1 h2 ?_))
      rcases h3 with h | h
      · exact Or.inl h
      · refine Or.inr fun k' a1 a2 => ?_
        by_cases e : k' = j + 1
        · rw [e]; exact z
        · exact h k' (by omega) a2
theorem xt_fresh {post : Int32 → SX → Prop} (h : ∃ k, 1 ≤ k ∧ k ≤ 80 ∧ be k = 0) (K : ∀ (k : Nat) (ch' : Nat → Int32), 1 ≤ k → k ≤ 80 → be k = 0 → (∀ b, b < 7 → ch' (k * 7 + b) = 0) → (∀ j, (j < k * 7 ∨ k * 7 + 7 ≤ j) → ch' j = ch j) → post (nI k) (kc, fw, lv, ch', gr, be, ow, kt, kv, ol, hd, ln, tq, vq, gq, lo, nd, dp, bs, br, bz, ci)) : wpX_freshNode post (kc, fw, lv, ch, gr, be, ow, kt, kv, ol, hd, ln, tq, vq, gq, lo, nd, dp, bs, br, bz, ci) := by
  refine ⟨81, xt_f5 (fun k k1 k2 k3 => ?_) 80 1 (by decide) (by decide) (by decide) (Or.inr fun k' a1 a2 => by omega)⟩
  have k4 : be k = 0 := by
    rcases k3 with z | z
    · exact z
    · obtain ⟨k', a1, a2, a3⟩ := h
      exact absurd a3 (z k' a1 a2)
  exact ⟨8, xt_f28 k2 (fun ch' c1 c2 => K k ch' k1 k2 k4 c1 c2) 7 0 ch (by decide) (fun b hb => absurd hb (by omega)) fun j _ => rfl⟩
theorem xt_n4 {post : Int32 → Prop} {L : Nat → List (Nat × Nat)} {pa : Nat → Nat} {f : Nat} (hL : tr_L L) (hf : cd_ok f) (T : tr_ok ch be pa (tr_w L)) (hl : ∀ j, j < cd_nl f → lv j = nI (en_b f j)) (K1 : tr_w L f = 0 → post (-1)) (K2 : ∀ x, 1 ≤ x → x ≤ 80 → pa x = f → post (nI x)) : ∀ (d i x : Nat), i + d = cd_nl f → x ≤ 80 → (x = 0 ∨ pa x ≠ 0) → pa x = f / 8 ^ (cd_nl f - i) → wX_nodeOf_4 post (nI (cd_nl f)) kc fw lv ch gr be ow kt kv ol hd ln tq vq gq lo nd dp bs br bz ci (d + 1) (nI x) (nI i) := by
  have h4 := cd_nl_le hf.2.1
  intro d
  induction d with
  | zero =>
    intro i x hi hx ax hp
    refine br_t (nI_le (by omega) (by omega)) ?_
    rw [show cd_nl f - i = 0 by omega, Nat.pow_zero, Nat.div_one] at hp
    refine K2 x ?_ hx hp
    by_cases z : x = 0
    · rw [z, T.1] at hp
      have := hf.1
      omega
    · omega
  | succ d ih =>
    intro i x hi hx ax hp
    have hii : i < cd_nl f := by omega
    obtain ⟨hb, hd⟩ := en_b_lt hf hii
    have hq := en_q hf hii
    rw [← hp] at hq
    have hv : lv (nI i).toNatClampNeg = nI (en_b f i) := by
      rw [nI_clamp (by omega)]
      exact hl i hii
    have hix : (nI x * 7 + lv (nI i).toNatClampNeg) = nI (x * 7 + en_b f i) := by
      rw [hv, xt_ix]
    refine br_f (nI_ge (by omega) (by omega)) ⟨vp_in_nI (by omega) (by decide), by rw [hix]; exact vp_in_nI (by omega) (by decide), nm_r (e' := ch (x * 7 + en_b f i)) (by rw [hix, nI_clamp (by omega)]) ?_⟩
    rcases T.2.2.2.1 x (en_b f i) hx ax hb with ⟨c0, w0⟩ | ⟨y, y1, y2, y3, y4⟩
    · refine br_t c0 (K1 ?_)
      rw [← hq] at w0
      exact tr_down hL hf (cd_nl f - (i + 1)) (by omega) w0
    · rw [y3]
      exact br_f (nI_ne0 (by omega) (by omega)) (nm_r (nI_1 i) (ih (i + 1) y (by omega) y2 (Or.inr (by omega)) (by omega)))
theorem xt_nodeOf {post : Int32 → Prop} {L : Nat → List (Nat × Nat)} {pa : Nat → Nat} {f : Nat} (hL : tr_L L) (hf : cd_ok f) (T : tr_ok ch be pa (tr_w L)) (hl : ∀ j, j < cd_nl f → lv j = nI (en_b f j)) (K1 : tr_w L f = 0 → post (-1)) (K2 : ∀ x, 1 ≤ x → x ≤ 80 → pa x = f → post (nI x)) : wpX_nodeOf post (kc, fw, lv, ch, gr, be, ow, kt, kv, ol, hd, ln, tq, vq, gq, lo, nd, dp, bs, br, bz, ci) (nI (cd_nl f)) :=
  ⟨cd_nl f + 1, xt_n4 hL hf T hl K1 K2 (cd_nl f) 0 0 (by omega) (by omega) (Or.inl rfl) (by rw [T.1, Nat.sub_zero, cd_pre_0 hf.2.1])⟩
theorem xt_e18 {post : Int32 → SX → Prop} {L : Nat → List (Nat × Nat)} {f : Nat} (hL : tr_L L) (hf : cd_ok f) (hs : tr_ss L cd_nl ≤ 76) (hl : ∀ j, j < cd_nl f → lv j = nI (en_b f j)) (K : ∀ (x : Nat) (ch be : Nat → Int32), en_I f (cd_nl f) L ch gr be x → post (nI x) (kc, fw, lv, ch, gr, be, ow, kt, kv, ol, hd, ln, tq, vq, gq, lo, nd, dp, bs, br, bz, ci)) : ∀ (d i x : Nat) (ch be : Nat → Int32), i + d = cd_nl f → en_I f i L ch gr be x → wX_enter_18 post (nI (cd_nl f)) (d + 1) (nI x) (nI i) kc fw lv ch gr be ow kt kv ol hd ln tq vq gq lo nd dp bs br bz ci := by
  have h4 := cd_nl_le hf.2.1
  intro d
  induction d with
  | zero =>
    intro i x ch be hi I
    refine br_t (nI_le (by omega) (by omega)) (K x ch be ?_)
    rw [show cd_nl f = i by omega]
    exact I
  | succ d ih =>
    intro i x ch be hi I
    have hii : i < cd_nl f := by omega
    obtain ⟨hb, hd⟩ := en_b_lt hf hii
    obtain ⟨hx, hcs⟩ := en_step hL hf hii hs I
    have hv : lv (nI i).toNatClampNeg = nI (en_b f i) := by
      rw [nI_clamp (by omega)]
      exact hl i hii
    have hix : (nI x * 7 + lv (nI i).toNatClampNeg) = nI (x * 7 + en_b f i) := by
      rw [hv, xt_ix]
    have hin : vp_in (nI x * 7 + lv (nI i).toNatClampNeg) 567 := by
      rw [hix]
      exact vp_in_nI (by omega) (by decide)
    have hin4 : vp_in (nI i) 4 := vp_in_nI (by omega) (by decide)
    have hcl : (nI x * 7 + lv (nI i).toNatClampNeg).toNatClampNeg = x * 7 + en_b f i := by
      rw [hix]
      exact nI_clamp (by omega)
    refine br_f (nI_ge (by omega) (by omega)) ⟨hin4, hin, nm_r (e' := ch (x * 7 + en_b f i)) (by rw [hcl]) ?_⟩
    rcases hcs with ⟨y, y1, y2, y3, y4⟩ | ⟨c0, hfr, hnew⟩
    · have hy : vp_in (nI y) 81 := vp_in_nI (by omega) (by decide)
      rw [y3]
      refine br_f (nI_ne0 (by omega) (by omega)) (And.intro hy (And.intro hy (nm_r (e' := upd be y (be y + 1)) (by rw [nI_clamp (by omega)]) (nm_r (nI_1 i) (ih (i + 1) y _ _ (by omega) y4)))))
    · refine br_t c0 (xt_fresh hfr fun k ch' k1 k2 k3 k4 k5 => ?_)
      have hk : vp_in (nI k) 81 := vp_in_nI (by omega) (by decide)
      refine And.intro hin4 (And.intro hin (nm_r (e' := upd ch' (x * 7 + en_b f i) (nI k)) (by rw [hcl]) (And.intro hk (And.intro hk (nm_r (e' := upd be k (be k + 1)) (by rw [nI_clamp (by omega)]) (nm_r (nI_1 i) (ih (i + 1) k _ _ (by omega) (hnew k ch' k1 k2 k3 k4 k5))))))))
theorem xt_enter {post : Int32 → SX → Prop} {L : Nat → List (Nat × Nat)} {pa : Nat → Nat} {f : Nat} (hL : tr_L L) (hf : cd_ok f) (hs : tr_ss L cd_nl ≤ 76) (hl : ∀ j, j < cd_nl f → lv j = nI (en_b f j)) (P : tr_P ch gr be L pa) (K : ∀ (x : Nat) (ch be : Nat → Int32), en_I f (cd_nl f) L ch gr be x → post (nI x) (kc, fw, lv, ch, gr, be, ow, kt, kv, ol, hd, ln, tq, vq, gq, lo, nd, dp, bs, br, bz, ci)) : wpX_enter post (kc, fw, lv, ch, gr, be, ow, kt, kv, ol, hd, ln, tq, vq, gq, lo, nd, dp, bs, br, bz, ci) (nI (cd_nl f)) :=
  nm_e ⟨cd_nl f + 1, xt_e18 hL hf hs hl K (cd_nl f) 0 0 _ _ (by omega) (en_0 hf P)⟩
theorem xt_l18 {post : SX → Prop} {L : Nat → List (Nat × Nat)} {f : Nat} (hL : tr_L L) (hf : cd_ok f) (hl : ∀ j, j < cd_nl f → lv j = nI (en_b f j)) (K : ∀ (x : Nat) (ch be : Nat → Int32), le_I f (cd_nl f) L ch gr be x → post (kc, fw, lv, ch, gr, be, ow, kt, kv, ol, hd, ln, tq, vq, gq, lo, nd, dp, bs, br, bz, ci)) : ∀ (d i x : Nat) (ch be : Nat → Int32), i + d = cd_nl f → le_I f i L ch gr be x → wX_leave_18 post (nI (cd_nl f)) kc fw (d + 1) (nI x) (nI i) lv ch gr be ow kt kv ol hd ln tq vq gq lo nd dp bs br bz ci := by
  have h4 := cd_nl_le hf.2.1
  intro d
  induction d with
  | zero =>
    intro i x ch be hi I
    refine br_t (nI_le (by omega) (by omega)) (K x ch be ?_)
    rw [show cd_nl f = i by omega]
    exact I
  | succ d ih =>
    intro i x ch be hi I
    have hii : i < cd_nl f := by omega
    obtain ⟨hb, hd⟩ := en_b_lt hf hii
    obtain ⟨hx, y, y1, y2, y3, hcs⟩ := le_step hL hf hii I
    have hv : lv (nI i).toNatClampNeg = nI (en_b f i) := by
      rw [nI_clamp (by omega)]
      exact hl i hii
    have hix : (nI x * 7 + lv (nI i).toNatClampNeg) = nI (x * 7 + en_b f i) := by
      rw [hv, xt_ix]
    have hin : vp_in (nI x * 7 + lv (nI i).toNatClampNeg) 567 := by
      rw [hix]
      exact vp_in_nI (by omega) (by decide)
    have hin4 : vp_in (nI i) 4 := vp_in_nI (by omega) (by decide)
    have hcl : (nI x * 7 + lv (nI i).toNatClampNeg).toNatClampNeg = x * 7 + en_b f i := by
      rw [hix]
      exact nI_clamp (by omega)
    have hy : vp_in (nI y) 81 := vp_in_nI (by omega) (by decide)
    have hyc : (nI y).toNatClampNeg = y := nI_clamp (by omega)
    refine br_f (nI_ge (by omega) (by omega)) ⟨hin4, hin, nm_r (e' := nI y) (by rw [hcl]; exact y3) ⟨hy, hy, nm_r (e' := upd be y (be y - 1)) (by rw [hyc]) ⟨hy, ?_⟩⟩⟩
    have hu : upd be y (be y - 1) (nI y).toNatClampNeg = be y - 1 := by
      rw [hyc]
      exact pk_us
    rcases hcs with ⟨z, I2⟩ | ⟨z, I2⟩
    · exact br_t (hu.trans z) ⟨hin4, hin, nm_r (e' := upd ch (x * 7 + en_b f i) 0) (by rw [hcl]) (nm_r (nI_1 i) (ih (i + 1) y _ _ (by omega) I2))⟩
    · exact br_f (fun h => z (hu.symm.trans h)) (nm_r (nI_1 i) (ih (i + 1) y _ _ (by omega) I2))
theorem xt_leave {post : SX → Prop} {L : Nat → List (Nat × Nat)} {f : Nat} (hL : tr_L L) (hf : cd_ok f) (hl : ∀ j, j < cd_nl f → lv j = nI (en_b f j)) (I : le_I f 0 L ch gr (upd be 0 (be 0 - 1)) 0) (K : ∀ (x : Nat) (ch be : Nat → Int32), le_I f (cd_nl f) L ch gr be x → post (kc, fw, lv, ch, gr, be, ow, kt, kv, ol, hd, ln, tq, vq, gq, lo, nd, dp, bs, br, bz, ci)) : wpX_leave post (kc, fw, lv, ch, gr, be, ow, kt, kv, ol, hd, ln, tq, vq, gq, lo, nd, dp, bs, br, bz, ci) (nI (cd_nl f)) :=
  nm_e ⟨cd_nl f + 1, xt_l18 hL hf hl K (cd_nl f) 0 0 _ _ (by omega) I⟩
end XT
end
section
/-! the queues: the component's are round, the reference's begin at 12 c -/
def qu_a (h l c : Nat) (a b : Nat → Int32) : Prop := ∀ i, i < l → a (c * 12 + (h + i) % 12) = b (c * 12 + i)
def qu_ok (hd ln tq vq gq ty vy gy : Nat → Int32) : Prop := ∀ c, c < 4 → ∃ h l : Nat, h < 12 ∧ l ≤ 12 ∧ hd c = nI h ∧ ln c = nI l ∧ qu_a h l c tq ty ∧ qu_a h l c vq vy ∧ qu_a h l c gq gy
/-- a' is a with what follows B moved down by one, i cells of it -/
def qu_sh (B i : Nat) (a a' : Nat → Int32) : Prop := (∀ j, j < i → a' (B + j) = a (B + j + 1)) ∧ ∀ j, (j < B ∨ B + i ≤ j) → a' j = a j
theorem qu_sh_0 {B : Nat} {a : Nat → Int32} : qu_sh B 0 a a := ⟨fun j hj => absurd hj (by omega), fun j _ => rfl⟩
theorem qu_sh_s {B i : Nat} {a a' : Nat → Int32} (h : qu_sh B i a a') : qu_sh B (i + 1) a (upd a' (B + i) (a' (B + i + 1))) := by
  refine ⟨fun j hj => ?_, fun j hj => ?_⟩
  · by_cases z : j = i
    · rw [z, pk_us]
      exact h.2 _ (by omega)
    · rw [pk_un (by omega)]
      exact h.1 j (by omega)
  · rw [pk_un (by omega)]
    exact h.2 j (by omega)
theorem qu_push {h l c : Nat} {a b : Nat → Int32} {x : Int32} (hl : l < 12) (H : qu_a h l c a b) : qu_a h (l + 1) c (upd a (c * 12 + (h + l) % 12) x) (upd b (c * 12 + l) x) := by
  intro i hi
  by_cases z : i = l
  · rw [z, pk_us, pk_us]
  · rw [pk_un (by omega), pk_un (by omega)]
    exact H i (by omega)
theorem qu_oth {h l c c' m n : Nat} {a b : Nat → Int32} {x : Int32} (hc : c' ≠ c) (hl : l ≤ 12) (hm : m < 12) (hn : n < 12) (H : qu_a h l c' a b) : qu_a h l c' (upd a (c * 12 + m) x) (upd b (c * 12 + n) x) := by
  intro i hi
  rw [pk_un (by omega), pk_un (by omega)]
  exact H i hi
theorem qu_pop {h l c : Nat} {a b b' : Nat → Int32} (hs : qu_sh (c * 12) l b b') (H : qu_a h (l + 1) c a b) : qu_a ((h + 1) % 12) l c a b' := by
  intro i hi
  rw [hs.1 i hi, show ((h + 1) % 12 + i) % 12 = (h + (i + 1)) % 12 by omega]
  exact H (i + 1) (by omega)
theorem qu_poth {h l c c' n : Nat} {a b b' : Nat → Int32} (hc : c' ≠ c) (hl : l ≤ 12) (hn : n ≤ 12) (hs : qu_sh (c * 12) n b b') (H : qu_a h l c' a b) : qu_a h l c' a b' := by
  intro i hi
  rw [hs.2 _ (by omega)]
  exact H i hi
theorem qu_12 (c : Nat) : nI c * 12 = nI (c * 12) := pk_mul c 12
theorem qu_21 (c : Nat) : 12 * nI c = nI (c * 12) := by
  rw [show 12 * nI c = nI (12 * c) from pk_mul 12 c, Nat.mul_comm]
section QU
variable {ol hd ln lo tq vq gq ty vy gy : Nat → Int32}
/-- a message goes to both queues, or to none -/
theorem qu_send {c : Nat} (hc : c < 4) (t v g : Int32) (Q : qu_ok hd ln tq vq gq ty vy gy) : ∃ (r : Int32) (ln' lo' tq' vq' gq' ty' vy' gy' : Nat → Int32), qu_ok hd ln' tq' vq' gq' ty' vy' gy' ∧
    (∀ (post : Int32 → SX → Prop) (kc fw : Int32) (lv ch gr be ow kt kv nd dp bs br bz ci : Nat → Int32), post r (kc, fw, lv, ch, gr, be, ow, kt, kv, ol, hd, ln', tq', vq', gq', lo', nd, dp, bs, br, bz, ci) → wpX_send post (kc, fw, lv, ch, gr, be, ow, kt, kv, ol, hd, ln, tq, vq, gq, lo, nd, dp, bs, br, bz, ci) (nI c) t v g) ∧
    (∀ (post : Int32 → SY → Prop) (kc : Int32) (fl gs ow kt kv : Nat → Int32), post r (kc, fl, gs, ow, ty', vy', gy', ln', lo', ol, kt, kv) → wpY_send post (kc, fl, gs, ow, ty, vy, gy, ln, lo, ol, kt, kv) (nI c) t v g) := by
  obtain ⟨h, l, hh, hl, eh, el, qt, qv, qg⟩ := Q c hc
  have hin : vp_in (nI c) 4 := vp_in_nI (by omega) (by decide)
  have hcc : (nI c).toNatClampNeg = c := nI_clamp (by omega)
  by_cases on1 : ol c = 0 ∧ g = 0
  · refine ⟨0, ln, lo, tq, vq, gq, ty, vy, gy, Q, fun post kc fw lv ch gr be ow kt kv nd dp bs br bz ci hp => ?_, fun post kc fl gs ow kt kv hp => ?_⟩
    · exact And.intro hin (br_t (by rw [hcc]; exact on1.1) (br_t on1.2 hp))
    · exact And.intro hin (br_t (by rw [hcc]; exact on1.1) (br_t on1.2 hp))
  · have goX : ∀ (post : Int32 → SX → Prop) (kc fw : Int32) (lv ch gr be ow kt kv nd dp bs br bz ci : Nat → Int32), wX_send_16 post (nI c) t v g kc fw lv ch gr be ow kt kv ol hd ln tq vq gq lo nd dp bs br bz ci → wpX_send post (kc, fw, lv, ch, gr, be, ow, kt, kv, ol, hd, ln, tq, vq, gq, lo, nd, dp, bs, br, bz, ci) (nI c) t v g := by
      intro post kc fw lv ch gr be ow kt kv nd dp bs br bz ci h16
      refine And.intro hin (br_c (fun h1 => br_c (fun h2 => absurd ⟨?_, h2⟩ on1) fun _ => h16) fun _ => h16)
      rw [hcc] at h1
      exact h1
    have goY : ∀ (post : Int32 → SY → Prop) (kc : Int32) (fl gs ow kt kv : Nat → Int32), wY_send_16 post (nI c) t v g kc fl gs ow ty vy gy ln lo ol kt kv → wpY_send post (kc, fl, gs, ow, ty, vy, gy, ln, lo, ol, kt, kv) (nI c) t v g := by
      intro post kc fl gs ow kt kv h16
      refine And.intro hin (br_c (fun h1 => br_c (fun h2 => absurd ⟨?_, h2⟩ on1) fun _ => h16) fun _ => h16)
      rw [hcc] at h1
      exact h1
    have hlen : ln (nI c).toNatClampNeg = nI l := by
      rw [hcc]
      exact el
    by_cases full : l = 12
    · refine ⟨0, ln, upd lo c (lo c + 1), tq, vq, gq, ty, vy, gy, Q, fun post kc fw lv ch gr be ow kt kv nd dp bs br bz ci hp => goX _ _ _ _ _ _ _ _ _ _ _ _ _ _ _ _ ?_, fun post kc fl gs ow kt kv hp => goY _ _ _ _ _ _ _ ?_⟩
      · exact And.intro hin (br_t (by rw [hlen, full]; decide) (And.intro hin (And.intro hin (nm_r (e' := upd lo c (lo c + 1)) (by rw [hcc]) hp))))
      · exact And.intro hin (br_t (by rw [hlen, full]; decide) (And.intro hin (And.intro hin (nm_r (e' := upd lo c (lo c + 1)) (by rw [hcc]) hp))))
    · have hl' : l < 12 := by omega
      have hne : ¬ ln (nI c).toNatClampNeg = 12 := by
        rw [hlen]
        intro e
        exact full (nb_inj (b := 12) e (by omega) (by decide))
      refine ⟨1, upd ln c (nI (l + 1)), lo, upd tq (c * 12 + (h + l) % 12) t, upd vq (c * 12 + (h + l) % 12) v, upd gq (c * 12 + (h + l) % 12) g, upd ty (c * 12 + l) t, upd vy (c * 12 + l) v, upd gy (c * 12 + l) g, ?_, fun post kc fw lv ch gr be ow kt kv nd dp bs br bz ci hp => goX _ _ _ _ _ _ _ _ _ _ _ _ _ _ _ _ ?_, fun post kc fl gs ow kt kv hp => goY _ _ _ _ _ _ _ ?_⟩
      · intro c' hc'
        by_cases zc : c' = c
        · rw [zc]
          exact ⟨h, l + 1, hh, by omega, eh, pk_us, qu_push hl' qt, qu_push hl' qv, qu_push hl' qg⟩
        · obtain ⟨h', l', hh', hl', eh', el', qt', qv', qg'⟩ := Q c' hc'
          exact ⟨h', l', hh', hl', eh', (pk_un zc).trans el', qu_oth zc hl' (by omega) (by omega) qt', qu_oth zc hl' (by omega) (by omega) qv', qu_oth zc hl' (by omega) (by omega) qg'⟩
      · have hX : ∀ z0 : Int32, z0 = nI ((h + l) % 12) → wX_send_79 post (nI c) t v g z0 (nI c * 12) kc fw lv ch gr be ow kt kv ol hd ln tq vq gq lo nd dp bs br bz ci := by
          intro z0 ez
          subst ez
          have hat : vp_in (nI (c * 12 + (h + l) % 12)) 48 := vp_in_nI (by omega) (by decide)
          have hac : (nI (c * 12 + (h + l) % 12)).toNatClampNeg = c * 12 + (h + l) % 12 := nI_clamp (by omega)
          exact nm_r (e' := nI (c * 12 + (h + l) % 12)) (by rw [qu_12, nI_add]) (And.intro hat (nm_r (by rw [hac]) (And.intro hat (nm_r (by rw [hac]) (And.intro hat (nm_r (by rw [hac]) (And.intro hin (And.intro hin (nm_r (e' := upd ln c (nI (l + 1))) (by rw [hcc, el, nI_1]) hp)))))))))
        refine And.intro hin (br_f hne (And.intro hin (And.intro hin (nm_r (e' := nI (h + l)) (by rw [hcc, eh, el, nI_add]) ?_))))
        by_cases z : 12 ≤ h + l
        · refine br_t (nI_le (a := 12) z (by omega)) (hX _ ?_)
          rw [show nI (h + l) - 12 = nI (h + l - 12) from pk_sub (b := 12) z]
          exact congrArg nI (by omega)
        · refine br_f (nI_ge (b := 12) (by omega) (by omega)) (hX _ ?_)
          exact congrArg nI (by omega)
      · have hat : vp_in (nI (c * 12 + l)) 48 := vp_in_nI (by omega) (by decide)
        have hac : (nI (c * 12 + l)).toNatClampNeg = c * 12 + l := nI_clamp (by omega)
        exact And.intro hin (br_f hne (And.intro hin (nm_r (e' := nI (c * 12 + l)) (by rw [hlen, qu_21, nI_add]) (And.intro hat (nm_r (by rw [hac]) (And.intro hat (nm_r (by rw [hac]) (And.intro hat (nm_r (by rw [hac]) (And.intro hin (And.intro hin (nm_r (e' := upd ln c (nI (l + 1))) (by rw [hcc, el, nI_1]) hp))))))))))))
end QU
section QT
variable {fk : Int32} {fl gs cn ty vy gy wa ls oy ky vk : Nat → Int32}
/-- the reference's queue moves up -/
theorem qu_t53 {post : Int32 → SY → Prop} {c l : Nat} {x : Int32} (hc : c < 4) (hl : l < 12) (hw : wa c = nI l) (K : ∀ ty' vy' gy' : Nat → Int32, qu_sh (c * 12) l ty ty' → qu_sh (c * 12) l vy vy' → qu_sh (c * 12) l gy gy' → post x (fk, fl, gs, cn, ty', vy', gy', wa, ls, oy, ky, vk)) : ∀ (d i : Nat) (ty' vy' gy' : Nat → Int32), i + d = l → qu_sh (c * 12) i ty ty' → qu_sh (c * 12) i vy vy' → qu_sh (c * 12) i gy gy' → wY_take_53 post (nI c) x fk (d + 1) (nI (c * 12 + i)) fl gs cn ty' vy' gy' wa ls oy ky vk := by
  have hin : vp_in (nI c) 4 := vp_in_nI (by omega) (by decide)
  have hcc : (nI c).toNatClampNeg = c := nI_clamp (by omega)
  have he : 12 * nI c + wa (nI c).toNatClampNeg = nI (c * 12 + l) := by
    rw [hcc, hw, qu_21, nI_add]
  intro d
  induction d with
  | zero =>
    intro i ty' vy' gy' hi h1 h2 h3
    have e : i = l := by omega
    subst e
    exact And.intro hin (br_t (by rw [he]; exact Int32.le_refl _) (K ty' vy' gy' h1 h2 h3))
  | succ d ih =>
    intro i ty' vy' gy' hi h1 h2 h3
    have a1 : vp_in (nI (c * 12 + i) + 1) 48 := by
      rw [nI_1]
      exact vp_in_nI (by omega) (by decide)
    have a2 : vp_in (nI (c * 12 + i)) 48 := vp_in_nI (by omega) (by decide)
    have a3 : (nI (c * 12 + i) + 1).toNatClampNeg = c * 12 + i + 1 := by
      rw [nI_1]
      exact nI_clamp (by omega)
    have a4 : (nI (c * 12 + i)).toNatClampNeg = c * 12 + i := nI_clamp (by omega)
    exact And.intro hin (br_f (by rw [he]; exact nI_ge (by omega) (by omega)) (And.intro a1 (And.intro a2 (nm_r (by rw [a3, a4]) (And.intro a1 (And.intro a2 (nm_r (by rw [a3, a4]) (And.intro a1 (And.intro a2 (nm_r (by rw [a3, a4]) (nm_r (nI_1 _) (ih (i + 1) _ _ _ (by omega) (qu_sh_s h1) (qu_sh_s h2) (qu_sh_s h3)))))))))))))
end QT
end
section
/-! the kept topics: the same sorted array on both sides -/
def kp_ok (K : Nat) (kt : Nat → Int32) : Prop := K ≤ 8 ∧ (∀ i j, i < j → j < K → kt i < kt j) ∧ ∀ i, i < K → ∃ t, cd_top t ∧ kt i = nI t
def kp_at (K : Nat) (kt : Nat → Int32) (t : Int32) (p : Nat) : Prop := p ≤ K ∧ (∀ m, m < p → kt m < t) ∧ ∀ m, p ≤ m → m < K → ¬ kt m < t
theorem kp_ex {K : Nat} {kt : Nat → Int32} (h : ∀ i j, i < j → j < K → kt i < kt j) (t : Int32) : ∃ p, kp_at K kt t p := by
  have H : ∀ d p, p + d = K → (∀ m, m < p → kt m < t) → ∃ p, kp_at K kt t p := by
    intro d
    induction d with
    | zero =>
      intro p hp hm
      exact ⟨p, by omega, hm, fun m h1 h2 => by omega⟩
    | succ d ih =>
      intro p hp hm
      by_cases z : kt p < t
      · refine ih (p + 1) (by omega) fun m h1 => ?_
        by_cases e : m = p
        · rw [e]; exact z
        · exact hm m (by omega)
      · refine ⟨p, by omega, hm, fun m h1 h2 h3 => ?_⟩
        by_cases e : m = p
        · rw [e] at h3; exact z h3
        · exact z (Int32.lt_trans (h p m (by omega) h2) h3)
  exact H K 0 (by omega) fun m h1 => absurd h1 (by omega)
theorem kp_ins {K p : Nat} {kt kt' : Nat → Int32} {t : Int32} (O : kp_ok K kt) (hK : K < 8) (A : kp_at K kt t p) (ht : ∃ m, cd_top m ∧ t = nI m) (hne : p < K → kt p ≠ t) (h1 : ∀ m, m < p → kt' m = kt m) (h2 : kt' p = t) (h3 : ∀ m, p < m → m ≤ K → kt' m = kt (m - 1)) : kp_ok (K + 1) kt' := by
  obtain ⟨_, hs, htop⟩ := O
  obtain ⟨hp, ha, hb⟩ := A
  have hgt : ∀ m, p ≤ m → m < K → t < kt m := by
    intro m m1 m2
    have hp0 : t < kt p := by
      have h5 := hb p (Nat.le_refl _) (by omega)
      have h6 := hne (by omega)
      exact Int32.lt_of_le_of_ne (Int32.not_lt.mp h5) (fun e => h6 e.symm)
    by_cases e : m = p
    · rw [e]; exact hp0
    · exact Int32.lt_trans hp0 (hs p m (by omega) m2)
  refine ⟨by omega, fun i j hij hj => ?_, fun i hi => ?_⟩
  · by_cases zi : i < p
    · rw [h1 i zi]
      by_cases zj : j < p
      · rw [h1 j zj]
        exact hs i j hij (by omega)
      · by_cases ze : j = p
        · rw [ze, h2]
          exact ha i zi
        · rw [h3 j (by omega) (by omega)]
          by_cases zz : i = j - 1
          · omega
          · exact hs i (j - 1) (by omega) (by omega)
    · by_cases ze : i = p
      · rw [ze, h2, h3 j (by omega) (by omega)]
        exact hgt (j - 1) (by omega) (by omega)
      · rw [h3 i (by omega) (by omega), h3 j (by omega) (by omega)]
        exact hs (i - 1) (j - 1) (by omega) (by omega)
  · by_cases zi : i < p
    · rw [h1 i zi]
      exact htop i (by omega)
    · by_cases ze : i = p
      · rw [ze, h2]
        exact ht
      · rw [h3 i (by omega) (by omega)]
        exact htop (i - 1) (by omega)
theorem kp_del {K p : Nat} {kt kt' : Nat → Int32} (O : kp_ok (K + 1) kt) (hp : p ≤ K) (h : qu_sh p (K - p) kt kt') : kp_ok K kt' := by
  obtain ⟨hK, hs, htop⟩ := O
  have e1 : ∀ m, m < p → kt' m = kt m := fun m hm => h.2 m (Or.inl hm)
  have e2 : ∀ m, p ≤ m → m < K → kt' m = kt (m + 1) := by
    intro m m1 m2
    have h5 := h.1 (m - p) (by omega)
    rw [show p + (m - p) = m by omega] at h5
    exact h5
  refine ⟨by omega, fun i j hij hj => ?_, fun i hi => ?_⟩
  · by_cases zi : i < p
    · rw [e1 i zi]
      by_cases zj : j < p
      · rw [e1 j zj]
        exact hs i j hij (by omega)
      · rw [e2 j (by omega) hj]
        exact hs i (j + 1) (by omega) (by omega)
    · rw [e2 i (by omega) (by omega), e2 j (by omega) hj]
      exact hs (i + 1) (j + 1) (by omega) (by omega)
  · by_cases zi : i < p
    · rw [e1 i zi]
      exact htop i (by omega)
    · rw [e2 i (by omega) hi]
      exact htop (i + 1) (by omega)
section KP
variable {kc fw : Int32} {lv ch gr be ow kt kv ol hd ln tq vq gq lo nd dp bs br bz ci : Nat → Int32}
variable {fl gs ty vy gy : Nat → Int32}
theorem kp_x4 {post : Int32 → Prop} {K p : Nat} {t : Int32} (hK : K ≤ 8) (A : kp_at K kt t p) (hp : post (nI p)) : ∀ (d i q : Nat), i + d = K → q = (if i ≤ p then i else p) → wX_keptPlace_4 post t (nI K) fw lv ch gr be ow kt kv ol hd ln tq vq gq lo nd dp bs br bz ci (d + 1) (nI q) (nI i) := by
  obtain ⟨p1, p2, p3⟩ := A
  intro d
  induction d with
  | zero =>
    intro i q hi hq
    refine br_t (nI_le (by omega) (by omega)) ?_
    have e : q = p := by
      rw [hq]
      split
      · omega
      · rfl
    rw [e]
    exact hp
  | succ d ih =>
    intro i q hi hq
    have hc : (nI i).toNatClampNeg = i := nI_clamp (by omega)
    refine br_f (nI_ge (by omega) (by omega)) ⟨vp_in_nI (by omega) (by decide), ?_⟩
    by_cases z : i < p
    · refine br_f ?_ (nm_r (nI_1 i) (nm_r (nI_1 i) (ih (i + 1) (i + 1) (by omega) ?_)))
      · rw [hc]
        exact Int32.not_le.mpr (p2 i z)
      · rw [if_pos (by omega)]
    · refine br_t ?_ (nm_r (nI_1 i) (ih (i + 1) q (by omega) ?_))
      · rw [hc]
        exact Int32.not_lt.mp (p3 i (by omega) (by omega))
      · rw [if_neg (by omega), hq]
        split
        · omega
        · rfl
theorem kp_xplace {post : Int32 → Prop} {K p : Nat} {t : Int32} (hK : K ≤ 8) (A : kp_at K kt t p) (hp : post (nI p)) : wpX_keptPlace post (nI K, fw, lv, ch, gr, be, ow, kt, kv, ol, hd, ln, tq, vq, gq, lo, nd, dp, bs, br, bz, ci) t :=
  ⟨K + 1, kp_x4 hK A hp K 0 0 (by omega) rfl⟩
theorem kp_y2 {post : Int32 → Prop} {K p : Nat} {t : Int32} (hK : K ≤ 8) (A : kp_at K kt t p) (hp : post (nI p)) : ∀ (d i : Nat), i + d = p → wY_keptPlace_2 post t (nI K) fl gs ow ty vy gy ln lo ol kt kv (d + 1) (nI i) := by
  obtain ⟨p1, p2, p3⟩ := A
  intro d
  induction d with
  | zero =>
    intro i hi
    have e : i = p := by omega
    subst e
    by_cases z : i = K
    · exact br_t (nI_le (by omega) (by omega)) hp
    · refine br_f (nI_ge (by omega) (by omega)) ⟨vp_in_nI (by omega) (by decide), br_t ?_ hp⟩
      rw [nI_clamp (by omega)]
      exact Int32.not_lt.mp (p3 i (by omega) (by omega))
  | succ d ih =>
    intro i hi
    refine br_f (nI_ge (by omega) (by omega)) ⟨vp_in_nI (by omega) (by decide), br_f ?_ (nm_r (nI_1 i) (ih (i + 1) (by omega)))⟩
    rw [nI_clamp (by omega)]
    exact Int32.not_le.mpr (p2 i (by omega))
theorem kp_yplace {post : Int32 → Prop} {K p : Nat} {t : Int32} (hK : K ≤ 8) (A : kp_at K kt t p) (hp : post (nI p)) : wpY_keptPlace post (nI K, fl, gs, ow, ty, vy, gy, ln, lo, ol, kt, kv) t :=
  ⟨p + 1, kp_y2 hK A hp p 0 (by omega)⟩
/-- both insert -/
theorem kp_keep {K p : Nat} {t v : Int32} (hK : K < 8) : ∀ (d : Nat) (kt kv : Nat → Int32), p + d ≤ K → ∃ kt' kv' : Nat → Int32, (∀ m, m < p → kt' m = kt m) ∧ kt' p = t ∧ (∀ m, p < m → m ≤ p + d → kt' m = kt (m - 1)) ∧ (∀ m, p + d < m → kt' m = kt m) ∧
    (∀ post : Int32 → SX → Prop, post 0 (nI (K + 1), fw, lv, ch, gr, be, ow, kt', kv', ol, hd, ln, tq, vq, gq, lo, nd, dp, bs, br, bz, ci) → wX_keep_67 post t v (nI p) (nI K) fw (d + 1) (nI (p + d)) lv ch gr be ow kt kv ol hd ln tq vq gq lo nd dp bs br bz ci) ∧
    (∀ post : Int32 → SY → Prop, post 0 (nI (K + 1), fl, gs, ow, ty, vy, gy, ln, lo, ol, kt', kv') → wY_keep_61 post t v (nI p) (nI K) (d + 1) (nI (p + d)) fl gs ow ty vy gy ln lo ol kt kv) := by
  intro d
  induction d with
  | zero =>
    intro kt kv hd
    have hin : vp_in (nI p) 8 := vp_in_nI (by omega) (by decide)
    have hc : (nI p).toNatClampNeg = p := nI_clamp (by omega)
    refine ⟨upd kt p t, upd kv p v, fun m hm => pk_un (by omega), pk_us, fun m m1 m2 => by omega, fun m hm => pk_un (by omega), fun post hp => ?_, fun post hp => ?_⟩
    · exact br_t (Int32.le_refl _) ⟨hin, nm_r (by rw [hc]) ⟨hin, nm_r (by rw [hc]) (nm_r (nI_1 K) hp)⟩⟩
    · exact br_t (Int32.le_refl _) ⟨hin, nm_r (by rw [hc]) ⟨hin, nm_r (by rw [hc]) (nm_r (nI_1 K) hp)⟩⟩
  | succ d ih =>
    intro kt kv hd
    obtain ⟨kt', kv', h1, h2, h3, h4, hX, hY⟩ := ih (upd kt (p + d + 1) (kt (p + d))) (upd kv (p + d + 1) (kv (p + d))) (by omega)
    have a1 : vp_in (nI (p + (d + 1)) - 1) 8 := by
      rw [show nI (p + (d + 1)) - 1 = nI (p + d) from nI_pred (p + d)]
      exact vp_in_nI (by omega) (by decide)
    have a2 : vp_in (nI (p + (d + 1))) 8 := vp_in_nI (by omega) (by decide)
    have a3 : (nI (p + (d + 1)) - 1).toNatClampNeg = p + d := by
      rw [show nI (p + (d + 1)) - 1 = nI (p + d) from nI_pred (p + d)]
      exact nI_clamp (by omega)
    have a4 : (nI (p + (d + 1))).toNatClampNeg = p + d + 1 := nI_clamp (by omega)
    have a5 : ¬ nI (p + (d + 1)) ≤ nI p := nI_ge (by omega) (by omega)
    have a6 : nI (p + (d + 1)) + (-1) = nI (p + d) := pk_m1 (p + d)
    refine ⟨kt', kv', ?_, h2, ?_, ?_, fun post hp => ?_, fun post hp => ?_⟩
    · intro m hm
      rw [h1 m hm]
      exact pk_un (by omega)
    · intro m m1 m2
      by_cases z : m ≤ p + d
      · rw [h3 m m1 z]
        exact pk_un (by omega)
      · rw [h4 m (by omega), show m = p + d + 1 by omega, pk_us]
        rfl
    · intro m hm
      rw [h4 m (by omega)]
      exact pk_un (by omega)
    · exact br_f a5 ⟨a1, a2, nm_r (by rw [a3, a4]) ⟨a1, a2, nm_r (by rw [a3, a4]) (nm_r a6 (hX post hp))⟩⟩
    · exact br_f a5 ⟨a1, a2, nm_r (by rw [a3, a4]) ⟨a1, a2, nm_r (by rw [a3, a4]) (nm_r a6 (hY post hp))⟩⟩
/-- both delete -/
theorem kp_forget {K : Nat} (hK : K < 8) : ∀ (d i : Nat) (kt kv : Nat → Int32), i + d = K → ∃ kt' kv' : Nat → Int32, qu_sh i d kt kt' ∧
    (∀ post : Int32 → SX → Prop, post 0 (nI K, fw, lv, ch, gr, be, ow, kt', kv', ol, hd, ln, tq, vq, gq, lo, nd, dp, bs, br, bz, ci) → wX_forget_52 post (nI K) fw (d + 1) (nI i) lv ch gr be ow kt kv ol hd ln tq vq gq lo nd dp bs br bz ci) ∧
    (∀ post : Int32 → SY → Prop, post 0 (nI K, fl, gs, ow, ty, vy, gy, ln, lo, ol, kt', kv') → wY_forget_49 post (nI K) (d + 1) (nI i) fl gs ow ty vy gy ln lo ol kt kv) := by
  intro d
  induction d with
  | zero =>
    intro i kt kv hd
    have a : nI K ≤ nI i := nI_le (by omega) (by omega)
    exact ⟨kt, kv, qu_sh_0, fun post hp => br_t a hp, fun post hp => br_t a hp⟩
  | succ d ih =>
    intro i kt kv hd
    obtain ⟨kt', kv', h1, hX, hY⟩ := ih (i + 1) (upd kt i (kt (i + 1))) (upd kv i (kv (i + 1))) (by omega)
    have a1 : vp_in (nI i + 1) 8 := by
      rw [nI_1]
      exact vp_in_nI (by omega) (by decide)
    have a2 : vp_in (nI i) 8 := vp_in_nI (by omega) (by decide)
    have a3 : (nI i + 1).toNatClampNeg = i + 1 := by
      rw [nI_1]
      exact nI_clamp (by omega)
    have a4 : (nI i).toNatClampNeg = i := nI_clamp (by omega)
    have a5 : ¬ nI K ≤ nI i := nI_ge (by omega) (by omega)
    refine ⟨kt', kv', ⟨?_, ?_⟩, fun post hp => ?_, fun post hp => ?_⟩
    · intro j hj
      by_cases z : j = 0
      · rw [z, h1.2 _ (by omega)]
        exact pk_us
      · have h5 := h1.1 (j - 1) (by omega)
        rw [show i + 1 + (j - 1) = i + j by omega, pk_un (by omega)] at h5
        exact h5
    · intro j hj
      rw [h1.2 j (by omega)]
      exact pk_un (by omega)
    · exact br_f a5 ⟨a1, a2, nm_r (by rw [a3, a4]) ⟨a1, a2, nm_r (by rw [a3, a4]) (nm_r (nI_1 i) (hX post hp))⟩⟩
    · exact br_f a5 ⟨a1, a2, nm_r (by rw [a3, a4]) ⟨a1, a2, nm_r (by rw [a3, a4]) (nm_r (nI_1 i) (hY post hp))⟩⟩
end KP
end
section
/-! the reference's subscriptions: places 5 c on -/
def ys_ok (fl gs cn : Nat → Int32) (L : Nat → List (Nat × Nat)) : Prop := ∀ c, c < 4 → (cn c = nI (L c).length ∧ ∀ i e, (L c)[i]? = some e → (fl (c * 5 + i) = nI e.1 ∧ gs (c * 5 + i) = nI e.2))
/-- the greatest grade of those of l in S; z if there is none -/
def wk_b (z : Int32) (l : List (Nat × Nat)) (S : Nat → Prop) (b : Int32) : Prop := (∀ e, e ∈ l → S e.1 → nI e.2 ≤ b) ∧ (b = z ∨ ∃ e, e ∈ l ∧ S e.1 ∧ b = nI e.2)
theorem ys_51 (c : Nat) : 5 * nI c = nI (c * 5) := by
  rw [show 5 * nI c = nI (5 * c) from pk_mul 5 c, Nat.mul_comm]
theorem ys_get {l : List (Nat × Nat)} {i : Nat} (h : i < l.length) : ∃ e, l[i]? = some e ∧ e ∈ l := ⟨l[i], List.getElem?_eq_getElem h, List.getElem_mem h⟩
theorem ys_dec {e : Nat × Nat} : ∀ (l : List (Nat × Nat)) (i : Nat), l[i]? = some e → ∃ l1 l2, l = l1 ++ e :: l2 ∧ l1.length = i := by
  intro l
  induction l with
  | nil => intro i h; exact absurd h (by simp)
  | cons a l ih =>
    intro i h
    cases i with
    | zero =>
      have h2 : a = e := by simpa using h
      exact ⟨[], l, by rw [h2]; rfl, rfl⟩
    | succ i =>
      have h2 : l[i]? = some e := by simpa using h
      obtain ⟨l1, l2, h3, h4⟩ := ih i h2
      exact ⟨a :: l1, l2, by rw [h3]; rfl, by rw [List.length_cons, h4]⟩
/-- in X's form and in Y's it is the same -/
theorem wk_same {l : List (Nat × Nat)} {S : Nat → Prop} {b b' : Int32} (hl : ∀ e, e ∈ l → e.2 ≤ 2) (h : wk_b (-1) l S b) (h' : wk_b (-4) l S b') : (b = -1 ∧ b' = -4) ∨ ∃ g, g ≤ 2 ∧ b = nI g ∧ b' = nI g := by
  rcases h.2 with e | ⟨e, he, hs, eb⟩
  · rcases h'.2 with e' | ⟨e', he', hs', eb'⟩
    · exact Or.inl ⟨e, e'⟩
    · have h1 := h.1 e' he' hs'
      rw [e] at h1
      exact absurd h1 (nb_m1le (by have := hl e' he'; omega))
  · have g2 := hl e he
    rcases h'.2 with e' | ⟨e', he', hs', eb'⟩
    · have h1 := h'.1 e he hs
      rw [e'] at h1
      rw [Int32.le_iff_toInt_le, nI_toInt (by omega), show (-4 : Int32).toInt = -4 from by decide] at h1
      omega
    · have g2' := hl e' he'
      have h1 := h.1 e' he' hs'
      have h2 := h'.1 e he hs
      rw [eb, nI_leI (by omega) (by omega)] at h1
      rw [eb', nI_leI (by omega) (by omega)] at h2
      exact Or.inr ⟨e.2, g2, eb, by rw [eb', show e'.2 = e.2 by omega]⟩
section YS
variable {fk : Int32} {fl gs cn ty vy gy wa ls oy ky vk : Nat → Int32}
variable {L : Nat → List (Nat × Nat)}
theorem ys_f4 {post : Int32 → Prop} {c f : Nat} (hc : c < 4) (hL : tr_L L) (Y : ys_ok fl gs cn L) (hf : f < 4096) (K1 : (∀ e, e ∈ L c → e.1 ≠ f) → post (-4)) (K2 : ∀ i g, (L c)[i]? = some (f, g) → i < (L c).length → post (nI (c * 5 + i))) : ∀ (d i : Nat), i + d = (L c).length → (∀ j e, j < i → (L c)[j]? = some e → e.1 ≠ f) → wY_find_4 post (nI c) (nI f) fk fl gs cn ty vy gy wa ls oy ky vk (d + 1) (nI (c * 5 + i)) := by
  obtain ⟨h5, hnd, hfil⟩ := hL c hc
  obtain ⟨hcn, hY⟩ := Y c hc
  have hin : vp_in (nI c) 4 := vp_in_nI (by omega) (by decide)
  have hcc : (nI c).toNatClampNeg = c := nI_clamp (by omega)
  have he : 5 * nI c + cn (nI c).toNatClampNeg = nI (c * 5 + (L c).length) := by
    rw [hcc, hcn, ys_51, nI_add]
  intro d
  induction d with
  | zero =>
    intro i hi hj
    refine And.intro hin (br_t (by rw [he]; exact nI_le (by omega) (by omega)) (K1 fun e hm => ?_))
    obtain ⟨j, hj1, hj2⟩ := List.mem_iff_getElem.mp hm
    exact hj j e (by omega) (by rw [List.getElem?_eq_getElem hj1, hj2])
  | succ d ih =>
    intro i hi hj
    obtain ⟨e, e1, e2⟩ := ys_get (l := L c) (i := i) (by omega)
    have hfe := (hfil e e2).1.1.2.1
    have hv := (hY i e e1).1
    have hic : (nI (c * 5 + i)).toNatClampNeg = c * 5 + i := nI_clamp (by omega)
    refine And.intro hin (br_f (by rw [he]; exact nI_ge (by omega) (by omega)) (And.intro (vp_in_nI (by omega) (by decide)) ?_))
    by_cases z : e.1 = f
    · refine br_t (by rw [hic, hv, z]) (K2 i e.2 ?_ (by omega))
      rw [e1, ← z]
    · refine br_f ?_ (nm_r (nI_1 _) (ih (i + 1) (by omega) fun j e' h1 h2 => ?_))
      · rw [hic, hv]
        intro h
        exact z (nb_inj h (by omega) (by omega))
      · by_cases zj : j = i
        · rw [zj, e1] at h2
          have h3 := Option.some.inj h2
          rw [← h3]
          exact z
        · exact hj j e' (by omega) h2
theorem ys_find {post : Int32 → Prop} {c f : Nat} (hc : c < 4) (hL : tr_L L) (Y : ys_ok fl gs cn L) (hf : f < 4096) (K1 : (∀ e, e ∈ L c → e.1 ≠ f) → post (-4)) (K2 : ∀ i g, (L c)[i]? = some (f, g) → i < (L c).length → post (nI (c * 5 + i))) : wpY_find post (fk, fl, gs, cn, ty, vy, gy, wa, ls, oy, ky, vk) (nI c) (nI f) :=
  nm_r (ys_51 c) ⟨(L c).length + 1, ys_f4 hc hL Y hf K1 K2 (L c).length 0 (by omega) fun j e hj => absurd hj (by omega)⟩
theorem ys_g8 {post : Int32 → Prop} {c t : Nat} (hc : c < 4) (hL : tr_L L) (Y : ys_ok fl gs cn L) (t1 : 1 ≤ t) (t2 : t < 4096) (K : ∀ b, wk_b (-4) (L c) (fun f => cd_fit f t) b → post b) : ∀ (d i : Nat) (b : Int32), i + d = (L c).length → (∀ j e, j < i → (L c)[j]? = some e → cd_fit e.1 t → nI e.2 ≤ b) → (b = -4 ∨ ∃ e, e ∈ L c ∧ cd_fit e.1 t ∧ b = nI e.2) → wY_greatest_8 post (nI c) (nI t) fk fl gs cn ty vy gy wa ls oy ky vk (d + 1) b (nI (c * 5 + i)) := by
  obtain ⟨h5, hnd, hfil⟩ := hL c hc
  obtain ⟨hcn, hY⟩ := Y c hc
  have hin : vp_in (nI c) 4 := vp_in_nI (by omega) (by decide)
  have hcc : (nI c).toNatClampNeg = c := nI_clamp (by omega)
  have he : 5 * nI c + cn (nI c).toNatClampNeg = nI (c * 5 + (L c).length) := by
    rw [hcc, hcn, ys_51, nI_add]
  intro d
  induction d with
  | zero =>
    intro i b hi hj hb
    refine And.intro hin (br_t (by rw [he]; exact nI_le (by omega) (by omega)) (K b ⟨fun e hm hs => ?_, hb⟩))
    obtain ⟨j, hj1, hj2⟩ := List.mem_iff_getElem.mp hm
    exact hj j e (by omega) (by rw [List.getElem?_eq_getElem hj1, hj2]) hs
  | succ d ih =>
    intro i b hi hj hb
    obtain ⟨e, e1, e2⟩ := ys_get (l := L c) (i := i) (by omega)
    have hok := (hfil e e2).1.1
    have hv := (hY i e e1)
    have hic : (nI (c * 5 + i)).toNatClampNeg = c * 5 + i := nI_clamp (by omega)
    have hi20 : vp_in (nI (c * 5 + i)) 20 := vp_in_nI (by omega) (by decide)
    have hnext : ∀ b' : Int32, b ≤ b' → (cd_fit e.1 t → nI e.2 ≤ b') → ∀ j e', j < i + 1 → (L c)[j]? = some e' → cd_fit e'.1 t → nI e'.2 ≤ b' := by
      intro b' hbb hee j e' h1 h2 h3
      by_cases zj : j = i
      · rw [zj, e1] at h2
        have h4 := Option.some.inj h2
        rw [← h4] at h3 ⊢
        exact hee h3
      · exact Int32.le_trans (hj j e' (by omega) h2 h3) hbb
    refine And.intro hin (br_f (by rw [he]; exact nI_ge (by omega) (by omega)) (And.intro hi20 ?_))
    by_cases z : nI e.2 ≤ b
    · refine br_t (by rw [hic, hv.2]; exact z) (nm_r (nI_1 _) (ih (i + 1) b (by omega) (hnext b (Int32.le_refl _) fun _ => z) hb))
    · refine br_f (by rw [hic, hv.2]; exact z) (And.intro hi20 ?_)
      rw [hic, hv.1]
      refine yc_fits hok.1 hok.2.1 t1 t2 (fun hfit => ?_) fun hfit => ?_
      · refine br_f (by decide) (And.intro hi20 (nm_r (e' := nI e.2) hv.2 (nm_r (nI_1 _) (ih (i + 1) _ (by omega) (hnext _ ?_ fun _ => Int32.le_refl _) (Or.inr ⟨e, e2, hfit, rfl⟩)))))
        exact Int32.le_of_lt (Int32.not_le.mp z)
      · exact br_t rfl (nm_r (nI_1 _) (ih (i + 1) b (by omega) (hnext b (Int32.le_refl _) fun h => absurd h hfit) hb))
theorem ys_greatest {post : Int32 → Prop} {c t : Nat} (hc : c < 4) (hL : tr_L L) (Y : ys_ok fl gs cn L) (t1 : 1 ≤ t) (t2 : t < 4096) (K : ∀ b, wk_b (-4) (L c) (fun f => cd_fit f t) b → post b) : wpY_greatest post (fk, fl, gs, cn, ty, vy, gy, wa, ls, oy, ky, vk) (nI c) (nI t) :=
  nm_r (ys_51 c) ⟨(L c).length + 1, ys_g8 hc hL Y t1 t2 K (L c).length 0 (-4) (by omega) (fun j e hj => absurd hj (by omega)) (Or.inl rfl)⟩
end YS
end
section
/-! the component's walk: the best grade over all filters that match -/
def wk_B (L : Nat → List (Nat × Nat)) (S : Nat → Prop) (bs : Nat → Int32) : Prop := ∀ c, c < 4 → wk_b (-1) (L c) S (bs c)
/-- the filters that match t and go on from p, of d levels -/
def wk_S (t p d f : Nat) : Prop := cd_fit f t ∧ d ≤ cd_nl f ∧ f / 8 ^ (cd_nl f - d) = p
def wk_R : Nat → Nat
  | 0 => 1
  | k + 1 => 1 + wk_R k + wk_R k
theorem wk_congr {L : Nat → List (Nat × Nat)} {S S' : Nat → Prop} {bs : Nat → Int32} (h : wk_B L S bs) (H : ∀ c e, c < 4 → e ∈ L c → (S e.1 ↔ S' e.1)) : wk_B L S' bs := by
  intro c hc
  obtain ⟨h1, h2⟩ := h c hc
  refine ⟨fun e he hs => h1 e he ((H c e hc he).mpr hs), ?_⟩
  rcases h2 with h2 | ⟨e, he, hs, eb⟩
  · exact Or.inl h2
  · exact Or.inr ⟨e, he, (H c e hc he).mp hs, eb⟩
theorem wk_add {l : List (Nat × Nat)} {S : Nat → Prop} {b g : Int32} {q : Nat} (hn : (l.map Prod.fst).Nodup) (hl : ∀ e, e ∈ l → e.2 ≤ 2) (h : wk_b (-1) l S b) (hg : g = tr_g q l) : (g ≤ b → wk_b (-1) l (fun r => S r ∨ r = q) b) ∧ (¬ g ≤ b → wk_b (-1) l (fun r => S r ∨ r = q) g) := by
  have hm : ∀ e, e ∈ l → e.1 = q → nI e.2 = g := by
    intro e he hq
    rw [hg, ← hq]
    exact (tr_g_mem l hn he).symm
  refine ⟨fun hle => ⟨fun e he hs => ?_, ?_⟩, fun hle => ⟨fun e he hs => ?_, ?_⟩⟩
  · rcases hs with hs | hs
    · exact h.1 e he hs
    · rw [hm e he hs]; exact hle
  · rcases h.2 with h2 | ⟨e, he, hs, eb⟩
    · exact Or.inl h2
    · exact Or.inr ⟨e, he, Or.inl hs, eb⟩
  · rcases hs with hs | hs
    · exact Int32.le_trans (h.1 e he hs) (Int32.le_of_lt (Int32.not_le.mp hle))
    · rw [hm e he hs]; exact Int32.le_refl _
  · rcases tr_g_yes (p := q) l with h2 | ⟨g', h3, h4⟩
    · refine absurd ?_ hle
      rw [hg, tr_g_no l h2]
      rcases h.2 with h2 | ⟨e, he, hs, eb⟩
      · rw [h2]; exact Int32.le_refl _
      · rw [eb]
        exact nb_le_m1 (by have := hl e he; omega)
    · exact Or.inr ⟨(q, g'), h3, Or.inr rfl, hg.trans h4⟩
theorem wk_n7 {t p d : Nat} (ht : cd_top t) (hd : 1 ≤ d) (hdn : d ≤ cd_nl t) (hm : cd_mt d p (t / 8 ^ (cd_nl t - d))) : p % 8 ≠ 7 := by
  obtain ⟨k, rfl⟩ : ∃ k, d = k + 1 := ⟨d - 1, by omega⟩
  have h2 := And.right hm
  rw [cd_pre_mod (by omega)] at h2
  have h3 := ht.2 k (by omega)
  omega
theorem wk_c7 {t p d f : Nat} (hf : cd_fil f) (hp : cd_nl p = d) (hdn : d ≤ cd_nl t) (hm : cd_mt d p (t / 8 ^ (cd_nl t - d))) (e : f = p * 8 + 6 + 1) : wk_S t p d f := by
  have e1 : f / 8 = p := by omega
  have e2 : f % 8 = 7 := by omega
  have e3 := cd_nl_div hf.1.1 hf.1.2.1
  rw [e1, hp] at e3
  refine ⟨(cd_fit_r hf.1.1 hf.1.2.1 e2).mpr ?_, by omega, ?_⟩
  · rw [e1, hp]
    exact ⟨hdn, hm⟩
  · rw [show cd_nl f - d = 1 by omega, Nat.pow_one]
    exact e1
theorem wk_c0 {t p f : Nat} (ht : cd_top t) (hf : cd_fil f) (hp : cd_nl p = cd_nl t) (hm : cd_mt (cd_nl t) p (t / 8 ^ (cd_nl t - cd_nl t))) : (f = p * 8 + 6 + 1 ∨ f = p) ↔ wk_S t p (cd_nl t) f := by
  have h1 := cd_nl_pos ht.1.1
  have h7 := wk_n7 ht h1 (Nat.le_refl _) hm
  constructor
  · intro h
    rcases h with h | h
    · exact wk_c7 hf hp (Nat.le_refl _) hm h
    · subst h
      rw [Nat.sub_self, Nat.pow_zero, Nat.div_one] at hm
      refine ⟨(cd_fit_p h7).mpr ⟨hp.symm, by rw [hp]; exact hm⟩, by omega, ?_⟩
      rw [hp, Nat.sub_self, Nat.pow_zero, Nat.div_one]
  · intro h
    obtain ⟨h2, h3, h4⟩ := h
    by_cases z : f % 8 = 7
    · have h5 := (cd_fit_r hf.1.1 hf.1.2.1 z).mp h2
      have e3 := cd_nl_div hf.1.1 hf.1.2.1
      have h6 := h5.1
      by_cases z2 : cd_nl f = cd_nl t
      · rw [z2, Nat.sub_self, Nat.pow_zero, Nat.div_one] at h4
        exact Or.inr h4
      · rw [show cd_nl f - cd_nl t = 1 by omega, Nat.pow_one] at h4
        exact Or.inl (by omega)
    · have h5 := ((cd_fit_p z).mp h2).1
      rw [h5, Nat.sub_self, Nat.pow_zero, Nat.div_one] at h4
      exact Or.inr h4
theorem wk_cS {t p d f : Nat} (ht : cd_top t) (hf : cd_fil f) (hp : cd_nl p = d) (hd : d < cd_nl t) (hm : cd_mt d p (t / 8 ^ (cd_nl t - d))) : (f = p * 8 + 6 + 1 ∨ wk_S t (p * 8 + en_b t d + 1) (d + 1) f ∨ wk_S t (p * 8 + 5 + 1) (d + 1) f) ↔ wk_S t p d f := by
  obtain ⟨hb, hdg⟩ := en_b_lt ht.1 hd
  have hsub : ∀ b, b < 7 → wk_S t (p * 8 + b + 1) (d + 1) f → wk_S t p d f := by
    intro b hb7 h
    obtain ⟨h1, h2, h3⟩ := h
    refine ⟨h1, by omega, ?_⟩
    have h4 := cd_pre_div (m := f) (n := cd_nl f) (i := d) (by omega)
    rw [h3] at h4
    rw [← h4]
    omega
  constructor
  · intro h
    rcases h with h | h | h
    · exact wk_c7 hf hp (by omega) hm h
    · exact hsub _ hb h
    · exact hsub 5 (by decide) h
  · intro h
    obtain ⟨h1, h2, h3⟩ := h
    by_cases z : cd_nl f = d
    · rw [z, Nat.sub_self, Nat.pow_zero, Nat.div_one] at h3
      have hd1 := cd_nl_pos hf.1.1
      rw [← h3] at hm
      have h7 := wk_n7 ht (by omega) (by omega) hm
      have h5 := ((cd_fit_p h7).mp h1).1
      omega
    · have hdf : d < cd_nl f := by omega
      have hq := cd_pre_s (m := f) hdf
      rw [h3] at hq
      have ha := hf.1.2.2 d hdf
      have ha8 := cd_dg_lt (cd_nl f) f d
      by_cases z7 : cd_dg (cd_nl f) f d = 7
      · have h5 : ¬ d + 1 < cd_nl f := fun h => hf.2 d h z7
        rw [show cd_nl f - (d + 1) = 0 by omega, Nat.pow_zero, Nat.div_one] at hq
        exact Or.inl (by omega)
      · have hfx : d < cd_fx f := by
          unfold cd_fx
          split
          · rename_i h8
            by_cases z9 : d = cd_nl f - 1
            · rw [z9, cd_dg_z (by omega)] at z7
              exact absurd h8 z7
            · omega
          · exact hdf
        rcases h1.2.2 d hfx with h6 | h6
        · exact Or.inr (Or.inr ⟨h1, by omega, by rw [hq, h6]⟩)
        · exact Or.inr (Or.inl ⟨h1, by omega, by rw [hq, h6, hdg]; omega⟩)
theorem wk_Sno {L : Nat → List (Nat × Nat)} {t q d c : Nat} {e : Nat × Nat} (hw : tr_w L q = 0) (hc : c < 4) (he : e ∈ L c) : ¬ wk_S t q (d + 1) e.1 := by
  intro h
  have h1 := h.2.1
  have h2 := tr_w_pos (k := cd_nl e.1 - (d + 1)) hc he (by omega)
  rw [h.2.2] at h2
  omega
theorem wk_512 {m d : Nat} (h : m < 4096) (hd : cd_nl m = d) (h3 : d ≤ 3) : m < 512 := by
  unfold cd_nl at hd
  repeat' split at hd
  all_goals omega
section WK
variable {kc fw : Int32} {lv ch gr be ow kt kv ol hd ln tq vq gq lo nd dp bs br bz ci : Nat → Int32}
variable {L : Nat → List (Nat × Nat)} {pa : Nat → Nat}
theorem wk_n2 {post : SX → Prop} {S : Nat → Prop} {x q : Nat} (hx1 : 1 ≤ x) (hx : x ≤ 80) (hL : tr_L L) (hg : ∀ c, c < 4 → gr (x * 4 + c) = tr_g q (L c)) (K : ∀ bs : Nat → Int32, wk_B L (fun r => S r ∨ r = q) bs → post (kc, fw, lv, ch, gr, be, ow, kt, kv, ol, hd, ln, tq, vq, gq, lo, nd, dp, bs, br, bz, ci)) : ∀ (d c : Nat) (bs : Nat → Int32), c + d = 4 → (∀ c', c' < c → wk_b (-1) (L c') (fun r => S r ∨ r = q) (bs c')) → (∀ c', c ≤ c' → c' < 4 → wk_b (-1) (L c') S (bs c')) → wX_note_2 post (nI x) kc fw (d + 1) (nI c) lv ch gr be ow kt kv ol hd ln tq vq gq lo nd dp bs br bz ci := by
  intro d
  induction d with
  | zero =>
    intro c bs hc h1 h2
    exact br_t (nI_le (a := 4) (by omega) (by omega)) (K bs fun c' hc' => h1 c' (by omega))
  | succ d ih =>
    intro c bs hc h1 h2
    have hc4 : c < 4 := by omega
    have hix : nI x * 4 + nI c = nI (x * 4 + c) := xt_ix4
    have hi1 : vp_in (nI x * 4 + nI c) 324 := by
      rw [hix]
      exact vp_in_nI (by omega) (by decide)
    have hi2 : vp_in (nI c) 4 := vp_in_nI hc4 (by decide)
    have hcc : (nI c).toNatClampNeg = c := nI_clamp (by omega)
    have hgv : gr (nI x * 4 + nI c).toNatClampNeg = tr_g q (L c) := by
      rw [hix, nI_clamp (by omega)]
      exact hg c hc4
    obtain ⟨hl5, hnd, hfil⟩ := hL c hc4
    have hadd := wk_add hnd (fun e he => (hfil e he).2) (h2 c (Nat.le_refl _) hc4) (g := tr_g q (L c)) rfl
    refine br_f (nI_ge (b := 4) (by omega) (by omega)) (br_f (nI_ne0 (by omega) (by omega)) ⟨hi1, hi2, ?_⟩)
    by_cases z : tr_g q (L c) ≤ bs c
    · refine br_t (by rw [hgv, hcc]; exact z) (nm_r (nI_1 c) (ih (c + 1) bs (by omega) (fun c' hc' => ?_) fun c' a1 a2 => h2 c' (by omega) a2))
      by_cases e : c' = c
      · rw [e]; exact hadd.1 z
      · exact h1 c' (by omega)
    · refine br_f (by rw [hgv, hcc]; exact z) ⟨hi1, hi2, nm_r (e' := upd bs c (tr_g q (L c))) (by rw [hgv, hcc]) (nm_r (nI_1 c) (ih (c + 1) _ (by omega) (fun c' hc' => ?_) fun c' a1 a2 => ?_))⟩
      · by_cases e : c' = c
        · rw [e, pk_us]; exact hadd.2 z
        · rw [pk_un e]; exact h1 c' (by omega)
      · rw [pk_un (by omega)]
        exact h2 c' (by omega) a2
theorem wk_note {post : SX → Prop} {S : Nat → Prop} {x q : Nat} (hx1 : 1 ≤ x) (hx : x ≤ 80) (hL : tr_L L) (hg : ∀ c, c < 4 → gr (x * 4 + c) = tr_g q (L c)) (hB : wk_B L S bs) (K : ∀ bs : Nat → Int32, wk_B L (fun r => S r ∨ r = q) bs → post (kc, fw, lv, ch, gr, be, ow, kt, kv, ol, hd, ln, tq, vq, gq, lo, nd, dp, bs, br, bz, ci)) : wpX_note post (kc, fw, lv, ch, gr, be, ow, kt, kv, ol, hd, ln, tq, vq, gq, lo, nd, dp, bs, br, bz, ci) (nI x) :=
  ⟨5, wk_n2 hx1 hx hL hg K 4 0 bs (by decide) (fun c' h => absurd h (by omega)) fun c' _ h => hB c' h⟩
theorem wk_note0 {post : SX → Prop} (hp : post (kc, fw, lv, ch, gr, be, ow, kt, kv, ol, hd, ln, tq, vq, gq, lo, nd, dp, bs, br, bz, ci)) : wpX_note post (kc, fw, lv, ch, gr, be, ow, kt, kv, ol, hd, ln, tq, vq, gq, lo, nd, dp, bs, br, bz, ci) 0 := ⟨1, br_f (by decide) (br_t rfl hp)⟩
theorem wk_notec {post : SX → Prop} {S : Nat → Prop} {x b : Nat} (hL : tr_L L) (P : tr_P ch gr be L pa) (hx : x ≤ 80) (ax : x = 0 ∨ pa x ≠ 0) (hb : b < 7) (hB : wk_B L S bs) (K : ∀ bs : Nat → Int32, wk_B L (fun r => S r ∨ r = pa x * 8 + b + 1) bs → post (kc, fw, lv, ch, gr, be, ow, kt, kv, ol, hd, ln, tq, vq, gq, lo, nd, dp, bs, br, bz, ci)) : wpX_note post (kc, fw, lv, ch, gr, be, ow, kt, kv, ol, hd, ln, tq, vq, gq, lo, nd, dp, bs, br, bz, ci) (ch (x * 7 + b)) := by
  rcases P.1.2.2.2.1 x b hx ax hb with ⟨c0, w0⟩ | ⟨y, y1, y2, y3, y4⟩
  · rw [c0]
    refine wk_note0 (K bs (wk_congr hB fun c e hc he => ⟨Or.inl, fun h => ?_⟩))
    rcases h with h | h
    · exact h
    · have h5 := tr_w_self hL hc he
      rw [h] at h5
      omega
  · rw [y3]
    refine wk_note y1 y2 hL (fun c hc => ?_) hB K
    rw [P.2.2 y c y1 y2 hc, y4]
theorem wk_enqc {Q : SX → Prop} {x b d w : Nat} (P : tr_P ch gr be L pa) (hx : x ≤ 80) (ax : x = 0 ∨ pa x ≠ 0) (hb : b < 7) (hw : w < 32) (hd9 : d < 100) (K : ∀ (fv : Nat) (nd' dp' : Nat → Int32), ((fv = w ∧ nd' = nd ∧ dp' = dp ∧ tr_w L (pa x * 8 + b + 1) = 0) ∨ ∃ y, 1 ≤ y ∧ y ≤ 80 ∧ pa y = pa x * 8 + b + 1 ∧ fv = w + 1 ∧ nd' = upd nd w (nI y) ∧ dp' = upd dp w (nI (d + 1))) → Q (kc, nI fv, lv, ch, gr, be, ow, kt, kv, ol, hd, ln, tq, vq, gq, lo, nd', dp', bs, br, bz, ci)) : wpX_enqueue Q (kc, nI w, lv, ch, gr, be, ow, kt, kv, ol, hd, ln, tq, vq, gq, lo, nd, dp, bs, br, bz, ci) (ch (x * 7 + b)) (nI (d + 1)) := by
  rcases P.1.2.2.2.1 x b hx ax hb with ⟨c0, w0⟩ | ⟨y, y1, y2, y3, y4⟩
  · rw [c0]
    exact br_t rfl (br_f (nI_ne0 (by omega) (by omega)) (K w nd dp (Or.inl ⟨rfl, rfl, rfl, w0⟩)))
  · rw [y3]
    have hin : vp_in (nI w) 32 := vp_in_nI hw (by decide)
    have hc : (nI w).toNatClampNeg = w := nI_clamp (by omega)
    refine br_f (nI_ne0 (by omega) (by omega)) (And.intro hin (nm_r (e' := upd nd w (nI y)) (by rw [hc]) (And.intro hin (nm_r (e' := upd dp w (nI (d + 1))) (by rw [hc]) (nm_r (nI_1 w) (K (w + 1) _ _ (Or.inr ⟨y, y1, y2, y4, rfl, rfl, rfl⟩)))))))
theorem wk_sub {post : SX → Prop} {t : Nat} (hL : tr_L L) (P : tr_P ch gr be L pa) (ht : cd_top t) (hl : ∀ j, j < cd_nl t → lv j = nI (en_b t j)) : ∀ (k d x w N r : Nat) (nd dp bs : Nat → Int32) (S : Nat → Prop), d + k = cd_nl t → x ≤ 80 → (x = 0 ∨ pa x ≠ 0) → pa x < 4096 → cd_nl (pa x) = d → cd_mt d (pa x) (t / 8 ^ (cd_nl t - d)) → w + k ≤ 20 → nd w = nI x → dp w = nI d → wk_B L S bs → N + r = 41 → r + wk_R k ≤ 40 →
    (∀ (N' r' : Nat) (nd' dp' bs' : Nat → Int32), N' + r' = 41 → r' ≤ r + wk_R k → (∀ j, j < w → nd' j = nd j ∧ dp' j = dp j) → wk_B L (fun f => S f ∨ wk_S t (pa x) d f) bs' → wX_walk_33 post (nI (cd_nl t)) N' (nI r') kc (nI w) lv ch gr be ow kt kv ol hd ln tq vq gq lo nd' dp' bs' br bz ci) →
    wX_walk_33 post (nI (cd_nl t)) N (nI r) kc (nI (w + 1)) lv ch gr be ow kt kv ol hd ln tq vq gq lo nd dp bs br bz ci := by
  have hn4 := cd_nl_le ht.1.2.1
  have hn1 := cd_nl_pos ht.1.1
  intro k
  induction k with
  | zero =>
    intro d x w N r nd dp bs S hdk hx ax hp4 hpd hm hw hnd hdp hB hN hR K
    have hR' : r + 1 ≤ 40 := hR
    have K' : ∀ (N' r' : Nat) (nd' dp' bs' : Nat → Int32), N' + r' = 41 → r' ≤ r + 1 → (∀ j, j < w → nd' j = nd j ∧ dp' j = dp j) → wk_B L (fun f => S f ∨ wk_S t (pa x) d f) bs' → wX_walk_33 post (nI (cd_nl t)) N' (nI r') kc (nI w) lv ch gr be ow kt kv ol hd ln tq vq gq lo nd' dp' bs' br bz ci := K
    clear K hR
    obtain ⟨N0, rfl⟩ : ∃ N0, N = N0 + 1 := ⟨N - 1, by omega⟩
    have hdn : d = cd_nl t := by omega
    subst hdn
    have hx1 : 1 ≤ x := by
      by_cases z : x = 0
      · rw [z, P.1.1, cd_nl0] at hpd
        omega
      · omega
    have hwi : vp_in (nI w) 32 := vp_in_nI (by omega) (by decide)
    have hwc : (nI w).toNatClampNeg = w := nI_clamp (by omega)
    have h6 : nI x * 7 + 6 = nI (x * 7 + 6) := xt_ix (b := 6)
    have h6c : (nI x * 7 + 6).toNatClampNeg = x * 7 + 6 := by
      rw [h6]
      exact nI_clamp (by omega)
    refine br_f (nI_ge (b := 40) (by omega) (by omega)) (br_f (nI_nle (by omega) (by omega)) (nm_r (nI_pred w) (And.intro hwi (nm_r (e' := nI x) (by rw [hwc]; exact hnd) (And.intro hwi (nm_r (e' := nI (cd_nl t)) (by rw [hwc]; exact hdp) (And.intro (by rw [h6]; exact vp_in_nI (by omega) (by decide)) ?_)))))))
    rw [h6c]
    refine wk_notec hL P hx ax (by decide) hB fun bs1 hB1 => ?_
    refine br_t rfl (wk_note hx1 hx hL (fun c hc => P.2.2 x c hx1 hx hc) hB1 fun bs2 hB2 => ?_)
    refine nm_r (nI_1 r) (K' N0 (r + 1) nd dp bs2 (by omega) (by omega) (fun j _ => ⟨rfl, rfl⟩) (wk_congr hB2 fun c e hc he => ?_))
    have hf := ((hL c hc).2.2 e he).1
    have hcore := wk_c0 ht hf hpd hm
    constructor
    · intro h
      rcases h with (h | h) | h
      · exact Or.inl h
      · exact Or.inr (hcore.mp (Or.inl h))
      · exact Or.inr (hcore.mp (Or.inr h))
    · intro h
      rcases h with h | h
      · exact Or.inl (Or.inl h)
      · rcases hcore.mpr h with h | h
        · exact Or.inl (Or.inr h)
        · exact Or.inr h
  | succ k ih =>
    intro d x w N r nd dp bs S hdk hx ax hp4 hpd hm hw hnd hdp hB hN hR K
    have hR' : r + (1 + wk_R k + wk_R k) ≤ 40 := hR
    have K' : ∀ (N' r' : Nat) (nd' dp' bs' : Nat → Int32), N' + r' = 41 → r' ≤ r + (1 + wk_R k + wk_R k) → (∀ j, j < w → nd' j = nd j ∧ dp' j = dp j) → wk_B L (fun f => S f ∨ wk_S t (pa x) d f) bs' → wX_walk_33 post (nI (cd_nl t)) N' (nI r') kc (nI w) lv ch gr be ow kt kv ol hd ln tq vq gq lo nd' dp' bs' br bz ci := K
    clear K hR
    obtain ⟨N0, rfl⟩ : ∃ N0, N = N0 + 1 := ⟨N - 1, by omega⟩
    have hdn : d < cd_nl t := by omega
    have hp5 := wk_512 hp4 hpd (by omega)
    obtain ⟨hb, hdg⟩ := en_b_lt ht.1 hdn
    have RES : ∀ (b w1 fv N r : Nat) (nd dp bs : Nat → Int32) (S : Nat → Prop), b < 7 → (b + 1 = 6 ∨ b + 1 = cd_dg (cd_nl t) t d) → w1 + k ≤ 20 → ((fv = w1 ∧ tr_w L (pa x * 8 + b + 1) = 0) ∨ ∃ y, 1 ≤ y ∧ y ≤ 80 ∧ pa y = pa x * 8 + b + 1 ∧ fv = w1 + 1 ∧ nd w1 = nI y ∧ dp w1 = nI (d + 1)) → wk_B L S bs → N + r = 41 → r + wk_R k ≤ 40 →
        (∀ (N' r' : Nat) (nd' dp' bs' : Nat → Int32), N' + r' = 41 → r' ≤ r + wk_R k → (∀ j, j < w1 → nd' j = nd j ∧ dp' j = dp j) → wk_B L (fun f => S f ∨ wk_S t (pa x * 8 + b + 1) (d + 1) f) bs' → wX_walk_33 post (nI (cd_nl t)) N' (nI r') kc (nI w1) lv ch gr be ow kt kv ol hd ln tq vq gq lo nd' dp' bs' br bz ci) →
        wX_walk_33 post (nI (cd_nl t)) N (nI r) kc (nI fv) lv ch gr be ow kt kv ol hd ln tq vq gq lo nd dp bs br bz ci := by
      intro b w1 fv N r nd dp bs S hb7 hbm hw1 hst hB hN hR KK
      rcases hst with ⟨e, w0⟩ | ⟨y, y1, y2, y3, y4, y5, y6⟩
      · subst e
        refine KK N r nd dp bs hN (by omega) (fun j _ => ⟨rfl, rfl⟩) (wk_congr hB fun c e hc he => ⟨Or.inl, fun h => ?_⟩)
        rcases h with h | h
        · exact h
        · exact absurd h (wk_Sno w0 hc he)
      · subst y4
        refine ih (d + 1) y w1 N r nd dp bs S (by omega) y2 (Or.inr (by omega)) (by omega) ?_ ?_ hw1 y5 y6 hB hN hR fun N' r' nd' dp' bs' a1 a2 a3 a4 => KK N' r' nd' dp' bs' a1 a2 a3 ?_
        · rw [y3, cd_nl_ext hp5 hb7, hpd]
        · rw [y3]
          refine And.intro ?_ ?_
          · rw [cd_pre_div hdn, show (pa x * 8 + b + 1) / 8 = pa x by omega]
            exact hm
          · rw [cd_pre_mod hdn, show (pa x * 8 + b + 1) % 8 = b + 1 by omega]
            exact hbm
        · rw [y3] at a4
          exact a4
    have hwi : vp_in (nI w) 32 := vp_in_nI (by omega) (by decide)
    have hwc : (nI w).toNatClampNeg = w := nI_clamp (by omega)
    have h6 : nI x * 7 + 6 = nI (x * 7 + 6) := xt_ix (b := 6)
    have h6c : (nI x * 7 + 6).toNatClampNeg = x * 7 + 6 := by
      rw [h6]
      exact nI_clamp (by omega)
    have h5 : nI x * 7 + 5 = nI (x * 7 + 5) := xt_ix (b := 5)
    have h5c : (nI x * 7 + 5).toNatClampNeg = x * 7 + 5 := by
      rw [h5]
      exact nI_clamp (by omega)
    have hv : lv (nI d).toNatClampNeg = nI (en_b t d) := by
      rw [nI_clamp (by omega)]
      exact hl d hdn
    have hix : nI x * 7 + lv (nI d).toNatClampNeg = nI (x * 7 + en_b t d) := by
      rw [hv, xt_ix]
    have hixc : (nI x * 7 + lv (nI d).toNatClampNeg).toNatClampNeg = x * 7 + en_b t d := by
      rw [hix]
      exact nI_clamp (by omega)
    refine br_f (nI_ge (b := 40) (by omega) (by omega)) (br_f (nI_nle (by omega) (by omega)) (nm_r (nI_pred w) (And.intro hwi (nm_r (e' := nI x) (by rw [hwc]; exact hnd) (And.intro hwi (nm_r (e' := nI d) (by rw [hwc]; exact hdp) (And.intro (by rw [h6]; exact vp_in_nI (by omega) (by decide)) ?_)))))))
    rw [h6c]
    refine wk_notec hL P hx ax (by decide) hB fun bs1 hB1 => ?_
    refine br_f (fun h => absurd (nb_inj h (by omega) (by omega)) (by omega)) (And.intro (by rw [h5]; exact vp_in_nI (by omega) (by decide)) ?_)
    rw [h5c, nI_1 d]
    refine wk_enqc P hx ax (by decide) (by omega) (by omega) fun f1 nd1 dp1 hs1 => ?_
    have hf1 : f1 ≤ w + 1 := by
      rcases hs1 with ⟨a1, _⟩ | ⟨y, _, _, _, a4, _⟩
      · omega
      · omega
    have hlow1 : ∀ j, j < w → nd1 j = nd j ∧ dp1 j = dp j := by
      intro j hj
      rcases hs1 with ⟨a1, a2, a3, a4⟩ | ⟨y, a1, a2, a3, a4, a5, a6⟩
      · rw [a2, a3]; exact ⟨rfl, rfl⟩
      · rw [a5, a6]; exact ⟨pk_un (by omega), pk_un (by omega)⟩
    refine And.intro (vp_in_nI (by omega) (by decide)) (And.intro (by rw [hix]; exact vp_in_nI (by omega) (by decide)) ?_)
    rw [hixc]
    refine wk_enqc P hx ax hb (by omega) (by omega) fun f2 nd2 dp2 hs2 => ?_
    have hlow2 : ∀ j, j < f1 → nd2 j = nd1 j ∧ dp2 j = dp1 j := by
      intro j hj
      rcases hs2 with ⟨a1, a2, a3, a4⟩ | ⟨y, a1, a2, a3, a4, a5, a6⟩
      · rw [a2, a3]; exact ⟨rfl, rfl⟩
      · rw [a5, a6]; exact ⟨pk_un (by omega), pk_un (by omega)⟩
    refine nm_r (nI_1 r) (RES (en_b t d) f1 f2 N0 (r + 1) nd2 dp2 bs1 _ hb (Or.inr hdg.symm) (by omega) ?_ hB1 (by omega) (by omega) fun N' r' nd' dp' bs' a1 a2 a3 a4 => ?_)
    · rcases hs2 with ⟨a1, a2, a3, a4⟩ | ⟨y, a1, a2, a3, a4, a5, a6⟩
      · exact Or.inl ⟨a1, a4⟩
      · exact Or.inr ⟨y, a1, a2, a3, a4, by rw [a5]; exact pk_us, by rw [a6]; exact pk_us⟩
    · refine RES 5 w f1 N' r' nd' dp' bs' _ (by decide) (Or.inl rfl) (by omega) ?_ a4 a1 (by omega) fun N'' r'' nd'' dp'' bs'' b1 b2 b3 b4 => ?_
      · rcases hs1 with ⟨c1, c2, c3, c4⟩ | ⟨y, c1, c2, c3, c4, c5, c6⟩
        · exact Or.inl ⟨c1, c4⟩
        · have e1 := a3 w (by omega)
          have e2 := hlow2 w (by omega)
          refine Or.inr ⟨y, c1, c2, c3, c4, ?_, ?_⟩
          · rw [e1.1, e2.1, c5]; exact pk_us
          · rw [e1.2, e2.2, c6]; exact pk_us
      · refine K' N'' r'' nd'' dp'' bs'' b1 (by omega) (fun j hj => ?_) (wk_congr b4 fun c e hc he => ?_)
        · have e0 := b3 j hj
          have e2 := hlow1 j hj
          rcases hs1 with ⟨c1, c2, c3, c4⟩ | ⟨y, c1, c2, c3, c4, c5, c6⟩
          · have e1 := a3 j (by omega)
            have e3 := hlow2 j (by omega)
            exact ⟨by rw [e0.1, e1.1, e3.1, e2.1], by rw [e0.2, e1.2, e3.2, e2.2]⟩
          · have e1 := a3 j (by omega)
            have e3 := hlow2 j (by omega)
            exact ⟨by rw [e0.1, e1.1, e3.1, e2.1], by rw [e0.2, e1.2, e3.2, e2.2]⟩
        · have hf := ((hL c hc).2.2 e he).1
          have hcore := wk_cS ht hf hpd hdn hm
          constructor
          · intro h
            rcases h with ((h | h) | h) | h
            · exact Or.inl h
            · exact Or.inr (hcore.mp (Or.inl h))
            · exact Or.inr (hcore.mp (Or.inr (Or.inl h)))
            · exact Or.inr (hcore.mp (Or.inr (Or.inr h)))
          · intro h
            rcases h with h | h
            · exact Or.inl (Or.inl (Or.inl h))
            · rcases hcore.mpr h with h | h | h
              · exact Or.inl (Or.inl (Or.inr h))
              · exact Or.inl (Or.inr h)
              · exact Or.inr h
theorem wk_w2 {post : SX → Prop} {t : Nat} (hL : tr_L L) (P : tr_P ch gr be L pa) (ht : cd_top t) (hl : ∀ j, j < cd_nl t → lv j = nI (en_b t j)) (K : ∀ (fw : Int32) (nd dp bs : Nat → Int32), wk_B L (fun f => cd_fit f t) bs → post (kc, fw, lv, ch, gr, be, ow, kt, kv, ol, hd, ln, tq, vq, gq, lo, nd, dp, bs, br, bz, ci)) : ∀ (d c : Nat) (bs : Nat → Int32), c + d = 4 → (∀ c', c' < c → bs c' = -1) → wX_walk_2 post (nI (cd_nl t)) kc fw (d + 1) (nI c) lv ch gr be ow kt kv ol hd ln tq vq gq lo nd dp bs br bz ci := by
  have hn4 := cd_nl_le ht.1.2.1
  have hwR : wk_R (cd_nl t) ≤ 31 := by
    rcases cd_c5 hn4 with h | h | h | h | h
    all_goals (rw [h]; decide)
  intro d
  induction d with
  | zero =>
    intro c bs hc hbs
    refine br_t (nI_le (a := 4) (by omega) (by omega)) (br_t rfl (br_t rfl (And.intro (by exact vp_in_nI (n := 0) (by decide) (by decide)) (nm_e (And.intro (by exact vp_in_nI (n := 0) (by decide) (by decide)) (nm_e (nm_r (e' := nI (0 + 1)) (by decide) ?_)))))))
    refine ⟨41, wk_sub hL P ht hl (cd_nl t) 0 0 0 41 0 _ _ bs (fun _ => False) (by omega) (by omega) (Or.inl rfl) ?_ ?_ trivial (by omega) ?_ ?_ ?_ (by decide) (by omega) fun N' r' nd' dp' bs' a1 a2 a3 a4 => ?_⟩
    · rw [P.1.1]; decide
    · rw [P.1.1]; rfl
    · exact pk_us
    · exact pk_us
    · intro c' hc'
      exact ⟨fun e he h => absurd h id, Or.inl (hbs c' (by omega))⟩
    · obtain ⟨N0, rfl⟩ : ∃ N0, N' = N0 + 1 := ⟨N' - 1, by omega⟩
      refine br_f (nI_ge (b := 40) (by omega) (by omega)) (br_t (by decide) (K _ nd' dp' bs' (wk_congr a4 fun c e hc he => ?_)))
      have hf := ((hL c hc).2.2 e he).1
      constructor
      · intro h
        rcases h with h | h
        · exact absurd h id
        · exact h.1
      · intro h
        refine Or.inr ⟨h, Nat.zero_le _, ?_⟩
        rw [Nat.sub_zero, cd_pre_0 hf.1.2.1, P.1.1]
  | succ d ih =>
    intro c bs hc hbs
    refine br_f (nI_ge (b := 4) (by omega) (by omega)) ⟨vp_in_nI (by omega) (by decide), nm_r (e' := upd bs c (-1)) (by rw [nI_clamp (by omega)]) (nm_r (nI_1 c) (ih (c + 1) _ (by omega) fun c' hc' => ?_))⟩
    by_cases e : c' = c
    · rw [e]; exact pk_us
    · rw [pk_un e]; exact hbs c' (by omega)
theorem wk_walk {post : SX → Prop} {t : Nat} (hL : tr_L L) (P : tr_P ch gr be L pa) (ht : cd_top t) (hl : ∀ j, j < cd_nl t → lv j = nI (en_b t j)) (K : ∀ (fw : Int32) (nd dp bs : Nat → Int32), wk_B L (fun f => cd_fit f t) bs → post (kc, fw, lv, ch, gr, be, ow, kt, kv, ol, hd, ln, tq, vq, gq, lo, nd, dp, bs, br, bz, ci)) : wpX_walk post (kc, fw, lv, ch, gr, be, ow, kt, kv, ol, hd, ln, tq, vq, gq, lo, nd, dp, bs, br, bz, ci) (nI (cd_nl t)) :=
  ⟨5, wk_w2 hL P ht hl K 4 0 bs (by decide) fun c' h => absurd h (by omega)⟩
end WK
end
section
/-! counting topics: over all numbers below 4096, and level by level -/
noncomputable def bd_i (P : Prop) : Nat := @ite Nat P (Classical.propDecidable P) 1 0
theorem bd_i1 {P : Prop} (h : P) : bd_i P = 1 := if_pos h
theorem bd_i0 {P : Prop} (h : ¬ P) : bd_i P = 0 := if_neg h
def bd_s (g : Nat → Nat) : Nat → Nat → Nat
  | 0, _ => 0
  | e + 1, j => g j + bd_s g e (j + 1)
def bd_ct (H : Nat → Nat) : Nat → Nat → Nat
  | 0, q => H q
  | k + 1, q => H q + bd_s (fun l => bd_ct H k (q * 8 + l + 1)) 5 0
def bd_rest (H : Nat → Nat) : Nat → Nat → Nat
  | 0, _ => 0
  | k + 1, q => bd_s (fun l => bd_ct H k (q * 8 + l + 1)) 5 0
def bd_tf : Nat → Nat
  | 0 => 1
  | k + 1 => 1 + 5 * bd_tf k
def bd_sum (g : Nat → Nat) : Nat → Nat
  | 0 => 0
  | n + 1 => bd_sum g n + g n
def bd_T (t : Nat) : Prop := t = 0 ∨ cd_top t
theorem bd_s5 (g : Nat → Nat) : bd_s g 5 0 = g 0 + (g 1 + (g 2 + (g 3 + (g 4 + 0)))) := rfl
theorem bd_ctr (H : Nat → Nat) (k q : Nat) : bd_ct H k q = H q + bd_rest H k q := by
  cases k with
  | zero => rfl
  | succ k => rfl
theorem bd_lin : ∀ (k : Nat) (H : Nat → Nat) (q : Nat), bd_ct H (k + 1) q = H q + bd_ct (fun q => bd_s (fun l => H (q * 8 + l + 1)) 5 0) k q := by
  intro k
  induction k with
  | zero => intro H q; rfl
  | succ k ih =>
    intro H q
    have h1 : bd_ct H (k + 1 + 1) q = H q + bd_s (fun l => bd_ct H (k + 1) (q * 8 + l + 1)) 5 0 := rfl
    have h2 : bd_ct (fun q => bd_s (fun l => H (q * 8 + l + 1)) 5 0) (k + 1) q = bd_s (fun l => H (q * 8 + l + 1)) 5 0 + bd_s (fun l => bd_ct (fun q => bd_s (fun l => H (q * 8 + l + 1)) 5 0) k (q * 8 + l + 1)) 5 0 := rfl
    rw [h1, h2, bd_s5, bd_s5, bd_s5]
    simp only [ih]
    omega
theorem bd_sum8 (g : Nat → Nat) : ∀ n, bd_sum g (8 * n) = bd_sum (fun q => g (q * 8) + g (q * 8 + 1) + g (q * 8 + 2) + g (q * 8 + 3) + g (q * 8 + 4) + g (q * 8 + 5) + g (q * 8 + 6) + g (q * 8 + 7)) n := by
  intro n
  induction n with
  | zero => rfl
  | succ n ih =>
    have h1 : bd_sum g (8 * (n + 1)) = bd_sum g (8 * n) + g (8 * n) + g (8 * n + 1) + g (8 * n + 2) + g (8 * n + 3) + g (8 * n + 4) + g (8 * n + 5) + g (8 * n + 6) + g (8 * n + 7) := rfl
    have h2 : bd_sum (fun q => g (q * 8) + g (q * 8 + 1) + g (q * 8 + 2) + g (q * 8 + 3) + g (q * 8 + 4) + g (q * 8 + 5) + g (q * 8 + 6) + g (q * 8 + 7)) (n + 1) = bd_sum (fun q => g (q * 8) + g (q * 8 + 1) + g (q * 8 + 2) + g (q * 8 + 3) + g (q * 8 + 4) + g (q * 8 + 5) + g (q * 8 + 6) + g (q * 8 + 7)) n + (g (n * 8) + g (n * 8 + 1) + g (n * 8 + 2) + g (n * 8 + 3) + g (n * 8 + 4) + g (n * 8 + 5) + g (n * 8 + 6) + g (n * 8 + 7)) := rfl
    rw [h1, h2, ← ih, Nat.mul_comm n 8]
    omega
theorem bd_sumz {g g' : Nat → Nat} {h : Nat} : ∀ n, 1 ≤ n → (∀ q, q < n → g q = (if q = 0 then h else 0) + g' q) → bd_sum g n = h + bd_sum g' n := by
  intro n
  induction n with
  | zero => intro h1; omega
  | succ n ih =>
    intro _ H
    have e := H n (by omega)
    have h1 : bd_sum g (n + 1) = bd_sum g n + g n := rfl
    have h2 : bd_sum g' (n + 1) = bd_sum g' n + g' n := rfl
    by_cases z : n = 0
    · subst z
      rw [if_pos rfl] at e
      have h3 : bd_sum g 0 = 0 := rfl
      have h4 : bd_sum g' 0 = 0 := rfl
      omega
    · rw [if_neg z] at e
      have h3 := ih (by omega) fun q hq => H q (by omega)
      omega
theorem bd_sumc {g g' : Nat → Nat} : ∀ n, (∀ q, q < n → g q = g' q) → bd_sum g n = bd_sum g' n := by
  intro n
  induction n with
  | zero => intro _; rfl
  | succ n ih =>
    intro H
    have h1 : bd_sum g (n + 1) = bd_sum g n + g n := rfl
    have h2 : bd_sum g' (n + 1) = bd_sum g' n + g' n := rfl
    rw [h1, h2, ih fun q hq => H q (by omega), H n (by omega)]
theorem bd_top {q b : Nat} (hq : q < 512) (hb : b < 7) : cd_top (q * 8 + b + 1) ↔ (b ≤ 4 ∧ bd_T q) := by
  have hn := cd_nl_ext hq hb
  have hd : (q * 8 + b + 1) / 8 = q := by omega
  have hm : (q * 8 + b + 1) % 8 = b + 1 := by omega
  constructor
  · intro h
    have h1 := h.2 (cd_nl q) (by omega)
    rw [hn, cd_dg_last, hm] at h1
    refine ⟨by omega, ?_⟩
    by_cases z : q = 0
    · exact Or.inl z
    · refine Or.inr ⟨⟨by omega, by omega, fun i hi => ?_⟩, fun i hi => ?_⟩
      · have h2 := h.1.2.2 i (by omega)
        rw [hn, cd_dg_ext hi, hd] at h2
        exact h2
      · have h2 := h.2 i (by omega)
        rw [hn, cd_dg_ext hi, hd] at h2
        exact h2
  · intro h
    obtain ⟨hb4, hq2⟩ := h
    have H : ∀ i, i < cd_nl (q * 8 + b + 1) → 1 ≤ cd_dg (cd_nl (q * 8 + b + 1)) (q * 8 + b + 1) i ∧ cd_dg (cd_nl (q * 8 + b + 1)) (q * 8 + b + 1) i ≤ 5 := by
      rw [hn]
      intro i hi
      by_cases z : i = cd_nl q
      · rw [z, cd_dg_last, hm]
        omega
      · rw [cd_dg_ext (by omega), hd]
        rcases hq2 with h0 | h0
        · rw [h0, cd_nl0] at hi z
          omega
        · exact ⟨h0.1.2.2 i (by omega), h0.2 i (by omega)⟩
    exact ⟨⟨by omega, by omega, fun i hi => (H i hi).1⟩, fun i hi => (H i hi).2⟩
theorem bd_top8 {q : Nat} : ¬ cd_top (q * 8) := by
  intro h
  have h1 := cd_nl_pos h.1.1
  have h2 := h.1.2.2 (cd_nl (q * 8) - 1) (by omega)
  rw [cd_dg_z h1] at h2
  omega
theorem bd_tot : ∀ (k : Nat) (H : Nat → Nat), k ≤ 4 → bd_sum (fun t => bd_i (bd_T t) * H t) (8 ^ k) = bd_ct H k 0 := by
  intro k
  induction k with
  | zero =>
    intro H _
    show 0 + bd_i (bd_T 0) * H 0 = H 0
    rw [bd_i1 (P := bd_T 0) (Or.inl rfl)]
    omega
  | succ k ih =>
    intro H hk
    have hp : (8 : Nat) ^ k ≤ 512 := by
      have h1 : (8 : Nat) ^ k ≤ 8 ^ 3 := Nat.pow_le_pow_right (by decide) (by omega)
      exact h1
    have hp1 : 1 ≤ (8 : Nat) ^ k := Nat.pow_pos (by decide)
    rw [Nat.pow_succ, Nat.mul_comm, bd_sum8, bd_lin, ← ih _ (by omega)]
    refine bd_sumz (8 ^ k) hp1 fun q hq => ?_
    have hq5 : q < 512 := by omega
    have h0 : bd_i (bd_T (q * 8)) * H (q * 8) = if q = 0 then H 0 else 0 := by
      by_cases z : q = 0
      · subst z
        rw [if_pos rfl, bd_i1 (P := bd_T (0 * 8)) (Or.inl rfl)]
        show 1 * H 0 = H 0
        omega
      · rw [if_neg z, bd_i0, Nat.zero_mul]
        intro h
        rcases h with h | h
        · omega
        · exact bd_top8 h
    have hs : ∀ b, b < 5 → bd_i (bd_T (q * 8 + b + 1)) = bd_i (bd_T q) := by
      intro b hb
      by_cases z : bd_T q
      · rw [bd_i1 z, bd_i1 (P := bd_T (q * 8 + b + 1)) (Or.inr ((bd_top hq5 (by omega)).mpr ⟨by omega, z⟩))]
      · rw [bd_i0 z, bd_i0]
        intro h
        rcases h with h | h
        · omega
        · exact z ((bd_top hq5 (by omega)).mp h).2
    have hz : ∀ b, 5 ≤ b → b < 7 → bd_i (bd_T (q * 8 + b + 1)) = 0 := by
      intro b hb hb7
      refine bd_i0 fun h => ?_
      rcases h with h | h
      · omega
      · have := ((bd_top hq5 hb7).mp h).1
        omega
    show bd_i (bd_T (q * 8)) * H (q * 8) + bd_i (bd_T (q * 8 + 0 + 1)) * H (q * 8 + 0 + 1) + bd_i (bd_T (q * 8 + 1 + 1)) * H (q * 8 + 1 + 1) + bd_i (bd_T (q * 8 + 2 + 1)) * H (q * 8 + 2 + 1) + bd_i (bd_T (q * 8 + 3 + 1)) * H (q * 8 + 3 + 1) + bd_i (bd_T (q * 8 + 4 + 1)) * H (q * 8 + 4 + 1) + bd_i (bd_T (q * 8 + 5 + 1)) * H (q * 8 + 5 + 1) + bd_i (bd_T (q * 8 + 6 + 1)) * H (q * 8 + 6 + 1) = (if q = 0 then H 0 else 0) + bd_i (bd_T q) * (H (q * 8 + 0 + 1) + (H (q * 8 + 1 + 1) + (H (q * 8 + 2 + 1) + (H (q * 8 + 3 + 1) + (H (q * 8 + 4 + 1) + 0)))))
    rw [h0, hs 0 (by decide), hs 1 (by decide), hs 2 (by decide), hs 3 (by decide), hs 4 (by decide), hz 5 (by decide) (by decide), hz 6 (by decide) (by decide)]
    simp only [Nat.mul_add, Nat.zero_mul, Nat.mul_zero, Nat.add_zero]
    omega
/-- a count where every one is v: all, or none -/
theorem bd_all {H : Nat → Nat} {Q : Nat → Prop} (h1 : ∀ t, t < 4096 → Q t → H t = 1) (h2 : ∀ t l, t < 512 → l < 5 → Q t → Q (t * 8 + l + 1)) : ∀ k q, q < 4096 → cd_nl q + k ≤ 4 → Q q → bd_ct H k q = bd_tf k := by
  intro k
  induction k with
  | zero => intro q hq _ h; exact h1 q hq h
  | succ k ih =>
    intro q hq hk h
    have hq5 := wk_512 hq rfl (by omega)
    have hs : ∀ l, l < 5 → bd_ct H k (q * 8 + l + 1) = bd_tf k := fun l hl => ih _ (by omega) (by rw [cd_nl_ext hq5 (by omega)]; omega) (h2 q l hq5 hl h)
    have e1 : bd_ct H (k + 1) q = H q + bd_s (fun l => bd_ct H k (q * 8 + l + 1)) 5 0 := rfl
    have e2 : bd_tf (k + 1) = 1 + 5 * bd_tf k := rfl
    rw [e1, e2, bd_s5, hs 0 (by decide), hs 1 (by decide), hs 2 (by decide), hs 3 (by decide), hs 4 (by decide), h1 q hq h]
    omega
theorem bd_none {H : Nat → Nat} {Q : Nat → Prop} (h1 : ∀ t, t < 4096 → Q t → H t = 0) (h2 : ∀ t l, t < 512 → l < 5 → Q t → Q (t * 8 + l + 1)) : ∀ k q, q < 4096 → cd_nl q + k ≤ 4 → Q q → bd_ct H k q = 0 := by
  intro k
  induction k with
  | zero => intro q hq _ h; exact h1 q hq h
  | succ k ih =>
    intro q hq hk h
    have hq5 := wk_512 hq rfl (by omega)
    have hs : ∀ l, l < 5 → bd_ct H k (q * 8 + l + 1) = 0 := fun l hl => ih _ (by omega) (by rw [cd_nl_ext hq5 (by omega)]; omega) (h2 q l hq5 hl h)
    have e1 : bd_ct H (k + 1) q = H q + bd_s (fun l => bd_ct H k (q * 8 + l + 1)) 5 0 := rfl
    rw [e1, bd_s5, hs 0 (by decide), hs 1 (by decide), hs 2 (by decide), hs 3 (by decide), hs 4 (by decide), h1 q hq h]
theorem bd_s0 {g : Nat → Nat} : ∀ e j, (∀ l, j ≤ l → l < j + e → g l = 0) → bd_s g e j = 0 := by
  intro e
  induction e with
  | zero => intro j _; rfl
  | succ e ih =>
    intro j H
    have h1 : bd_s g (e + 1) j = g j + bd_s g e (j + 1) := rfl
    rw [h1, H j (Nat.le_refl _) (by omega), ih (j + 1) fun l a b => H l (by omega) (by omega)]
end
section
/-! branches: the nodes that a beginning of a topic leads to -/
def bd_in (L : Nat → List (Nat × Nat)) (c q : Nat) : Prop := ∃ g, (q, g) ∈ L c
noncomputable def bd_H (L : Nat → List (Nat × Nat)) (c t : Nat) : Nat := bd_i (1 ≤ t ∧ ∃ e, e ∈ L c ∧ cd_fit e.1 t)
def bd_e (pa : Nat → Nat) (br : Nat → Int32) (dd j p : Nat) : Prop := ∃ x, br (dd * 16 + j) = nI x ∧ x ≤ 80 ∧ (x = 0 ∨ pa x ≠ 0) ∧ pa x = p
def bd_A (pa : Nat → Nat) (br : Nat → Int32) (d q n : Nat) : Prop := ∀ k, k < n → ∃ p, bd_e pa br d k p ∧ p < 4096 ∧ cd_nl p = d ∧ cd_mt d p q
def bd_C (L : Nat → List (Nat × Nat)) (pa : Nat → Nat) (br : Nat → Int32) (d q n : Nat) : Prop := ∀ p, p < 4096 → cd_nl p = d → (p = 0 ∨ tr_w L p ≠ 0) → cd_mt d p q → ∃ k, k < n ∧ bd_e pa br d k p
def bd_I (L : Nat → List (Nat × Nat)) (pa : Nat → Nat) (br bz : Nat → Int32) (d q : Nat) : Prop := ∃ b, bz d = nI b ∧ b ≤ 2 ^ d ∧ bd_A pa br d q b ∧ bd_C L pa br d q b
def bd_AB (L : Nat → List (Nat × Nat)) (c d q : Nat) : Prop := ∃ p, p < 4096 ∧ cd_nl p = d ∧ cd_mt d p q ∧ bd_in L c (p * 8 + 6 + 1)
def bd_EH (L : Nat → List (Nat × Nat)) (c d q : Nat) : Prop := ∃ p, p < 4096 ∧ cd_nl p = d ∧ cd_mt d p q ∧ bd_in L c p
def bd_F (L : Nat → List (Nat × Nat)) (pa : Nat → Nat) (br br' : Nat → Int32) (d q l k n : Nat) : Prop := n ≤ 2 * k ∧ (∀ m, m < (d + 1) * 16 → br' m = br m) ∧ bd_A pa br' (d + 1) (q * 8 + l + 1) n ∧ ∀ k' p b, k' < k → bd_e pa br d k' p → (b = l ∨ b = 5) → tr_w L (p * 8 + b + 1) ≠ 0 → ∃ j, j < n ∧ bd_e pa br' (d + 1) j (p * 8 + b + 1)
theorem bd_p2 {d : Nat} (h : d ≤ 4) : 2 ^ d ≤ 16 := by
  have h1 : (2 : Nat) ^ d ≤ 2 ^ 4 := Nat.pow_le_pow_right (by decide) h
  exact h1
theorem bd_p3 {d : Nat} (h : d ≤ 3) : 2 ^ d ≤ 8 := by
  have h1 : (2 : Nat) ^ d ≤ 2 ^ 3 := Nat.pow_le_pow_right (by decide) h
  exact h1
theorem bd_ix (d i : Nat) : nI d * 16 + nI i = nI (d * 16 + i) := by
  rw [show nI d * 16 = nI (d * 16) from pk_mul d 16, nI_add]
theorem bd_in_w {L : Nat → List (Nat × Nat)} (hL : tr_L L) {c q : Nat} (hc : c < 4) (h : bd_in L c q) : 1 ≤ tr_w L q := by
  obtain ⟨g, hg⟩ := h
  exact tr_w_self hL hc hg
theorem bd_in_f {L : Nat → List (Nat × Nat)} (hL : tr_L L) {c q : Nat} (hc : c < 4) (h : bd_in L c q) : cd_fil q := by
  obtain ⟨g, hg⟩ := h
  exact ((hL c hc).2.2 _ hg).1
theorem bd_e_eq {pa : Nat → Nat} {br : Nat → Int32} {dd j p x : Nat} (hx : br (dd * 16 + j) = nI x) (h80 : x ≤ 80) (h : bd_e pa br dd j p) : pa x = p := by
  obtain ⟨x', h1, h2, _, h4⟩ := h
  have e := nb_inj (hx.symm.trans h1) (by omega) (by omega)
  rw [e]
  exact h4
theorem bd_e_up {pa : Nat → Nat} {br : Nat → Int32} {dd j n p : Nat} {v : Int32} (hn : j ≠ n) (h : bd_e pa br dd j p) : bd_e pa (upd br (dd * 16 + n) v) dd j p := by
  obtain ⟨x, h1, h2⟩ := h
  exact ⟨x, (pk_un (by omega)).trans h1, h2⟩
theorem bd_e_low {pa : Nat → Nat} {br br' : Nat → Int32} {d j p : Nat} (hj : j < 16) (H : ∀ m, m < (d + 1) * 16 → br' m = br m) : bd_e pa br' d j p ↔ bd_e pa br d j p := by
  unfold bd_e
  rw [H (d * 16 + j) (by omega)]
/-- below a branch: the parent stands too -/
theorem bd_par {L : Nat → List (Nat × Nat)} (hL : tr_L L) {p b : Nat} (hb : b < 7) (h : 1 ≤ tr_w L (p * 8 + b + 1)) : p = 0 ∨ tr_w L p ≠ 0 := by
  by_cases z : p = 0
  · exact Or.inl z
  · refine Or.inr fun h0 => ?_
    have := tr_closed hL (by omega) hb h0
    omega
theorem bx_add {L : Nat → List (Nat × Nat)} {pa : Nat → Nat} {ch gr be br' : Nat → Int32} {d q l n x b : Nat} (P : tr_P ch gr be L pa) (hx : x ≤ 80) (ax : x = 0 ∨ pa x ≠ 0) (hd3 : d ≤ 3) (hp4 : pa x < 4096) (hpd : cd_nl (pa x) = d) (hm : cd_mt d (pa x) q) (hl : l < 5) (hb : b = l ∨ b = 5) (hA : bd_A pa br' (d + 1) (q * 8 + l + 1) n) :
    (ch (x * 7 + b) = 0 ∧ tr_w L (pa x * 8 + b + 1) = 0) ∨ ∃ y, 1 ≤ y ∧ y ≤ 80 ∧ ch (x * 7 + b) = nI y ∧ bd_A pa (upd br' ((d + 1) * 16 + n) (nI y)) (d + 1) (q * 8 + l + 1) (n + 1) ∧ bd_e pa (upd br' ((d + 1) * 16 + n) (nI y)) (d + 1) n (pa x * 8 + b + 1) := by
  have hb7 : b < 7 := by omega
  have hp5 := wk_512 hp4 hpd hd3
  rcases P.1.2.2.2.1 x b hx ax hb7 with h | ⟨y, y1, y2, y3, y4⟩
  · exact Or.inl h
  · have hE : bd_e pa (upd br' ((d + 1) * 16 + n) (nI y)) (d + 1) n (pa x * 8 + b + 1) := ⟨y, pk_us, y2, Or.inr (by omega), y4⟩
    refine Or.inr ⟨y, y1, y2, y3, fun k hk => ?_, hE⟩
    by_cases z : k = n
    · rw [z]
      refine ⟨pa x * 8 + b + 1, hE, by omega, ?_, And.intro ?_ ?_⟩
      · rw [cd_nl_ext hp5 hb7, hpd]
      · rw [show (pa x * 8 + b + 1) / 8 = pa x by omega, show (q * 8 + l + 1) / 8 = q by omega]
        exact hm
      · omega
    · obtain ⟨p, h1, h2⟩ := hA k (by omega)
      exact ⟨p, bd_e_up z h1, h2⟩
section BX
variable {kc fw : Int32} {lv ch gr be ow kt kv ol hd ln tq vq gq lo nd dp bs br bz ci : Nat → Int32}
variable {L : Nat → List (Nat × Nat)} {pa : Nat → Nat}
theorem bx_ends {post : Int32 → Prop} {y c q : Nat} (y1 : 1 ≤ y) (y2 : y ≤ 80) (hc : c < 4) (hL : tr_L L) (hg : gr (y * 4 + c) = tr_g q (L c)) (hy : bd_in L c q → post 1) (hn : ¬ bd_in L c q → post 0) : wpX_ends post (kc, fw, lv, ch, gr, be, ow, kt, kv, ol, hd, ln, tq, vq, gq, lo, nd, dp, bs, br, bz, ci) (nI y) (nI c) := by
  have hix : nI y * 4 + nI c = nI (y * 4 + c) := xt_ix4
  have hgv : gr (nI y * 4 + nI c).toNatClampNeg = tr_g q (L c) := by
    rw [hix, nI_clamp (by omega)]
    exact hg
  refine br_f (nI_ne0 (by omega) (by omega)) ⟨by rw [hix]; exact vp_in_nI (by omega) (by decide), ?_⟩
  rcases tr_g_yes (p := q) (L c) with h | ⟨g, h1, h2⟩
  · refine br_t (by rw [hgv, tr_g_no _ h]; decide) (hn fun hh => ?_)
    obtain ⟨g, hm⟩ := hh
    exact h _ hm rfl
  · have g2 : g ≤ 2 := ((hL c hc).2.2 _ h1).2
    exact br_f (by rw [hgv, h2]; exact nI_pos (by omega)) (hy ⟨g, h1⟩)
theorem bx_endsc {post : Int32 → Prop} {x b c : Nat} (P : tr_P ch gr be L pa) (hL : tr_L L) (hx : x ≤ 80) (ax : x = 0 ∨ pa x ≠ 0) (hb : b < 7) (hc : c < 4) (hy : bd_in L c (pa x * 8 + b + 1) → post 1) (hn : ¬ bd_in L c (pa x * 8 + b + 1) → post 0) : wpX_ends post (kc, fw, lv, ch, gr, be, ow, kt, kv, ol, hd, ln, tq, vq, gq, lo, nd, dp, bs, br, bz, ci) (ch (x * 7 + b)) (nI c) := by
  rcases P.1.2.2.2.1 x b hx ax hb with ⟨c0, w0⟩ | ⟨y, y1, y2, y3, y4⟩
  · rw [c0]
    exact br_t rfl (hn fun h => by have := bd_in_w hL hc h; omega)
  · rw [y3]
    refine bx_ends y1 y2 hc hL ?_ hy hn
    rw [P.2.2 y c y1 y2 hc, y4]
theorem bx_endsx {post : Int32 → Prop} {x c : Nat} (P : tr_P ch gr be L pa) (hL : tr_L L) (hx : x ≤ 80) (hc : c < 4) (hy : bd_in L c (pa x) → post 1) (hn : ¬ bd_in L c (pa x) → post 0) : wpX_ends post (kc, fw, lv, ch, gr, be, ow, kt, kv, ol, hd, ln, tq, vq, gq, lo, nd, dp, bs, br, bz, ci) (nI x) (nI c) := by
  by_cases z : x = 0
  · subst z
    refine br_t rfl (hn fun h => ?_)
    rw [P.1.1] at h
    have := (bd_in_f hL hc h).1.1
    omega
  · exact bx_ends (by omega) hx hc hL (P.2.2 x c (by omega) hx hc) hy hn
theorem bx_ab2 {post : Int32 → Prop} {d q b c : Nat} (P : tr_P ch gr be L pa) (hL : tr_L L) (hd4 : d ≤ 4) (hc : c < 4) (hb : bz d = nI b) (hb16 : b ≤ 16) (hA : bd_A pa br d q b) (hC : bd_C L pa br d q b) (hy : bd_AB L c d q → post 1) (hn : ¬ bd_AB L c d q → post 0) : ∀ (e i : Nat), i + e = b → (∀ k p, k < i → bd_e pa br d k p → ¬ bd_in L c (p * 8 + 6 + 1)) → wX_allBelow_2 post (nI d) (nI c) kc fw lv ch gr be ow kt kv ol hd ln tq vq gq lo nd dp bs br bz ci (e + 1) (nI i) := by
  have hdi : vp_in (nI d) 5 := vp_in_nI (by omega) (by decide)
  have hbz : bz (nI d).toNatClampNeg = nI b := by
    rw [nI_clamp (by omega)]
    exact hb
  intro e
  induction e with
  | zero =>
    intro i hi H
    refine And.intro hdi (br_t (by rw [hbz]; exact nI_le (by omega) (by omega)) (hn fun h => ?_))
    obtain ⟨p, h1, h2, h3, h4⟩ := h
    have h5 := bd_par hL (by decide) (bd_in_w hL hc h4)
    obtain ⟨k, hk, hke⟩ := hC p h1 h2 h5 h3
    exact H k p (by omega) hke h4
  | succ e ih =>
    intro i hi H
    obtain ⟨p, ⟨x, x1, x2, x3, x4⟩, p1, p2, p3⟩ := hA i (by omega)
    have hix : nI d * 16 + nI i = nI (d * 16 + i) := bd_ix d i
    have h6 : nI x * 7 + 6 = nI (x * 7 + 6) := xt_ix (b := 6)
    have h6c : (nI x * 7 + 6).toNatClampNeg = x * 7 + 6 := by
      rw [h6]
      exact nI_clamp (by omega)
    refine And.intro hdi (br_f (by rw [hbz]; exact nI_ge (by omega) (by omega)) (And.intro (by rw [hix]; exact vp_in_nI (by omega) (by decide)) (nm_r (e' := nI x) (by rw [hix, nI_clamp (by omega)]; exact x1) (And.intro (by rw [h6]; exact vp_in_nI (by omega) (by decide)) ?_))))
    rw [h6c]
    refine bx_endsc P hL x2 x3 (by decide) hc (fun h => ?_) fun h => ?_
    · rw [x4] at h
      exact br_f (by decide) (hy ⟨p, p1, p2, p3, h⟩)
    · refine br_t rfl (nm_r (nI_1 i) (ih (i + 1) (by omega) fun k p' hk hke => ?_))
      by_cases z : k = i
      · rw [z] at hke
        rw [← bd_e_eq x1 x2 hke]
        exact h
      · exact H k p' (by omega) hke
theorem bx_allBelow {post : Int32 → Prop} {d q c : Nat} (P : tr_P ch gr be L pa) (hL : tr_L L) (hd4 : d ≤ 4) (hc : c < 4) (I : bd_I L pa br bz d q) (hy : bd_AB L c d q → post 1) (hn : ¬ bd_AB L c d q → post 0) : wpX_allBelow post (kc, fw, lv, ch, gr, be, ow, kt, kv, ol, hd, ln, tq, vq, gq, lo, nd, dp, bs, br, bz, ci) (nI d) (nI c) := by
  obtain ⟨b, h1, h2, h3, h4⟩ := I
  have h5 := bd_p2 hd4
  exact ⟨b + 1, bx_ab2 P hL hd4 hc h1 (by omega) h3 h4 hy hn b 0 (by omega) fun k p hk => absurd hk (by omega)⟩
theorem bx_eh2 {post : Int32 → Prop} {d q b c : Nat} (P : tr_P ch gr be L pa) (hL : tr_L L) (hd4 : d ≤ 4) (hc : c < 4) (hb : bz d = nI b) (hb16 : b ≤ 16) (hA : bd_A pa br d q b) (hC : bd_C L pa br d q b) (hy : bd_EH L c d q → post 1) (hn : ¬ bd_EH L c d q → post 0) : ∀ (e i : Nat), i + e = b → (∀ k p, k < i → bd_e pa br d k p → ¬ bd_in L c p) → wX_endsHere_2 post (nI d) (nI c) kc fw lv ch gr be ow kt kv ol hd ln tq vq gq lo nd dp bs br bz ci (e + 1) (nI i) := by
  have hdi : vp_in (nI d) 5 := vp_in_nI (by omega) (by decide)
  have hbz : bz (nI d).toNatClampNeg = nI b := by
    rw [nI_clamp (by omega)]
    exact hb
  intro e
  induction e with
  | zero =>
    intro i hi H
    refine And.intro hdi (br_t (by rw [hbz]; exact nI_le (by omega) (by omega)) (hn fun h => ?_))
    obtain ⟨p, h1, h2, h3, h4⟩ := h
    have h5 := bd_in_w hL hc h4
    obtain ⟨k, hk, hke⟩ := hC p h1 h2 (Or.inr (by omega)) h3
    exact H k p (by omega) hke h4
  | succ e ih =>
    intro i hi H
    obtain ⟨p, ⟨x, x1, x2, x3, x4⟩, p1, p2, p3⟩ := hA i (by omega)
    have hix : nI d * 16 + nI i = nI (d * 16 + i) := bd_ix d i
    refine And.intro hdi (br_f (by rw [hbz]; exact nI_ge (by omega) (by omega)) (And.intro (by rw [hix]; exact vp_in_nI (by omega) (by decide)) ?_))
    rw [hix, nI_clamp (by omega), x1]
    refine bx_endsx P hL x2 hc (fun h => ?_) fun h => ?_
    · rw [x4] at h
      exact br_f (by decide) (hy ⟨p, p1, p2, p3, h⟩)
    · refine br_t rfl (nm_r (nI_1 i) (ih (i + 1) (by omega) fun k p' hk hke => ?_))
      by_cases z : k = i
      · rw [z] at hke
        rw [← bd_e_eq x1 x2 hke]
        exact h
      · exact H k p' (by omega) hke
theorem bx_endsHere {post : Int32 → Prop} {d q c : Nat} (P : tr_P ch gr be L pa) (hL : tr_L L) (hd4 : d ≤ 4) (hc : c < 4) (I : bd_I L pa br bz d q) (hy : bd_EH L c d q → post 1) (hn : ¬ bd_EH L c d q → post 0) : wpX_endsHere post (kc, fw, lv, ch, gr, be, ow, kt, kv, ol, hd, ln, tq, vq, gq, lo, nd, dp, bs, br, bz, ci) (nI d) (nI c) := by
  obtain ⟨b, h1, h2, h3, h4⟩ := I
  have h5 := bd_p2 hd4
  exact ⟨b + 1, bx_eh2 P hL hd4 hc h1 (by omega) h3 h4 hy hn b 0 (by omega) fun k p hk => absurd hk (by omega)⟩
theorem bx_f81 {post : SX → Prop} {J : Int32 → Int32 → (Nat → Int32) → (Nat → Int32) → (Nat → Int32) → (Nat → Int32) → (Nat → Int32) → (Nat → Int32) → (Nat → Int32) → (Nat → Int32) → (Nat → Int32) → (Nat → Int32) → (Nat → Int32) → (Nat → Int32) → (Nat → Int32) → (Nat → Int32) → (Nat → Int32) → (Nat → Int32) → (Nat → Int32) → (Nat → Int32) → (Nat → Int32) → (Nat → Int32) → Prop} {x2 : Int32} {d q l n x k : Nat} (P : tr_P ch gr be L pa) (hx : x ≤ 80) (ax : x = 0 ∨ pa x ≠ 0) (hd3 : d ≤ 3) (hp4 : pa x < 4096) (hpd : cd_nl (pa x) = d) (hm : cd_mt d (pa x) q) (hl : l < 5) (hn : n < 16) (hA : bd_A pa br (d + 1) (q * 8 + l + 1) n)
    (K : ∀ (n2 : Nat) (br2 : Nat → Int32), n2 ≤ n + 1 → (∀ m, m < (d + 1) * 16 → br2 m = br m) → bd_A pa br2 (d + 1) (q * 8 + l + 1) n2 → (∀ j p, j < n → bd_e pa br (d + 1) j p → bd_e pa br2 (d + 1) j p) → n ≤ n2 → (tr_w L (pa x * 8 + 5 + 1) ≠ 0 → ∃ j, j < n2 ∧ bd_e pa br2 (d + 1) j (pa x * 8 + 5 + 1)) → J (nI n2) (nI (k + 1)) lv ch gr be ow kt kv ol hd ln tq vq gq lo nd dp bs br2 bz ci) :
    wX_follow_81 post J (nI d) x2 (nI n) (nI k) (ch (x * 7 + 5)) kc fw lv ch gr be ow kt kv ol hd ln tq vq gq lo nd dp bs br bz ci := by
  rcases bx_add P hx ax hd3 hp4 hpd hm hl (Or.inr rfl) hA with ⟨c0, w0⟩ | ⟨y, y1, y2, y3, y4, y5⟩
  · exact br_t c0 (nm_r (nI_1 k) (K n br (by omega) (fun m _ => rfl) hA (fun j p _ h => h) (Nat.le_refl _) fun h => absurd w0 h))
  · have hix : (nI d + 1) * 16 + nI n = nI ((d + 1) * 16 + n) := by
      rw [nI_1]
      exact bd_ix (d + 1) n
    rw [y3]
    refine br_f (nI_ne0 (by omega) (by omega)) (And.intro (by rw [hix]; exact vp_in_nI (by omega) (by decide)) (nm_r (e' := upd br ((d + 1) * 16 + n) (nI y)) (by rw [hix, nI_clamp (by omega)]) (nm_r (nI_1 n) (nm_r (nI_1 k) (K (n + 1) _ (by omega) (fun m hm => pk_un (by omega)) y4 (fun j p hj h => bd_e_up (by omega) h) (by omega) fun _ => ⟨n, by omega, y5⟩)))))
theorem bx_f5 {post : SX → Prop} {d q l b : Nat} (P : tr_P ch gr be L pa) (hd3 : d ≤ 3) (hl : l < 5) (hb : bz d = nI b) (hb8 : b ≤ 8) (hA : bd_A pa br d q b) (K : ∀ (n : Nat) (br' : Nat → Int32), bd_F L pa br br' d q l b n → post (kc, fw, lv, ch, gr, be, ow, kt, kv, ol, hd, ln, tq, vq, gq, lo, nd, dp, bs, br', upd bz (d + 1) (nI n), ci)) : ∀ (e k n : Nat) (br' : Nat → Int32), k + e = b → bd_F L pa br br' d q l k n → wX_follow_5 post (nI d) (nI l) kc fw (e + 1) (nI n) (nI k) lv ch gr be ow kt kv ol hd ln tq vq gq lo nd dp bs br' bz ci := by
  have hdi : vp_in (nI d) 5 := vp_in_nI (by omega) (by decide)
  have hbz : bz (nI d).toNatClampNeg = nI b := by
    rw [nI_clamp (by omega)]
    exact hb
  intro e
  induction e with
  | zero =>
    intro k n br' hk hF
    have ek : k = b := by omega
    subst ek
    refine And.intro hdi (br_t (by rw [hbz]; exact Int32.le_refl _) (And.intro (by rw [nI_1]; exact vp_in_nI (by omega) (by decide)) (nm_r (e' := upd bz (d + 1) (nI n)) (by rw [nI_1, nI_clamp (by omega)]) (K n br' hF))))
  | succ e ih =>
    intro k n br' hk hF
    obtain ⟨f1, f2, f3, f4⟩ := hF
    obtain ⟨p, ⟨x, x1, x2, x3, x4⟩, p1, p2, p3⟩ := hA k (by omega)
    have hix : nI d * 16 + nI k = nI (d * 16 + k) := bd_ix d k
    have hxl : nI x * 7 + nI l = nI (x * 7 + l) := xt_ix
    have hxlc : (nI x * 7 + nI l).toNatClampNeg = x * 7 + l := by
      rw [hxl]
      exact nI_clamp (by omega)
    have hx5 : nI x * 7 + 5 = nI (x * 7 + 5) := xt_ix (b := 5)
    have hx5c : (nI x * 7 + 5).toNatClampNeg = x * 7 + 5 := by
      rw [hx5]
      exact nI_clamp (by omega)
    rw [← x4] at p1 p2 p3
    have hnext : ∀ (n1 n2 : Nat) (br1 br2 : Nat → Int32), n ≤ n1 → n1 ≤ n + 1 → (∀ m, m < (d + 1) * 16 → br1 m = br' m) → (∀ j p, j < n → bd_e pa br' (d + 1) j p → bd_e pa br1 (d + 1) j p) → (tr_w L (pa x * 8 + l + 1) ≠ 0 → ∃ j, j < n1 ∧ bd_e pa br1 (d + 1) j (pa x * 8 + l + 1)) → n2 ≤ n1 + 1 → (∀ m, m < (d + 1) * 16 → br2 m = br1 m) → bd_A pa br2 (d + 1) (q * 8 + l + 1) n2 → (∀ j p, j < n1 → bd_e pa br1 (d + 1) j p → bd_e pa br2 (d + 1) j p) → n1 ≤ n2 → (tr_w L (pa x * 8 + 5 + 1) ≠ 0 → ∃ j, j < n2 ∧ bd_e pa br2 (d + 1) j (pa x * 8 + 5 + 1)) → bd_F L pa br br2 d q l (k + 1) n2 := by
      intro n1 n2 br1 br2 a1 a2 a3 a4 a5 b1 b2 b3 b4 b5 b6
      refine ⟨by omega, fun m hm => by rw [b2 m hm, a3 m hm, f2 m hm], b3, fun k' p' b hk' he hb hw => ?_⟩
      by_cases z : k' = k
      · rw [z] at he
        have e1 := bd_e_eq x1 x2 he
        rw [← e1] at hw ⊢
        rcases hb with hb | hb
        · rw [hb] at hw ⊢
          obtain ⟨j, j1, j2⟩ := a5 hw
          exact ⟨j, by omega, b4 j _ j1 j2⟩
        · rw [hb] at hw ⊢
          exact b6 hw
      · obtain ⟨j, j1, j2⟩ := f4 k' p' b (by omega) he hb hw
        exact ⟨j, by omega, b4 j _ (by omega) (a4 j _ j1 j2)⟩
    refine And.intro hdi (br_f (by rw [hbz]; exact nI_ge (by omega) (by omega)) (And.intro (by rw [hix]; exact vp_in_nI (by omega) (by decide)) (nm_r (e' := nI x) (by rw [hix, nI_clamp (by omega), f2 _ (by omega)]; exact x1) (And.intro (by rw [hxl]; exact vp_in_nI (by omega) (by decide)) (nm_r (e' := ch (x * 7 + l)) (by rw [hxlc]) (And.intro (by rw [hx5]; exact vp_in_nI (by omega) (by decide)) (nm_r (e' := ch (x * 7 + 5)) (by rw [hx5c]) ?_)))))))
    rcases bx_add P x2 x3 hd3 p1 p2 p3 hl (Or.inl rfl) f3 with ⟨c0, w0⟩ | ⟨y, y1, y2, y3, y4, y5⟩
    · refine br_t c0 (bx_f81 P x2 x3 hd3 p1 p2 p3 hl (by omega) f3 fun n2 br2 b1 b2 b3 b4 b5 b6 => ih (k + 1) n2 br2 (by omega) ?_)
      exact hnext n n2 br' br2 (Nat.le_refl _) (by omega) (fun m _ => rfl) (fun j p _ h => h) (fun h => absurd w0 h) b1 b2 b3 b4 b5 b6
    · have hix1 : (nI d + 1) * 16 + nI n = nI ((d + 1) * 16 + n) := by
        rw [nI_1]
        exact bd_ix (d + 1) n
      rw [y3]
      refine br_f (nI_ne0 (by omega) (by omega)) (And.intro (by rw [hix1]; exact vp_in_nI (by omega) (by decide)) (nm_r (e' := upd br' ((d + 1) * 16 + n) (nI y)) (by rw [hix1, nI_clamp (by omega)]) (nm_r (nI_1 n) (bx_f81 P x2 x3 hd3 p1 p2 p3 hl (by omega) y4 fun n2 br2 b1 b2 b3 b4 b5 b6 => ih (k + 1) n2 br2 (by omega) ?_))))
      exact hnext (n + 1) n2 _ br2 (by omega) (by omega) (fun m hm => pk_un (by omega)) (fun j p hj h => bd_e_up (by omega) h) (fun _ => ⟨n, by omega, y5⟩) b1 b2 b3 b4 b5 b6
theorem bx_follow {post : SX → Prop} {d q l : Nat} (hL : tr_L L) (P : tr_P ch gr be L pa) (hd3 : d ≤ 3) (hl : l < 5) (I : bd_I L pa br bz d q) (K : ∀ (br' bz' : Nat → Int32), bd_I L pa br' bz' (d + 1) (q * 8 + l + 1) → (∀ m, m < (d + 1) * 16 → br' m = br m) → (∀ m, m < d + 1 → bz' m = bz m) → post (kc, fw, lv, ch, gr, be, ow, kt, kv, ol, hd, ln, tq, vq, gq, lo, nd, dp, bs, br', bz', ci)) : wpX_follow post (kc, fw, lv, ch, gr, be, ow, kt, kv, ol, hd, ln, tq, vq, gq, lo, nd, dp, bs, br, bz, ci) (nI d) (nI l) := by
  obtain ⟨b, h1, h2, h3, h4⟩ := I
  have h5 := bd_p3 hd3
  refine ⟨b + 1, bx_f5 P hd3 hl h1 (by omega) h3 (fun n br' hF => ?_) b 0 0 br (by omega) ⟨by omega, fun m _ => rfl, fun k hk => absurd hk (by omega), fun k' p b' hk' => absurd hk' (by omega)⟩⟩
  obtain ⟨f1, f2, f3, f4⟩ := hF
  refine K br' _ ⟨n, pk_us, by rw [Nat.pow_succ]; omega, f3, fun p p1 p2 p3 p4 => ?_⟩ f2 fun m hm => pk_un (by omega)
  have hp0 : p ≠ 0 := by
    intro z
    rw [z, cd_nl0] at p2
    omega
  have hw : tr_w L p ≠ 0 := by
    rcases p3 with z | z
    · exact absurd z hp0
    · exact z
  obtain ⟨m1, m2⟩ := p4
  rw [show (q * 8 + l + 1) / 8 = q by omega] at m1
  have e1 := cd_nl_div (m := p) (by omega) p1
  have hmod : p % 8 = l + 1 ∨ p % 8 = 6 := by omega
  have hpe : p = p / 8 * 8 + (p % 8 - 1) + 1 := by omega
  have hpar := bd_par hL (p := p / 8) (b := p % 8 - 1) (by omega) (by rw [← hpe]; omega)
  obtain ⟨k, hk, hke⟩ := h4 (p / 8) (by omega) (by omega) hpar m1
  have h6 := f4 k (p / 8) (p % 8 - 1) hk hke (by omega) (by rw [← hpe]; exact hw)
  rw [← hpe] at h6
  exact h6
def bx_it : Nat → Nat → Nat → Nat
  | 0, n, _ => n
  | e + 1, n, m => bx_it e (n + m) (m * 5)
theorem bx_t7 {post : Int32 → Prop} {d : Nat} {v : Nat} (hd5 : d ≤ 4) (hp : post (nI v)) : ∀ (e i n m : Nat), i + e = 5 → (if d = 0 then v + 1 = bx_it e n m else v = bx_it e n m) → wX_topicsFrom_7 post (nI d) kc fw lv ch gr be ow kt kv ol hd ln tq vq gq lo nd dp bs br bz ci (e + 1) (nI n) (nI m) (nI i) := by
  intro e
  induction e with
  | zero =>
    intro i n m hi hv
    refine br_t (nI_lt (a := 4) (by omega) (by omega)) ?_
    by_cases z : d = 0
    · rw [if_pos z] at hv
      have hv' : v + 1 = n := hv
      refine br_t (by rw [z]; rfl) ?_
      rw [← hv', nI_pred]
      exact hp
    · rw [if_neg z] at hv
      have hv' : v = n := hv
      refine br_f (nI_ne0 (by omega) (by omega)) ?_
      rw [← hv']
      exact hp
  | succ e ih =>
    intro i n m hi hv
    refine br_f (nI_nlt (a := 4) (by omega) (by omega)) (nm_r (nI_add n m) (nm_r (show nI m * 5 = nI (m * 5) from pk_mul m 5) (nm_r (nI_1 i) (ih (i + 1) _ _ (by omega) hv))))
theorem bx_topicsFrom {post : Int32 → Prop} {d k : Nat} (hd5 : d + k = 4) (hd1 : 1 ≤ d) (hp : post (nI (bd_tf k))) : wpX_topicsFrom post (kc, fw, lv, ch, gr, be, ow, kt, kv, ol, hd, ln, tq, vq, gq, lo, nd, dp, bs, br, bz, ci) (nI d) := by
  refine ⟨k + 1 + 1, bx_t7 (by omega) hp (k + 1) d 0 1 (by omega) ?_⟩
  rw [if_neg (by omega)]
  have hk : k = 0 ∨ k = 1 ∨ k = 2 ∨ k = 3 := by omega
  rcases hk with rfl | rfl | rfl | rfl
  all_goals decide
theorem bx_topicsFrom0 {post : Int32 → Prop} (hp : post (nI 780)) : wpX_topicsFrom post (kc, fw, lv, ch, gr, be, ow, kt, kv, ol, hd, ln, tq, vq, gq, lo, nd, dp, bs, br, bz, ci) 0 :=
  ⟨6, bx_t7 (d := 0) (by omega) hp 5 0 0 1 (by omega) (by decide)⟩
end BX
end
section
/-! how many topics a client's filters match: the component goes through the beginnings, the reference through all numbers -/
def bd_NR (L : Nat → List (Nat × Nat)) (c d q : Nat) : Prop := ∀ p, cd_nl p ≤ d → bd_in L c (p * 8 + 6 + 1) → ¬ cd_mt (cd_nl p) p (q / 8 ^ (d - cd_nl p))
def bd_Q (d q t : Nat) : Prop := d ≤ cd_nl t ∧ t / 8 ^ (cd_nl t - d) = q
def bx_RB : Nat → Nat
  | 0 => 1
  | k + 1 => 5 * (1 + bx_RB k) + 1
theorem bd_dv (x m : Nat) : x / 8 ^ (m + 1) = x / 8 / 8 ^ m := by
  rw [Nat.pow_succ, Nat.mul_comm, Nat.div_div_eq_div_mul]
theorem bd_Qs {d q t l : Nat} (ht : t < 512) (hl : l < 5) (h : bd_Q d q t) : bd_Q d q (t * 8 + l + 1) := by
  have e := cd_nl_ext ht (show l < 7 by omega)
  obtain ⟨h1, h2⟩ := h
  refine ⟨by omega, ?_⟩
  rw [e, show cd_nl t + 1 - d = (cd_nl t - d) + 1 by omega, bd_dv, show (t * 8 + l + 1) / 8 = t by omega]
  exact h2
theorem bd_ab1 {L : Nat → List (Nat × Nat)} {c d q : Nat} (hL : tr_L L) (hc : c < 4) (h : bd_AB L c d q) : ∀ t, t < 4096 → (1 ≤ t ∧ bd_Q d q t) → bd_H L c t = 1 := by
  intro t ht hq
  obtain ⟨t1, q1, q2⟩ := hq
  obtain ⟨p, p1, p2, p3, g, hg⟩ := h
  have hf := ((hL c hc).2.2 _ hg).1.1
  refine bd_i1 ⟨t1, _, hg, (cd_fit_r hf.1 hf.2.1 (show (p * 8 + 6 + 1) % 8 = 7 by omega)).mpr ?_⟩
  rw [show (p * 8 + 6 + 1) / 8 = p by omega, p2, q2]
  exact ⟨q1, p3⟩
theorem bd_ab2 {L : Nat → List (Nat × Nat)} {c d q t k : Nat} (hL : tr_L L) (hc : c < 4) (h : bd_AB L c d q) (t1 : 1 ≤ t) (ht : t < 4096) (hk : cd_nl t + k ≤ 4) (hq : bd_Q d q t) : bd_ct (bd_H L c) k t = bd_tf k :=
  bd_all (bd_ab1 hL hc h) (fun _ _ a b hh => ⟨by omega, bd_Qs a b hh.2⟩) k t ht hk ⟨t1, hq⟩
theorem bd_Q0 {d q : Nat} (h : cd_nl q = d) : bd_Q d q q := by
  refine ⟨by omega, ?_⟩
  rw [h, Nat.sub_self, Nat.pow_zero, Nat.div_one]
/-- no branch is left: nothing that goes on from here is matched -/
theorem bd_no {L : Nat → List (Nat × Nat)} {pa : Nat → Nat} {br : Nat → Int32} {c d q : Nat} (hL : tr_L L) (hc : c < 4) (hC : bd_C L pa br d q 0) (hN : bd_NR L c d q) : ∀ t, t < 4096 → bd_Q d q t → bd_H L c t = 0 := by
  intro t ht hq
  obtain ⟨q1, q2⟩ := hq
  refine bd_i0 fun hh => ?_
  obtain ⟨t1, e, he, hfit⟩ := hh
  have hf := ((hL c hc).2.2 e he).1.1
  have hf4 := hf.2.1
  have hC' : ∀ p, p < 4096 → cd_nl p = d → (p = 0 ∨ tr_w L p ≠ 0) → ¬ cd_mt d p q := by
    intro p p1 p2 p3 p4
    obtain ⟨k, hk, _⟩ := hC p p1 p2 p3 p4
    omega
  by_cases z : e.1 % 8 = 7
  · have h1 := (cd_fit_r hf.1 hf.2.1 z).mp hfit
    have e1 := cd_nl_div hf.1 hf.2.1
    obtain ⟨h2, h3⟩ := h1
    by_cases zd : cd_nl (e.1 / 8) ≤ d
    · refine hN (e.1 / 8) zd ⟨e.2, ?_⟩ ?_
      · rw [show e.1 / 8 * 8 + 6 + 1 = e.1 by omega]
        exact he
      · rw [← q2, Nat.div_div_eq_div_mul, ← Nat.pow_add, show cd_nl t - d + (d - cd_nl (e.1 / 8)) = cd_nl t - cd_nl (e.1 / 8) by omega]
        exact h3
    · have h4 : cd_mt (d + (cd_nl (e.1 / 8) - d)) (e.1 / 8) (t / 8 ^ (cd_nl t - cd_nl (e.1 / 8))) := by
        rw [show d + (cd_nl (e.1 / 8) - d) = cd_nl (e.1 / 8) by omega]
        exact h3
      have h5 := cd_mt_pre _ _ _ _ h4
      rw [Nat.div_div_eq_div_mul t, ← Nat.pow_add, show cd_nl t - cd_nl (e.1 / 8) + (cd_nl (e.1 / 8) - d) = cd_nl t - d by omega, q2] at h5
      refine hC' _ (cd_pre_lt (by omega)) ?_ ?_ h5
      · rw [cd_pre_nl _ _ (by omega) (by omega)]
        omega
      · by_cases z0 : d = 0
        · refine Or.inl ?_
          rw [z0, Nat.sub_zero]
          exact cd_pre_0 (by omega)
        · refine Or.inr ?_
          rw [Nat.div_div_eq_div_mul, Nat.mul_comm, ← Nat.pow_succ]
          have := tr_w_pos (k := (cd_nl (e.1 / 8) - d).succ) hc he (by omega)
          omega
  · have h1 := (cd_fit_p z).mp hfit
    obtain ⟨h2, h3⟩ := h1
    have h4 : cd_mt (d + (cd_nl e.1 - d)) e.1 t := by
      rw [show d + (cd_nl e.1 - d) = cd_nl e.1 by omega]
      exact h3
    have h5 := cd_mt_pre _ _ _ _ h4
    rw [← h2, q2, h2] at h5
    refine hC' _ (cd_pre_lt hf.2.1) ?_ ?_ h5
    · rw [cd_pre_nl _ _ hf.2.1 (by omega)]
      omega
    · by_cases z0 : d = 0
      · refine Or.inl ?_
        rw [z0, Nat.sub_zero]
        exact cd_pre_0 hf.2.1
      · refine Or.inr ?_
        have := tr_w_pos (k := cd_nl e.1 - d) hc he (by omega)
        omega
theorem bd_here {L : Nat → List (Nat × Nat)} {c d q : Nat} (hL : tr_L L) (hc : c < 4) (hq : cd_top q) (hd1 : cd_nl q = d) (hN : bd_NR L c d q) : (bd_EH L c d q → bd_H L c q = 1) ∧ (¬ bd_EH L c d q → bd_H L c q = 0) := by
  have h1 := cd_nl_pos hq.1.1
  refine ⟨fun h => ?_, fun h => bd_i0 fun hh => h ?_⟩
  · obtain ⟨p, p1, p2, p3, g, hg⟩ := h
    refine bd_i1 ⟨hq.1.1, _, hg, (cd_fit_p (wk_n7 (t := q) (d := d) hq (by omega) (by omega) ?_)).mpr ⟨?_, ?_⟩⟩
    · rw [hd1, Nat.sub_self, Nat.pow_zero, Nat.div_one]
      exact p3
    · show cd_nl q = cd_nl p
      omega
    · show cd_mt (cd_nl p) p q
      rw [p2]
      exact p3
  · obtain ⟨_, e, he, hfit⟩ := hh
    have hf := ((hL c hc).2.2 e he).1.1
    by_cases z : e.1 % 8 = 7
    · have h2 := (cd_fit_r hf.1 hf.2.1 z).mp hfit
      have e1 := cd_nl_div hf.1 hf.2.1
      refine absurd ?_ (hN (e.1 / 8) (by have := h2.1; omega) ⟨e.2, ?_⟩)
      · have h3 := h2.2
        rw [hd1] at h3
        exact h3
      · rw [show e.1 / 8 * 8 + 6 + 1 = e.1 by omega]
        exact he
    · have h2 := (cd_fit_p z).mp hfit
      refine ⟨e.1, hf.2.1, by omega, ?_, e.2, he⟩
      have h3 := h2.2
      rw [← h2.1, hd1] at h3
      exact h3
theorem bd_NRs {L : Nat → List (Nat × Nat)} {c d q l : Nat} (hL : tr_L L) (hc : c < 4) (hl : l < 5) (hN : bd_NR L c d q) (hA : ¬ bd_AB L c (d + 1) (q * 8 + l + 1)) : bd_NR L c (d + 1) (q * 8 + l + 1) := by
  intro p hp hin hm
  have hf := (bd_in_f hL hc hin).1
  by_cases z : cd_nl p = d + 1
  · rw [z, Nat.sub_self, Nat.pow_zero, Nat.div_one] at hm
    exact hA ⟨p, by have := hf.2.1; omega, z, hm, hin⟩
  · rw [show d + 1 - cd_nl p = (d - cd_nl p) + 1 by omega, bd_dv, show (q * 8 + l + 1) / 8 = q by omega] at hm
    exact hN p (by omega) hin hm
theorem bd_Ilow {L : Nat → List (Nat × Nat)} {pa : Nat → Nat} {br br' bz bz' : Nat → Int32} {d q : Nat} (hd4 : d ≤ 4) (h1 : ∀ m, m < (d + 1) * 16 → br' m = br m) (h2 : ∀ m, m < d + 1 → bz' m = bz m) (I : bd_I L pa br bz d q) : bd_I L pa br' bz' d q := by
  obtain ⟨b, b1, b2, b3, b4⟩ := I
  have h5 := bd_p2 hd4
  refine ⟨b, (h2 d (by omega)).trans b1, b2, fun k hk => ?_, fun p p1 p2 p3 p4 => ?_⟩
  · obtain ⟨p, e1, e2⟩ := b3 k hk
    exact ⟨p, (bd_e_low (by omega) h1).mpr e1, e2⟩
  · obtain ⟨k, e1, e2⟩ := b4 p p1 p2 p3 p4
    exact ⟨k, e1, (bd_e_low (by omega) h1).mpr e2⟩
section BF
variable {kc fw : Int32} {lv ch gr be ow kt kv ol hd ln tq vq gq lo nd dp bs br bz ci : Nat → Int32}
variable {L : Nat → List (Nat × Nat)} {pa : Nat → Nat}
theorem bx_dfs {post : Int32 → SX → Prop} {c : Nat} (P : tr_P ch gr be L pa) (hL : tr_L L) (hc : c < 4) : ∀ (k d q N r F : Nat) (br bz ci : Nat → Int32), d + k = 4 → bd_T q → q < 4096 → cd_nl q = d → bd_I L pa br bz d q → bd_NR L c d q → ci d = nI 0 → N + r = 2001 → r + bx_RB k ≤ 2000 →
    (∀ (N' r' : Nat) (br' bz' ci' : Nat → Int32), N' + r' = 2001 → r' ≤ r + bx_RB k → (∀ m, m < d * 16 → br' m = br m) → (∀ m, m < d → bz' m = bz m) → (∀ m, m < d → ci' m = ci m) → wX_breadth_53 post (nI c) N' (nI (F + bd_rest (bd_H L c) k q)) (nI d + (-1)) (nI r') kc fw lv ch gr be ow kt kv ol hd ln tq vq gq lo nd dp bs br' bz' ci') →
    wX_breadth_53 post (nI c) N (nI F) (nI d) (nI r) kc fw lv ch gr be ow kt kv ol hd ln tq vq gq lo nd dp bs br bz ci := by
  intro k
  induction k with
  | zero =>
    intro d q N r F br bz ci hdk hT hq4 hqd I hN hci hNr hR K
    have hR' : r + 1 ≤ 2000 := hR
    obtain ⟨N0, rfl⟩ : ∃ N0, N = N0 + 1 := ⟨N - 1, by omega⟩
    have hd : d = 4 := by omega
    refine br_f (nI_ge (b := 2000) (by omega) (by omega)) (br_f (nI_pos (by omega)) (br_t (congrArg nI hd) (nm_e (nm_r (nI_1 r) ?_))))
    exact K N0 (r + 1) br bz ci (by omega) (Nat.le_refl _) (fun m _ => rfl) (fun m _ => rfl) fun m _ => rfl
  | succ k ih =>
    intro d q N r F br bz ci hdk hT hq4 hqd I hN hci hNr hR K
    have hq5 := wk_512 hq4 hqd (by omega)
    have hdi : vp_in (nI d) 5 := vp_in_nI (by omega) (by decide)
    have hdc : (nI d).toNatClampNeg = d := nI_clamp (by omega)
    have hd4 : ¬ nI d = 4 := fun h => by
      have := nb_inj (b := 4) h (by omega) (by decide)
      omega
    obtain ⟨X, hX⟩ : ∃ X, X = 1 + bx_RB k := ⟨_, rfl⟩
    have inner : ∀ (e j N r F : Nat) (br bz ci : Nat → Int32), j + e = 5 → bd_I L pa br bz d q → ci d = nI j → N + r = 2001 → r + (e * X + 1) ≤ 2000 →
        (∀ (N' r' : Nat) (br' bz' ci' : Nat → Int32), N' + r' = 2001 → r' ≤ r + (e * X + 1) → (∀ m, m < d * 16 → br' m = br m) → (∀ m, m < d → bz' m = bz m) → (∀ m, m < d → ci' m = ci m) → wX_breadth_53 post (nI c) N' (nI (F + bd_s (fun l => bd_ct (bd_H L c) k (q * 8 + l + 1)) e j)) (nI d + (-1)) (nI r') kc fw lv ch gr be ow kt kv ol hd ln tq vq gq lo nd dp bs br' bz' ci') →
        wX_breadth_53 post (nI c) N (nI F) (nI d) (nI r) kc fw lv ch gr be ow kt kv ol hd ln tq vq gq lo nd dp bs br bz ci := by
      intro e
      induction e with
      | zero =>
        intro j N r F br bz ci hj I hci hNr hR K
        rw [Nat.zero_mul] at hR K
        obtain ⟨N0, rfl⟩ : ∃ N0, N = N0 + 1 := ⟨N - 1, by omega⟩
        refine br_f (nI_ge (b := 2000) (by omega) (by omega)) (br_f (nI_pos (by omega)) (br_f hd4 (And.intro hdi (br_t ?_ (nm_e (nm_r (nI_1 r) ?_))))))
        · rw [hdc, hci]
          exact congrArg nI (show j = 5 by omega)
        · exact K N0 (r + 1) br bz ci (by omega) (Nat.le_refl _) (fun m _ => rfl) (fun m _ => rfl) fun m _ => rfl
      | succ e ih2 =>
        intro j N r F br bz ci hj I hci hNr hR K
        rw [Nat.succ_mul] at hR K
        have hs1 : bd_s (fun l => bd_ct (bd_H L c) k (q * 8 + l + 1)) (e + 1) j = bd_ct (bd_H L c) k (q * 8 + j + 1) + bd_s (fun l => bd_ct (bd_H L c) k (q * 8 + l + 1)) e (j + 1) := rfl
        obtain ⟨N0, rfl⟩ : ∃ N0, N = N0 + 1 := ⟨N - 1, by omega⟩
        have hci' : ci (nI d).toNatClampNeg = nI j := by
          rw [hdc]
          exact hci
        have hq' : cd_top (q * 8 + j + 1) := (bd_top hq5 (by omega)).mpr ⟨by omega, hT⟩
        have hqn : cd_nl (q * 8 + j + 1) = d + 1 := by
          rw [cd_nl_ext hq5 (by omega), hqd]
        obtain ⟨b, b1, b2, b3, b4⟩ := id I
        have hb16 := bd_p2 (show d ≤ 4 by omega)
        have hbz : bz (nI d).toNatClampNeg = nI b := by
          rw [hdc]
          exact b1
        refine br_f (nI_ge (b := 2000) (by omega) (by omega)) (br_f (nI_pos (by omega)) (br_f hd4 (And.intro hdi (br_f ?_ (And.intro hdi ?_)))))
        · rw [hci']
          intro h
          have := nb_inj (b := 5) h (by omega) (by decide)
          omega
        · by_cases zb : b = 0
          · refine br_t (by rw [hbz, zb]; rfl) (nm_e (nm_r (nI_1 r) ?_))
            subst zb
            have hz : bd_s (fun l => bd_ct (bd_H L c) k (q * 8 + l + 1)) (e + 1) j = 0 := by
              refine bd_s0 _ _ fun l l1 l2 => ?_
              refine bd_none (bd_no hL hc b4 hN) (fun _ _ => bd_Qs) k _ (by omega) ?_ ?_
              · rw [cd_nl_ext hq5 (by omega)]
                omega
              · exact bd_Qs hq5 (by omega) (bd_Q0 hqd)
            have h5 := K N0 (r + 1) br bz ci (by omega) (by omega) (fun m _ => rfl) (fun m _ => rfl) fun m _ => rfl
            rw [hz, Nat.add_zero] at h5
            exact h5
          · refine br_f (by rw [hbz]; exact nI_ne0 (by omega) (by omega)) (And.intro hdi ?_)
            rw [hci']
            refine bx_follow hL P (by omega) (by omega) I fun br1 bz1 I1 lo1 lo2 => ?_
            have hd5 : vp_in (nI (d + 1)) 5 := vp_in_nI (by omega) (by decide)
            refine And.intro hdi (And.intro hdi (nm_r (e' := upd ci d (nI (j + 1))) (by rw [hci', hdc, nI_1]) (nm_r (nI_1 d) (And.intro hd5 (nm_r (e' := upd (upd ci d (nI (j + 1))) (d + 1) 0) (by rw [nI_clamp (by omega)]) ?_)))))
            have I' : bd_I L pa br1 bz1 d q := bd_Ilow (by omega) lo1 lo2 I
            have hc1 : upd (upd ci d (nI (j + 1))) (d + 1) 0 d = nI (j + 1) := by
              rw [pk_un (by omega)]
              exact pk_us
            have hc2 : ∀ m, m < d → upd (upd ci d (nI (j + 1))) (d + 1) 0 m = ci m := by
              intro m hm
              rw [pk_un (by omega), pk_un (by omega)]
            refine bx_allBelow P hL (by omega) hc I1 (fun hAB => ?_) fun hAB => ?_
            · refine br_f (by decide) (bx_topicsFrom (k := k) (by omega) (by omega) ?_)
              refine nm_r (nI_add F _) (nm_r (pk_m1 d) (nm_r (nI_1 r) ?_))
              have ht := bd_ab2 (t := q * 8 + j + 1) (k := k) hL hc hAB (by omega) (by omega) (by omega) (bd_Q0 hqn)
              refine ih2 (j + 1) N0 (r + 1) (F + bd_tf k) br1 bz1 _ (by omega) I' hc1 (by omega) (by omega) fun N' r' br' bz' ci' a1 a2 a3 a4 a5 => ?_
              have h5 := K N' r' br' bz' ci' a1 (by omega) (fun m hm => by rw [a3 m hm, lo1 m (by omega)]) (fun m hm => by rw [a4 m hm, lo2 m (by omega)]) fun m hm => by rw [a5 m hm, hc2 m hm]
              rw [hs1, ht, ← Nat.add_assoc] at h5
              exact h5
            · have hN1 := bd_NRs hL hc (show j < 5 by omega) hN hAB
              have hh := bd_here hL hc hq' hqn hN1
              have DEEP : ∀ F', F' = F + bd_H L c (q * 8 + j + 1) → wX_breadth_53 post (nI c) N0 (nI F') (nI (d + 1)) (nI (r + 1)) kc fw lv ch gr be ow kt kv ol hd ln tq vq gq lo nd dp bs br1 bz1 (upd (upd ci d (nI (j + 1))) (d + 1) 0) := by
                intro F' hF'
                refine ih (d + 1) (q * 8 + j + 1) N0 (r + 1) F' br1 bz1 _ (by omega) (Or.inr hq') (by omega) hqn I1 hN1 pk_us (by omega) (by omega) fun N' r' br' bz' ci' a1 a2 a3 a4 a5 => ?_
                rw [pk_m1 d]
                refine ih2 (j + 1) N' r' _ br' bz' ci' (by omega) (bd_Ilow (by omega) a3 a4 I') ((a5 d (by omega)).trans hc1) a1 (by omega) fun N'' r'' br'' bz'' ci'' c1 c2 c3 c4 c5 => ?_
                have h5 := K N'' r'' br'' bz'' ci'' c1 (by omega) (fun m hm => by rw [c3 m hm, a3 m (by omega), lo1 m (by omega)]) (fun m hm => by rw [c4 m hm, a4 m (by omega), lo2 m (by omega)]) fun m hm => by rw [c5 m hm, a5 m (by omega), hc2 m hm]
                rw [hs1, bd_ctr, ← Nat.add_assoc, ← Nat.add_assoc, ← hF'] at h5
                exact h5
              refine br_t rfl (bx_endsHere P hL (by omega) hc I1 (fun hEH => ?_) fun hEH => ?_)
              · exact br_f (by decide) (nm_r (nI_1 F) (nm_r (nI_1 r) (DEEP (F + 1) (by rw [hh.1 hEH]))))
              · exact br_t rfl (nm_r (nI_1 r) (DEEP F (by rw [hh.2 hEH, Nat.add_zero])))
    have e5 : bx_RB (k + 1) = 5 * X + 1 := by
      rw [hX]
      rfl
    refine inner 5 0 N r F br bz ci (by omega) I hci hNr (by omega) fun N' r' br' bz' ci' a1 a2 a3 a4 a5 => ?_
    exact K N' r' br' bz' ci' a1 (by omega) a3 a4 a5
theorem bx_breadth {post : Int32 → SX → Prop} {c : Nat} (P : tr_P ch gr be L pa) (hL : tr_L L) (hc : c < 4) (K : ∀ br bz ci : Nat → Int32, post (nI (bd_rest (bd_H L c) 4 0)) (kc, fw, lv, ch, gr, be, ow, kt, kv, ol, hd, ln, tq, vq, gq, lo, nd, dp, bs, br, bz, ci)) : wpX_breadth post (kc, fw, lv, ch, gr, be, ow, kt, kv, ol, hd, ln, tq, vq, gq, lo, nd, dp, bs, br, bz, ci) (nI c) := by
  have I0 : bd_I L pa (upd br 0 0) (upd bz 0 1) 0 0 := by
    have hE : bd_e pa (upd br 0 0) 0 0 0 := ⟨0, pk_us, by omega, Or.inl rfl, P.1.1⟩
    refine ⟨1, pk_us, by decide, fun k hk => ⟨0, ?_, by decide, rfl, trivial⟩, fun p p1 p2 p3 p4 => ⟨0, by decide, ?_⟩⟩
    · rw [show k = 0 by omega]
      exact hE
    · rw [cd_nl_z p2]
      exact hE
  refine br_f (nI_pos (by omega)) (br_t (nI_lt (b := 4) hc (by decide)) (br_t rfl (nm_e (nm_e (nm_e ?_)))))
  refine bx_allBelow (d := 0) P hL (by decide) hc I0 (fun hAB => ?_) fun hAB => ?_
  · refine br_f (by decide) (bx_topicsFrom0 ?_)
    have h5 : bd_rest (bd_H L c) 4 0 = 780 := by
      have hs : ∀ l, l < 5 → bd_ct (bd_H L c) 3 (0 * 8 + l + 1) = 156 := by
        intro l hl
        refine bd_ab2 (t := 0 * 8 + l + 1) (k := 3) hL hc hAB (by omega) (by omega) ?_ (bd_Qs (by decide) hl (bd_Q0 rfl))
        rw [cd_nl_ext (by decide) (by omega), cd_nl0]
        omega
      show bd_s (fun l => bd_ct (bd_H L c) 3 (0 * 8 + l + 1)) 5 0 = 780
      rw [bd_s5, hs 0 (by decide), hs 1 (by decide), hs 2 (by decide), hs 3 (by decide), hs 4 (by decide)]
    have h6 := K (upd br 0 0) (upd bz 0 1) (upd ci 0 0)
    rw [h5] at h6
    exact h6
  · refine br_t rfl ⟨2001, bx_dfs P hL hc 4 0 0 2001 0 0 _ _ _ (by decide) (Or.inl rfl) (by decide) rfl I0 (fun p hp hin hm => ?_) pk_us (by decide) (by decide) fun N' r' br' bz' ci' a1 a2 a3 a4 a5 => ?_⟩
    · have e := cd_nl_z (show cd_nl p = 0 by omega)
      subst e
      exact hAB ⟨0, by decide, rfl, trivial, hin⟩
    · have a2' : r' ≤ 0 + 1561 := a2
      obtain ⟨N0, rfl⟩ : ∃ N0, N' = N0 + 1 := ⟨N' - 1, by omega⟩
      refine br_f (nI_ge (b := 2000) (by omega) (by omega)) (br_t (by decide) ?_)
      rw [Nat.zero_add]
      exact K br' bz' ci'
end BF
section BY
variable {fk : Int32} {fl gs cn ty vy gy wa ls oy ky vk : Nat → Int32}
variable {L : Nat → List (Nat × Nat)}
theorem by_tot {c : Nat} : bd_sum (fun t => bd_i (cd_top t) * bd_H L c t) 4096 = bd_rest (bd_H L c) 4 0 := by
  have h0 : bd_H L c 0 = 0 := bd_i0 fun h => by have := h.1; omega
  have h1 := bd_tot 4 (bd_H L c) (by decide)
  rw [bd_ctr, h0, Nat.zero_add] at h1
  rw [← h1]
  refine bd_sumc 4096 fun t _ => ?_
  by_cases z : t = 0
  · rw [z, h0]
    omega
  · by_cases zt : cd_top t
    · rw [bd_i1 zt, bd_i1 (P := bd_T t) (Or.inr zt)]
    · rw [bd_i0 zt, bd_i0 (P := bd_T t)]
      intro h
      rcases h with h | h
      · exact z h
      · exact zt h
theorem by_14 {post : Int32 → Prop} {c : Nat} (hc : c < 4) (hL : tr_L L) (Y : ys_ok fl gs cn L) (hp : post (nI (bd_sum (fun t => bd_i (cd_top t) * bd_H L c t) 4096))) : ∀ (e i : Nat), i + e = 4096 → 1 ≤ i → wY_breadth_14 post (nI c) fk fl gs cn ty vy gy wa ls oy ky vk (e + 1) (nI (bd_sum (fun t => bd_i (cd_top t) * bd_H L c t) i)) (nI i) := by
  have hcc : (nI c).toNatClampNeg = c := nI_clamp (by omega)
  intro e
  induction e with
  | zero =>
    intro i hi h1
    have e : i = 4096 := by omega
    subst e
    exact br_t (Int32.le_refl _) hp
  | succ e ih =>
    intro i hi h1
    have hs : bd_sum (fun t => bd_i (cd_top t) * bd_H L c t) (i + 1) = bd_sum (fun t => bd_i (cd_top t) * bd_H L c t) i + bd_i (cd_top i) * bd_H L c i := rfl
    have hnx := ih (i + 1) (by omega) (by omega)
    refine br_f (nI_ge (b := 4096) (by omega) (by omega)) (And.intro (vp_in_nI hc (by decide)) ?_)
    rw [hcc, (Y c hc).1]
    by_cases z : (L c).length = 0
    · refine br_t (by rw [z]; decide) ?_
      have hnil : L c = [] := List.eq_nil_of_length_eq_zero z
      have hz : ∀ t, bd_H L c t = 0 := fun t => bd_i0 fun h => by
        obtain ⟨_, e, he, _⟩ := h
        rw [hnil] at he
        cases he
      have hz2 : ∀ n, bd_sum (fun t => bd_i (cd_top t) * bd_H L c t) n = 0 := by
        intro n
        induction n with
        | zero => rfl
        | succ n ihn =>
          show bd_sum (fun t => bd_i (cd_top t) * bd_H L c t) n + bd_i (cd_top n) * bd_H L c n = 0
          rw [ihn, hz n]
          omega
      rw [hz2] at hp ⊢
      exact hp
    · have h5 := (hL c hc).1
      refine br_f (nI_nle (by omega) (by omega)) (yc_isTopic (fun m hm em => ?_) fun hno => ?_)
      · have e1 := nb_inj em (by omega) (by have := hm.1.2.1; omega)
        subst e1
        refine br_f (by decide) (ys_greatest hc hL Y hm.1.1 hm.1.2.1 fun b hb => ?_)
        rcases hb.2 with hb2 | ⟨e, he, hfit, eb⟩
        · refine br_t hb2 (nm_r (nI_1 i) ?_)
          rw [hs, bd_i1 hm] at hnx
          have hz : bd_H L c i = 0 := bd_i0 fun h => by
            obtain ⟨_, e, he, hfit⟩ := h
            have h6 := hb.1 e he hfit
            have h7 := ((hL c hc).2.2 e he).2
            rw [hb2, Int32.le_iff_toInt_le, nI_toInt (by omega), show (-4 : Int32).toInt = -4 from by decide] at h6
            omega
          rw [hz] at hnx
          exact hnx
        · have h7 := ((hL c hc).2.2 e he).2
          refine br_f (by rw [eb]; exact nb_ne_m4 (by omega)) (nm_r (nI_1 _) (nm_r (nI_1 i) ?_))
          have hz : bd_H L c i = 1 := bd_i1 ⟨h1, e, he, hfit⟩
          rw [hs, bd_i1 hm, hz] at hnx
          exact hnx
      · refine br_t rfl (nm_r (nI_1 i) ?_)
        rw [hs, bd_i0 (fun h => hno i h rfl), Nat.zero_mul] at hnx
        exact hnx
theorem by_breadth {post : Int32 → Prop} {c : Nat} (hc : c < 4) (hL : tr_L L) (Y : ys_ok fl gs cn L) (hp : post (nI (bd_rest (bd_H L c) 4 0))) : wpY_breadth post (fk, fl, gs, cn, ty, vy, gy, wa, ls, oy, ky, vk) (nI c) := by
  refine br_f (nI_pos (by omega)) (br_f (nI_nlt (a := 3) (by omega) (by omega)) (br_f (by decide) ⟨4096, ?_⟩))
  have e0 : bd_sum (fun t => bd_i (cd_top t) * bd_H L c t) 1 = 0 := by
    show 0 + bd_i (cd_top 0) * bd_H L c 0 = 0
    rw [bd_i0 (fun h => by have := h.1.1; omega)]
    omega
  have hp' : post (nI (bd_sum (fun t => bd_i (cd_top t) * bd_H L c t) 4096)) := by
    rw [by_tot]
    exact hp
  have h := by_14 (fk := fk) (ty := ty) (vy := vy) (gy := gy) (wa := wa) (ls := ls) (oy := oy) (ky := ky) (vk := vk) hc hL Y hp' 4095 1 (by decide) (by decide)
  rw [e0] at h
  exact h
end BY
end
section
/-! one subscription more, one exchanged, one less -/
theorem trl_not {l1 l2 : List (Nat × Nat)} {f g : Nat} (h : ((l1 ++ (f, g) :: l2).map Prod.fst).Nodup) : (∀ e, e ∈ l1 → e.1 ≠ f) ∧ (∀ e, e ∈ l2 → e.1 ≠ f) ∧ ((l1 ++ l2).map Prod.fst).Nodup := by
  rw [List.map_append, List.map_cons, List.nodup_append, List.nodup_cons] at h
  obtain ⟨h1, ⟨h2, h3⟩, h4⟩ := h
  refine ⟨fun e he => ?_, fun e he z => ?_, ?_⟩
  · exact h4 e.1 (List.mem_map.mpr ⟨e, he, rfl⟩) f List.mem_cons_self
  · exact h2 (List.mem_map.mpr ⟨e, he, z⟩)
  · rw [List.map_append, List.nodup_append]
    exact ⟨h1, h3, fun a ha b hb => h4 a ha b (List.mem_cons_of_mem _ hb)⟩
theorem trl_app {L : Nat → List (Nat × Nat)} {c f g : Nat} (hL : tr_L L) (hc : c < 4) (h5 : (L c).length < 5) (hf : cd_fil f) (hg : g ≤ 2) (hn : ∀ e, e ∈ L c → e.1 ≠ f) : tr_L (tr_set L c (L c ++ [(f, g)])) := by
  intro c' hc'
  by_cases z : c' = c
  · rw [z, tr_set_s]
    obtain ⟨a, b, d⟩ := hL c hc
    refine ⟨?_, ?_, fun e he => ?_⟩
    · rw [List.length_append]
      show (L c).length + 1 ≤ 5
      omega
    · rw [List.map_append, List.nodup_append]
      refine ⟨b, by simp, fun x hx y hy => ?_⟩
      obtain ⟨e, he, rfl⟩ := List.mem_map.mp hx
      have e2 : y = f := by simpa using hy
      rw [e2]
      exact hn e he
    · rcases List.mem_append.mp he with h | h
      · exact d e h
      · have e2 : e = (f, g) := by simpa using h
        rw [e2]
        exact ⟨hf, hg⟩
  · rw [tr_set_n z]
    exact hL c' hc'
theorem trl_set {L : Nat → List (Nat × Nat)} {l1 l2 : List (Nat × Nat)} {c f g g0 : Nat} (hL : tr_L L) (hc : c < 4) (hl : L c = l1 ++ (f, g0) :: l2) (hg : g ≤ 2) : tr_L (tr_set L c (l1 ++ (f, g) :: l2)) := by
  intro c' hc'
  by_cases z : c' = c
  · rw [z, tr_set_s]
    obtain ⟨a, b, d⟩ := hL c hc
    rw [hl] at a b d
    refine ⟨?_, ?_, fun e he => ?_⟩
    · rw [List.length_append, List.length_cons] at a ⊢
      exact a
    · rw [List.map_append, List.map_cons] at b ⊢
      exact b
    · rcases List.mem_append.mp he with h | h
      · exact d e (List.mem_append_left _ h)
      · rcases List.mem_cons.mp h with h | h
        · rw [h]
          exact ⟨(d (f, g0) (List.mem_append_right _ List.mem_cons_self)).1, hg⟩
        · exact d e (List.mem_append_right _ (List.mem_cons_of_mem _ h))
  · rw [tr_set_n z]
    exact hL c' hc'
theorem trl_del {L : Nat → List (Nat × Nat)} {l1 l2 : List (Nat × Nat)} {c f g0 : Nat} (hL : tr_L L) (hc : c < 4) (hl : L c = l1 ++ (f, g0) :: l2) : tr_L (tr_set L c (l1 ++ l2)) := by
  intro c' hc'
  by_cases z : c' = c
  · rw [z, tr_set_s]
    obtain ⟨a, b, d⟩ := hL c hc
    rw [hl] at a b d
    refine ⟨?_, (trl_not b).2.2, fun e he => ?_⟩
    · rw [List.length_append, List.length_cons] at a
      rw [List.length_append]
      omega
    · rcases List.mem_append.mp he with h | h
      · exact d e (List.mem_append_left _ h)
      · exact d e (List.mem_append_right _ (List.mem_cons_of_mem _ h))
  · rw [tr_set_n z]
    exact hL c' hc'
theorem ys_lt {l : List (Nat × Nat)} {i : Nat} {e : Nat × Nat} (h : l[i]? = some e) : i < l.length := (List.getElem?_eq_some_iff.mp h).1
theorem ys_app {fl gs cn : Nat → Int32} {L : Nat → List (Nat × Nat)} {c f g : Nat} (hL : tr_L L) (hc : c < 4) (h5 : (L c).length < 5) (Y : ys_ok fl gs cn L) : ys_ok (upd fl (c * 5 + (L c).length) (nI f)) (upd gs (c * 5 + (L c).length) (nI g)) (upd cn c (cn c + 1)) (tr_set L c (L c ++ [(f, g)])) := by
  intro c' hc'
  by_cases z : c' = c
  · rw [z, tr_set_s]
    obtain ⟨a, b⟩ := Y c hc
    refine ⟨?_, fun i e he => ?_⟩
    · rw [pk_us, a, nI_1, List.length_append]
      rfl
    · have hlt := ys_lt he
      rw [List.length_append] at hlt
      have hlt' : i < (L c).length + 1 := hlt
      by_cases zi : i = (L c).length
      · rw [zi, List.getElem?_concat_length] at he
        have e2 := Option.some.inj he
        rw [zi, pk_us, pk_us, ← e2]
        exact ⟨rfl, rfl⟩
      · rw [List.getElem?_append_left (by omega)] at he
        rw [pk_un (by omega), pk_un (by omega)]
        exact b i e he
  · rw [tr_set_n z]
    obtain ⟨a, b⟩ := Y c' hc'
    refine ⟨(pk_un z).trans a, fun i e he => ?_⟩
    have hlt := ys_lt he
    have h5' := (hL c' hc').1
    rw [pk_un (by omega), pk_un (by omega)]
    exact b i e he
theorem ys_set {fl gs cn : Nat → Int32} {L : Nat → List (Nat × Nat)} {l1 l2 : List (Nat × Nat)} {c f g g0 i0 : Nat} (hL : tr_L L) (hc : c < 4) (hl : L c = l1 ++ (f, g0) :: l2) (hi : l1.length = i0) (Y : ys_ok fl gs cn L) : ys_ok (upd fl (c * 5 + i0) (nI f)) (upd gs (c * 5 + i0) (nI g)) cn (tr_set L c (l1 ++ (f, g) :: l2)) := by
  have h50 := (hL c hc).1
  rw [hl, List.length_append, List.length_cons] at h50
  intro c' hc'
  by_cases z : c' = c
  · rw [z, tr_set_s]
    obtain ⟨a, b⟩ := Y c hc
    rw [hl] at a b
    refine ⟨?_, fun i e he => ?_⟩
    · rw [a, List.length_append, List.length_append]
      rfl
    · by_cases zi : i = i0
      · rw [zi, ← hi, List.getElem?_append_right (Nat.le_refl _), Nat.sub_self] at he
        have e2 : (f, g) = e := by simpa using he
        rw [zi, pk_us, pk_us, ← e2]
        exact ⟨rfl, rfl⟩
      · rw [pk_un (by omega), pk_un (by omega)]
        refine b i e ?_
        by_cases zl : i < l1.length
        · rw [List.getElem?_append_left zl] at he ⊢
          exact he
        · rw [List.getElem?_append_right (by omega)] at he ⊢
          rw [show i - l1.length = (i - l1.length - 1) + 1 by omega, List.getElem?_cons_succ] at he ⊢
          exact he
  · rw [tr_set_n z]
    obtain ⟨a, b⟩ := Y c' hc'
    refine ⟨a, fun i e he => ?_⟩
    have hlt := ys_lt he
    have h5' := (hL c' hc').1
    rw [pk_un (by omega), pk_un (by omega)]
    exact b i e he
theorem ys_del {fl gs fl' gs' cn : Nat → Int32} {L : Nat → List (Nat × Nat)} {l1 l2 : List (Nat × Nat)} {c f g0 i0 : Nat} (hL : tr_L L) (hc : c < 4) (hl : L c = l1 ++ (f, g0) :: l2) (hi : l1.length = i0) (h1 : qu_sh (c * 5 + i0) l2.length fl fl') (h2 : qu_sh (c * 5 + i0) l2.length gs gs') (Y : ys_ok fl gs cn L) : ys_ok fl' gs' (upd cn c (cn c - 1)) (tr_set L c (l1 ++ l2)) := by
  have h50 := (hL c hc).1
  rw [hl, List.length_append, List.length_cons] at h50
  intro c' hc'
  by_cases z : c' = c
  · rw [z, tr_set_s]
    obtain ⟨a, b⟩ := Y c hc
    rw [hl] at a b
    refine ⟨?_, fun i e he => ?_⟩
    · rw [pk_us, a, List.length_append, List.length_append, List.length_cons]
      exact nI_pred _
    · have hlt := ys_lt he
      rw [List.length_append] at hlt
      by_cases zl : i < l1.length
      · rw [h1.2 _ (by omega), h2.2 _ (by omega)]
        refine b i e ?_
        rw [List.getElem?_append_left zl] at he ⊢
        exact he
      · have e1 := h1.1 (i - i0) (by omega)
        have e2 := h2.1 (i - i0) (by omega)
        rw [show c * 5 + i0 + (i - i0) = c * 5 + i by omega] at e1 e2
        rw [e1, e2]
        refine b (i + 1) e ?_
        rw [List.getElem?_append_right (by omega)] at he ⊢
        rw [show i + 1 - l1.length = (i - l1.length) + 1 by omega, List.getElem?_cons_succ]
        exact he
  · rw [tr_set_n z]
    obtain ⟨a, b⟩ := Y c' hc'
    refine ⟨(pk_un z).trans a, fun i e he => ?_⟩
    have hlt := ys_lt he
    have h5' := (hL c' hc').1
    rw [h1.2 _ (by omega), h2.2 _ (by omega)]
    exact b i e he
end
section
/-! the relation -/
def rl_H (K : Nat) (ch gr be ow kt hd ln tq vq gq fl gs ty vy gy : Nat → Int32) (L : Nat → List (Nat × Nat)) (pa : Nat → Nat) : Prop :=
  kp_ok K kt ∧ qu_ok hd ln tq vq gq ty vy gy ∧ tr_L L ∧ ys_ok fl gs ow L ∧ tr_P ch gr be L pa
def rl_R (kc : Int32) (ch gr be ow kt kv ol hd ln tq vq gq lo : Nat → Int32) (fk : Int32) (fl gs cn ty vy gy wa ls oy ky vk : Nat → Int32) : Prop :=
  fk = kc ∧ cn = ow ∧ wa = ln ∧ ls = lo ∧ oy = ol ∧ ky = kt ∧ vk = kv ∧ ∃ K L pa, kc = nI K ∧ rl_H K ch gr be ow kt hd ln tq vq gq fl gs ty vy gy L pa
/-- the relation at the head of a turn -/
def i_Rel (k : Nat) (u : SX) (v : SY) : Prop := match u with
  | (kc, fw, lv, ch, gr, be, ow, kt, kv, ol, hd, ln, tq, vq, gq, lo, nd, dp, bs, br, bz, ci) => match v with
    | (fk, fl, gs, cn, ty, vy, gy, wa, ls, oy, ky, vk) => rl_R kc ch gr be ow kt kv ol hd ln tq vq gq lo fk fl gs cn ty vy gy wa ls oy ky vk
theorem i_up {k : Nat} {u : SX} {v : SY} (h : i_Rel k u v) : i_Rel (k + 4) u v := h
theorem rl_el {k : Nat} {u : SX} {v : SY} {Pr : SX → SY → Prop} (h : ∀ (fw : Int32) (lv ch gr be ow kt kv ol hd ln tq vq gq lo nd dp bs br bz ci fl gs ty vy gy : Nat → Int32) (K : Nat) (L : Nat → List (Nat × Nat)) (pa : Nat → Nat), rl_H K ch gr be ow kt hd ln tq vq gq fl gs ty vy gy L pa → Pr (nI K, fw, lv, ch, gr, be, ow, kt, kv, ol, hd, ln, tq, vq, gq, lo, nd, dp, bs, br, bz, ci) (nI K, fl, gs, ow, ty, vy, gy, ln, lo, ol, kt, kv)) (I : i_Rel k u v) : Pr u v := by
  obtain ⟨kc, fw, lv, ch, gr, be, ow, kt, kv, ol, hd, ln, tq, vq, gq, lo, nd, dp, bs, br, bz, ci⟩ := u
  obtain ⟨fk, fl, gs, cn, ty, vy, gy, wa, ls, oy, ky, vk⟩ := v
  obtain ⟨e1, e2, e3, e4, e5, e6, e7, K, L, pa, e8, H⟩ := I
  subst e1 e2 e3 e4 e5 e6 e7 e8
  exact h _ _ _ _ _ _ _ _ _ _ _ _ _ _ _ _ _ _ _ _ _ _ _ _ _ _ K L pa H
theorem rl_in {k : Nat} {fw : Int32} {lv ch gr be ow kt kv ol hd ln tq vq gq lo nd dp bs br bz ci : Nat → Int32} {fl gs ty vy gy : Nat → Int32} {K : Nat} {L : Nat → List (Nat × Nat)} {pa : Nat → Nat} (H : rl_H K ch gr be ow kt hd ln tq vq gq fl gs ty vy gy L pa) : i_Rel k (nI K, fw, lv, ch, gr, be, ow, kt, kv, ol, hd, ln, tq, vq, gq, lo, nd, dp, bs, br, bz, ci) (nI K, fl, gs, ow, ty, vy, gy, ln, lo, ol, kt, kv) :=
  ⟨rfl, rfl, rfl, rfl, rfl, rfl, rfl, K, L, pa, rfl, H⟩
/-! the constructors -/
def in_fill : Nat → Nat → (Nat → Int32) → Nat → Int32
  | 0, _, a => a
  | d + 1, i, a => in_fill d (i + 1) (upd a i (vp_nar .boolean 1))
theorem in_x181 {kc fw : Int32} {lv ch gr be ow kt kv ol hd ln tq vq gq lo nd dp bs br bz ci : Nat → Int32} {post : SX → Prop} : ∀ (d i : Nat) (ol : Nat → Int32), i + d = 4 → post (kc, fw, lv, ch, gr, be, ow, kt, kv, in_fill d i ol, hd, ln, tq, vq, gq, lo, nd, dp, bs, br, bz, ci) → wX_init_181 post kc fw (d + 1) (nI i) lv ch gr be ow kt kv ol hd ln tq vq gq lo nd dp bs br bz ci := by
  intro d
  induction d with
  | zero =>
    intro i ol hi hp
    exact br_t (nI_le (a := 4) (by omega) (by omega)) hp
  | succ d ih =>
    intro i ol hi hp
    exact br_f (nI_ge (b := 4) (by omega) (by omega)) ⟨vp_in_nI (by omega) (by decide), nm_r (e' := upd ol i (vp_nar .boolean 1)) (by rw [nI_clamp (by omega)]) (nm_r (nI_1 i) (ih (i + 1) _ (by omega) hp))⟩
theorem in_y90 {fk : Int32} {fl gs cn ty vy gy wa ls oy ky vk : Nat → Int32} {post : SY → Prop} : ∀ (d i : Nat) (oy : Nat → Int32), i + d = 4 → post (fk, fl, gs, cn, ty, vy, gy, wa, ls, in_fill d i oy, ky, vk) → wY_init_90 post fk (d + 1) (nI i) fl gs cn ty vy gy wa ls oy ky vk := by
  intro d
  induction d with
  | zero =>
    intro i ol hi hp
    exact br_t (nI_le (a := 4) (by omega) (by omega)) hp
  | succ d ih =>
    intro i oy hi hp
    exact br_f (nI_ge (b := 4) (by omega) (by omega)) ⟨vp_in_nI (by omega) (by decide), nm_r (e' := upd oy i (vp_nar .boolean 1)) (by rw [nI_clamp (by omega)]) (nm_r (nI_1 i) (ih (i + 1) _ (by omega) hp))⟩
theorem in_x159 {kc fw : Int32} {lv ch gr be ow kt kv ol hd ln tq vq gq lo nd dp bs br bz ci : Nat → Int32} {post : SX → Prop} (K : ∀ gr : Nat → Int32, (∀ j, j < 324 → gr j = -1) → ∃ n181 : Nat, wX_init_181 post kc fw n181 0 lv ch gr be ow kt kv ol hd ln tq vq gq lo nd dp bs br bz ci) : ∀ (d i : Nat) (gr : Nat → Int32), i + d = 324 → (∀ j, j < i → gr j = -1) → wX_init_159 post kc fw (d + 1) (nI i) lv ch gr be ow kt kv ol hd ln tq vq gq lo nd dp bs br bz ci := by
  intro d
  induction d with
  | zero =>
    intro i gr hi h
    exact br_t (nI_le (a := 324) (by omega) (by omega)) (K gr fun j hj => h j (by omega))
  | succ d ih =>
    intro i gr hi h
    refine br_f (nI_ge (b := 324) (by omega) (by omega)) ⟨vp_in_nI (by omega) (by decide), nm_r (e' := upd gr i (-1)) (by rw [nI_clamp (by omega)]) (nm_r (nI_1 i) (ih (i + 1) _ (by omega) fun j hj => ?_))⟩
    by_cases z : j = i
    · rw [z]; exact pk_us
    · rw [pk_un z]; exact h j (by omega)
theorem in_sm : ∀ n, tr_sm (fun _ => 0) n = 0 := by
  intro n
  induction n with
  | zero => rfl
  | succ n ih => rw [tr_sm_s, ih]
theorem in_w (r : Nat) : tr_w (fun _ => []) r = 0 := rfl
theorem i_vc0 : wpX_init (fun u => wpY_init (fun v => i_Rel 0 u v)) := by
  refine ⟨325, in_x159 (gr := fun _ => 0) (fun gr hgr => ⟨5, in_x181 (ol := fun _ => 0) 4 0 _ (by decide) ⟨5, in_y90 (oy := fun _ => 0) 4 0 _ (by decide) ?_⟩⟩) 324 0 _ (by decide) fun j hj => absurd hj (by omega)⟩
  refine rl_in (K := 0) (L := fun _ => []) (pa := fun _ => 0) ⟨⟨by decide, fun i j h1 h2 => absurd h2 (by omega), fun i hi => absurd hi (by omega)⟩, ?_, ?_, ?_, ?_, ?_, ?_⟩
  · exact fun c hc => ⟨0, 0, by decide, by decide, rfl, rfl, fun i hi => absurd hi (by omega), fun i hi => absurd hi (by omega), fun i hi => absurd hi (by omega)⟩
  · exact fun c hc => ⟨Nat.zero_le 5, List.nodup_nil, fun e he => by cases he⟩
  · exact fun c hc => ⟨rfl, fun i e he => by simp at he⟩
  · exact ⟨rfl, in_w 0, fun k k' _ _ _ _ _ h => absurd rfl h, fun k b _ _ _ => Or.inl ⟨rfl, in_w _⟩, fun k _ _ => rfl, fun k _ _ h => absurd rfl h⟩
  · exact in_sm 80
  · intro k c k1 k2 hc
    rw [hgr _ (by omega)]
    rfl
/-! clients -/
theorem rl_cl (x : Int32) : (x < 0 ∨ nI 4 ≤ x) ∨ ∃ c, c < 4 ∧ x = nI c := by
  rcases pk_ix x (n := 4) (by decide) with h | h | h
  · exact Or.inl (Or.inl h)
  · exact Or.inl (Or.inr h)
  · exact Or.inr h
theorem rl_xbad {kc fw : Int32} {lv ch gr be ow kt kv ol hd ln tq vq gq lo nd dp bs br bz ci : Nat → Int32} {post : Int32 → Prop} {x : Int32} (h : x < 0 ∨ nI 4 ≤ x) (hp : post 1) : wpX_badClient post (kc, fw, lv, ch, gr, be, ow, kt, kv, ol, hd, ln, tq, vq, gq, lo, nd, dp, bs, br, bz, ci) x := by
  by_cases z : x < 0
  · exact br_t z hp
  · rcases h with h | h
    · exact absurd h z
    · exact br_f z (br_f (fun h2 => Int32.not_le.mpr h2 h) hp)
theorem rl_xgood {kc fw : Int32} {lv ch gr be ow kt kv ol hd ln tq vq gq lo nd dp bs br bz ci : Nat → Int32} {post : Int32 → Prop} {c : Nat} (h : c < 4) (hp : post 0) : wpX_badClient post (kc, fw, lv, ch, gr, be, ow, kt, kv, ol, hd, ln, tq, vq, gq, lo, nd, dp, bs, br, bz, ci) (nI c) :=
  br_f (nI_pos (by omega)) (br_t (nI_lt (b := 4) h (by decide)) hp)
theorem rl_ybad {fk : Int32} {fl gs cn ty vy gy wa ls oy ky vk : Nat → Int32} {post : Int32 → Prop} {x : Int32} (h : x < 0 ∨ nI 4 ≤ x) (hp : post 0) : wpY_isClient post (fk, fl, gs, cn, ty, vy, gy, wa, ls, oy, ky, vk) x := by
  by_cases z : x < 0
  · exact br_t z hp
  · rcases h with h | h
    · exact absurd h z
    · exact br_f z (br_t (Int32.lt_of_lt_of_le (by decide : (3 : Int32) < nI 4) h) hp)
theorem rl_ygood {fk : Int32} {fl gs cn ty vy gy wa ls oy ky vk : Nat → Int32} {post : Int32 → Prop} {c : Nat} (h : c < 4) (hp : post 1) : wpY_isClient post (fk, fl, gs, cn, ty, vy, gy, wa, ls, oy, ky, vk) (nI c) :=
  br_f (nI_pos (by omega)) (br_f (nI_nlt (a := 3) (by omega) (by omega)) hp)
theorem rl_xgr {kc fw : Int32} {lv ch gr be ow kt kv ol hd ln tq vq gq lo nd dp bs br bz ci : Nat → Int32} {post : Int32 → Prop} {x : Int32} (hb : (x < 0 ∨ nI 4 ≤ x) → post 1) (hg : ∀ c, c < 4 → x = nI c → post 0) : wpX_badClient post (kc, fw, lv, ch, gr, be, ow, kt, kv, ol, hd, ln, tq, vq, gq, lo, nd, dp, bs, br, bz, ci) x := by
  rcases rl_cl x with h | ⟨c, h, e⟩
  · exact rl_xbad h (hb h)
  · rw [e]
    exact rl_xgood h (hg c h e)
end
section
/-! the calls that read a cell, and the like -/
theorem i_vc_matches {k : Nat} {u : SX} {v : SY} (I : i_Rel k u v) (hk : k + 4 ≤ 2048) (v1 : Int32) (v2 : Int32) : wpX_matches (fun r u' => wpY_matches (fun r' => r' = r ∧ i_Rel (k + 4) u' v) v v1 v2) u v1 v2 := by
  refine rl_el (Pr := fun u v => wpX_matches (fun r u' => wpY_matches (fun r' => r' = r ∧ i_Rel (k + 4) u' v) v v1 v2) u v1 v2) ?_ I
  intro fw lv ch gr be ow kt kv ol hd ln tq vq gq lo nd dp bs br bz ci fl gs ty vy gy K L pa H
  refine xc_matches (fun f t hf ht ef et hfit lev' => ?_) fun h lev' => ?_
  · exact yc_matches (fun _ _ _ _ _ _ _ => ⟨rfl, rl_in H⟩) fun h => absurd hfit (h f t hf ht ef et)
  · exact yc_matches (fun f t hf ht ef et hfit => absurd hfit (h f t hf ht ef et)) fun _ => ⟨rfl, rl_in H⟩
theorem i_vc_subscriptions {k : Nat} {u : SX} {v : SY} (I : i_Rel k u v) (hk : k + 4 ≤ 2048) (v1 : Int32) : wpX_subscriptions (fun r => wpY_subscriptions (fun r' => r' = r ∧ i_Rel (k + 4) u v) v v1) u v1 := by
  refine rl_el (Pr := fun u v => wpX_subscriptions (fun r => wpY_subscriptions (fun r' => r' = r ∧ i_Rel (k + 4) u v) v v1) u v1) ?_ I
  intro fw lv ch gr be ow kt kv ol hd ln tq vq gq lo nd dp bs br bz ci fl gs ty vy gy K L pa H
  unfold wpX_subscriptions wpY_subscriptions
  rcases rl_cl v1 with h | ⟨c, hc, rfl⟩
  · exact rl_xbad h (br_f (by decide) (rl_ybad h (br_t rfl ⟨rfl, rl_in H⟩)))
  · have hi : vp_in (nI c) 4 := vp_in_nI hc (by decide)
    exact rl_xgood hc (br_t rfl ⟨hi, rl_ygood hc (br_f (by decide) ⟨hi, rfl, rl_in H⟩)⟩)
theorem i_vc_waiting {k : Nat} {u : SX} {v : SY} (I : i_Rel k u v) (hk : k + 4 ≤ 2048) (v1 : Int32) : wpX_waiting (fun r => wpY_waiting (fun r' => r' = r ∧ i_Rel (k + 4) u v) v v1) u v1 := by
  refine rl_el (Pr := fun u v => wpX_waiting (fun r => wpY_waiting (fun r' => r' = r ∧ i_Rel (k + 4) u v) v v1) u v1) ?_ I
  intro fw lv ch gr be ow kt kv ol hd ln tq vq gq lo nd dp bs br bz ci fl gs ty vy gy K L pa H
  unfold wpX_waiting wpY_waiting
  rcases rl_cl v1 with h | ⟨c, hc, rfl⟩
  · exact rl_xbad h (br_f (by decide) (rl_ybad h (br_t rfl ⟨rfl, rl_in H⟩)))
  · have hi : vp_in (nI c) 4 := vp_in_nI hc (by decide)
    exact rl_xgood hc (br_t rfl ⟨hi, rl_ygood hc (br_f (by decide) ⟨hi, rfl, rl_in H⟩)⟩)
theorem i_vc_lost {k : Nat} {u : SX} {v : SY} (I : i_Rel k u v) (hk : k + 4 ≤ 2048) (v1 : Int32) : wpX_lost (fun r => wpY_lost (fun r' => r' = r ∧ i_Rel (k + 4) u v) v v1) u v1 := by
  refine rl_el (Pr := fun u v => wpX_lost (fun r => wpY_lost (fun r' => r' = r ∧ i_Rel (k + 4) u v) v v1) u v1) ?_ I
  intro fw lv ch gr be ow kt kv ol hd ln tq vq gq lo nd dp bs br bz ci fl gs ty vy gy K L pa H
  unfold wpX_lost wpY_lost
  rcases rl_cl v1 with h | ⟨c, hc, rfl⟩
  · exact rl_xbad h (br_f (by decide) (rl_ybad h (br_t rfl ⟨rfl, rl_in H⟩)))
  · have hi : vp_in (nI c) 4 := vp_in_nI hc (by decide)
    exact rl_xgood hc (br_t rfl ⟨hi, rl_ygood hc (br_f (by decide) ⟨hi, rfl, rl_in H⟩)⟩)
/-- the first of a queue -/
theorem qu_first {hd ln tq vq gq ty vy gy : Nat → Int32} {c : Nat} (Q : qu_ok hd ln tq vq gq ty vy gy) (hc : c < 4) (hn : ¬ ln c = 0) : ∃ h l : Nat, h < 12 ∧ l < 12 ∧ hd c = nI h ∧ ln c = nI (l + 1) ∧ tq (c * 12 + h) = ty (c * 12) ∧ vq (c * 12 + h) = vy (c * 12) ∧ gq (c * 12 + h) = gy (c * 12) := by
  obtain ⟨h, l, hh, hl, eh, el, qt, qv, qg⟩ := Q c hc
  have hl0 : l ≠ 0 := by
    intro z
    rw [el, z] at hn
    exact hn rfl
  have e : (h + 0) % 12 = h := by omega
  have a1 := qt 0 (by omega)
  have a2 := qv 0 (by omega)
  have a3 := qg 0 (by omega)
  rw [e] at a1 a2 a3
  exact ⟨h, l - 1, hh, by omega, eh, by rw [el]; exact congrArg nI (by omega), a1, a2, a3⟩
theorem i_vc_firstTopic {k : Nat} {u : SX} {v : SY} (I : i_Rel k u v) (hk : k + 4 ≤ 2048) (v1 : Int32) : wpX_firstTopic (fun r => wpY_firstTopic (fun r' => r' = r ∧ i_Rel (k + 4) u v) v v1) u v1 := by
  refine rl_el (Pr := fun u v => wpX_firstTopic (fun r => wpY_firstTopic (fun r' => r' = r ∧ i_Rel (k + 4) u v) v v1) u v1) ?_ I
  intro fw lv ch gr be ow kt kv ol hd ln tq vq gq lo nd dp bs br bz ci fl gs ty vy gy K L pa H
  unfold wpX_firstTopic wpY_firstTopic
  rcases rl_cl v1 with h | ⟨c, hc, rfl⟩
  · exact rl_xbad h (br_f (by decide) (rl_ybad h (br_t rfl ⟨rfl, rl_in H⟩)))
  · have hi : vp_in (nI c) 4 := vp_in_nI hc (by decide)
    have hcc : (nI c).toNatClampNeg = c := nI_clamp (by omega)
    by_cases z : ln c = 0
    · have z' : ln (nI c).toNatClampNeg = 0 := by rw [hcc]; exact z
      exact rl_xgood hc (br_t rfl ⟨hi, br_t z' (rl_ygood hc (br_f (by decide) ⟨hi, br_t z' ⟨rfl, rl_in H⟩⟩))⟩)
    · have z' : ¬ ln (nI c).toNatClampNeg = 0 := by rw [hcc]; exact z
      obtain ⟨h, l, hh, hl, eh, el, qt, qv, qg⟩ := qu_first H.2.1 hc z
      have hx : nI c * 12 + hd (nI c).toNatClampNeg = nI (c * 12 + h) := by
        rw [hcc, eh, qu_12, nI_add]
      have hy : 12 * nI c = nI (c * 12) := qu_21 c
      refine rl_xgood hc (br_t rfl ⟨hi, br_f z' ⟨hi, by rw [hx]; exact vp_in_nI (by omega) (by decide), rl_ygood hc (br_f (by decide) ⟨hi, br_f z' ⟨by rw [hy]; exact vp_in_nI (by omega) (by decide), ?_, rl_in H⟩⟩)⟩⟩)
      rw [hx, hy, nI_clamp (by omega), nI_clamp (by omega)]
      exact qt.symm
theorem i_vc_firstGrade {k : Nat} {u : SX} {v : SY} (I : i_Rel k u v) (hk : k + 4 ≤ 2048) (v1 : Int32) : wpX_firstGrade (fun r => wpY_firstGrade (fun r' => r' = r ∧ i_Rel (k + 4) u v) v v1) u v1 := by
  refine rl_el (Pr := fun u v => wpX_firstGrade (fun r => wpY_firstGrade (fun r' => r' = r ∧ i_Rel (k + 4) u v) v v1) u v1) ?_ I
  intro fw lv ch gr be ow kt kv ol hd ln tq vq gq lo nd dp bs br bz ci fl gs ty vy gy K L pa H
  unfold wpX_firstGrade wpY_firstGrade
  rcases rl_cl v1 with h | ⟨c, hc, rfl⟩
  · exact rl_xbad h (br_f (by decide) (rl_ybad h (br_t rfl ⟨rfl, rl_in H⟩)))
  · have hi : vp_in (nI c) 4 := vp_in_nI hc (by decide)
    have hcc : (nI c).toNatClampNeg = c := nI_clamp (by omega)
    by_cases z : ln c = 0
    · have z' : ln (nI c).toNatClampNeg = 0 := by rw [hcc]; exact z
      exact rl_xgood hc (br_t rfl ⟨hi, br_t z' (rl_ygood hc (br_f (by decide) ⟨hi, br_t z' ⟨rfl, rl_in H⟩⟩))⟩)
    · have z' : ¬ ln (nI c).toNatClampNeg = 0 := by rw [hcc]; exact z
      obtain ⟨h, l, hh, hl, eh, el, qt, qv, qg⟩ := qu_first H.2.1 hc z
      have hx : nI c * 12 + hd (nI c).toNatClampNeg = nI (c * 12 + h) := by
        rw [hcc, eh, qu_12, nI_add]
      have hy : 12 * nI c = nI (c * 12) := qu_21 c
      refine rl_xgood hc (br_t rfl ⟨hi, br_f z' ⟨hi, by rw [hx]; exact vp_in_nI (by omega) (by decide), rl_ygood hc (br_f (by decide) ⟨hi, br_f z' ⟨by rw [hy]; exact vp_in_nI (by omega) (by decide), ?_, rl_in H⟩⟩)⟩⟩)
      rw [hx, hy, nI_clamp (by omega), nI_clamp (by omega)]
      exact qg.symm
theorem i_vc_connect {k : Nat} {u : SX} {v : SY} (I : i_Rel k u v) (hk : k + 4 ≤ 2048) (v1 : Int32) (v2 : Int32) : wpX_connect (fun r u' => wpY_connect (fun r' v' => r' = r ∧ i_Rel (k + 4) u' v') v v1 v2) u v1 v2 := by
  refine rl_el (Pr := fun u v => wpX_connect (fun r u' => wpY_connect (fun r' v' => r' = r ∧ i_Rel (k + 4) u' v') v v1 v2) u v1 v2) ?_ I
  intro fw lv ch gr be ow kt kv ol hd ln tq vq gq lo nd dp bs br bz ci fl gs ty vy gy K L pa H
  unfold wpX_connect wpY_connect
  rcases rl_cl v1 with h | ⟨c, hc, rfl⟩
  · exact rl_xbad h (br_f (by decide) (rl_ybad h (br_t rfl ⟨rfl, rl_in H⟩)))
  · have hi : vp_in (nI c) 4 := vp_in_nI hc (by decide)
    by_cases zo : ol (nI c).toNatClampNeg = 0
    · by_cases z : v2 = 0
      · exact rl_xgood hc (br_t rfl ⟨hi, br_t zo (br_t z ⟨hi, nm_e (rl_ygood hc (br_f (by decide) ⟨hi, br_t zo (br_t z ⟨hi, nm_e ⟨rfl, rl_in H⟩⟩)⟩))⟩)⟩)
      · exact rl_xgood hc (br_t rfl ⟨hi, br_t zo (br_f z ⟨hi, nm_e (rl_ygood hc (br_f (by decide) ⟨hi, br_t zo (br_f z ⟨hi, nm_e ⟨rfl, rl_in H⟩⟩)⟩))⟩)⟩)
    · by_cases z : v2 = 0
      · exact rl_xgood hc (br_t rfl ⟨hi, br_f zo (br_t z ⟨hi, nm_e (rl_ygood hc (br_f (by decide) ⟨hi, br_f zo (br_t z ⟨hi, nm_e ⟨rfl, rl_in H⟩⟩)⟩))⟩)⟩)
      · exact rl_xgood hc (br_t rfl ⟨hi, br_f zo (br_f z ⟨hi, nm_e (rl_ygood hc (br_f (by decide) ⟨hi, br_f zo (br_f z ⟨hi, nm_e ⟨rfl, rl_in H⟩⟩)⟩))⟩)⟩)
theorem i_vc_breadth {k : Nat} {u : SX} {v : SY} (I : i_Rel k u v) (hk : k + 4 ≤ 2048) (v1 : Int32) : wpX_breadth (fun r u' => wpY_breadth (fun r' => r' = r ∧ i_Rel (k + 4) u' v) v v1) u v1 := by
  refine rl_el (Pr := fun u v => wpX_breadth (fun r u' => wpY_breadth (fun r' => r' = r ∧ i_Rel (k + 4) u' v) v v1) u v1) ?_ I
  intro fw lv ch gr be ow kt kv ol hd ln tq vq gq lo nd dp bs br bz ci fl gs ty vy gy K L pa H
  rcases rl_cl v1 with h | ⟨c, hc, rfl⟩
  · unfold wpX_breadth wpY_breadth
    exact rl_xbad h (br_f (by decide) (rl_ybad h (br_t rfl ⟨rfl, rl_in H⟩)))
  · refine bx_breadth H.2.2.2.2 H.2.2.1 hc fun br' bz' ci' => ?_
    exact by_breadth hc H.2.2.1 H.2.2.2.1 ⟨rfl, rl_in H⟩
theorem i_vc_take {k : Nat} {u : SX} {v : SY} (I : i_Rel k u v) (hk : k + 4 ≤ 2048) (v1 : Int32) : wpX_take (fun r u' => wpY_take (fun r' v' => r' = r ∧ i_Rel (k + 4) u' v') v v1) u v1 := by
  refine rl_el (Pr := fun u v => wpX_take (fun r u' => wpY_take (fun r' v' => r' = r ∧ i_Rel (k + 4) u' v') v v1) u v1) ?_ I
  intro fw lv ch gr be ow kt kv ol hd ln tq vq gq lo nd dp bs br bz ci fl gs ty vy gy K L pa H
  rcases rl_cl v1 with h | ⟨c, hc, rfl⟩
  · unfold wpX_take wpY_take
    exact rl_xbad h (br_f (by decide) (rl_ybad h (br_t rfl ⟨rfl, rl_in H⟩)))
  · have hi : vp_in (nI c) 4 := vp_in_nI hc (by decide)
    have hcc : (nI c).toNatClampNeg = c := nI_clamp (by omega)
    by_cases zo : ol (nI c).toNatClampNeg = 0
    · unfold wpX_take wpY_take
      exact rl_xgood hc (br_t rfl ⟨hi, br_t zo (rl_ygood hc (br_f (by decide) ⟨hi, br_t zo ⟨rfl, rl_in H⟩⟩))⟩)
    · by_cases z : ln c = 0
      · have z' : ln (nI c).toNatClampNeg = 0 := by rw [hcc]; exact z
        unfold wpX_take wpY_take
        exact rl_xgood hc (br_t rfl ⟨hi, br_f zo ⟨hi, br_t z' (rl_ygood hc (br_f (by decide) ⟨hi, br_f zo ⟨hi, br_t z' ⟨rfl, rl_in H⟩⟩⟩))⟩⟩)
      · have z' : ¬ ln (nI c).toNatClampNeg = 0 := by rw [hcc]; exact z
        obtain ⟨h, l, hh, hl, eh, el, qt, qv, qg⟩ := qu_first H.2.1 hc z
        have hx : nI c * 12 + hd (nI c).toNatClampNeg = nI (c * 12 + h) := by
          rw [hcc, eh, qu_12, nI_add]
        have hy : 12 * nI c = nI (c * 12) := qu_21 c
        have hln : upd ln (nI c).toNatClampNeg (ln (nI c).toNatClampNeg - 1) = upd ln c (nI l) := by
          rw [hcc, el, nI_pred]
        have hend : ∀ z0 : Int32, z0 = nI ((h + 1) % 12) → ∃ n53 : Nat, wY_take_53 (fun r' v' => r' = vq (c * 12 + h) ∧ i_Rel (k + 4) (nI K, fw, lv, ch, gr, be, ow, kt, kv, ol, upd hd c z0, upd ln c (nI l), tq, vq, gq, lo, nd, dp, bs, br, bz, ci) v') (nI c) (vy (c * 12)) (nI K) n53 (nI (c * 12)) fl gs ow ty vy gy (upd ln c (nI l)) lo ol kt kv := by
          intro z0 ez
          subst ez
          refine ⟨l + 1, qu_t53 hc hl pk_us (fun ty' vy' gy' s1 s2 s3 => ⟨qv.symm, rl_in ⟨H.1, ?_, H.2.2⟩⟩) l 0 ty vy gy (by omega) qu_sh_0 qu_sh_0 qu_sh_0⟩
          intro c' hc'
          obtain ⟨h', l', hh', hl', eh', el', qt', qv', qg'⟩ := H.2.1 c' hc'
          by_cases zc : c' = c
          · subst zc
            have e1 : h' = h := nb_inj (eh'.symm.trans eh) (by omega) (by omega)
            have e2 : l' = l + 1 := nb_inj (el'.symm.trans el) (by omega) (by omega)
            subst e1 e2
            exact ⟨(h' + 1) % 12, l, Nat.mod_lt _ (by decide), by omega, pk_us, pk_us, qu_pop s1 qt', qu_pop s2 qv', qu_pop s3 qg'⟩
          · exact ⟨h', l', hh', hl', (pk_un zc).trans eh', (pk_un zc).trans el', qu_poth zc hl' (by omega) s1 qt', qu_poth zc hl' (by omega) s2 qv', qu_poth zc hl' (by omega) s3 qg'⟩
        have hY : ∀ z0 : Int32, z0 = nI ((h + 1) % 12) → wpY_take (fun r' v' => r' = vq (c * 12 + h) ∧ i_Rel (k + 4) (nI K, fw, lv, ch, gr, be, ow, kt, kv, ol, upd hd c z0, upd ln c (nI l), tq, vq, gq, lo, nd, dp, bs, br, bz, ci) v') (nI K, fl, gs, ow, ty, vy, gy, ln, lo, ol, kt, kv) (nI c) := by
          intro z0 ez
          unfold wpY_take
          exact rl_ygood hc (br_f (by decide) ⟨hi, br_f zo ⟨hi, br_f z' ⟨by rw [hy]; exact vp_in_nI (by omega) (by decide), nm_r (e' := vy (c * 12)) (by rw [hy, nI_clamp (by omega)]) ⟨hi, hi, nm_r (e' := upd ln c (nI l)) hln (nm_r hy (hend z0 ez))⟩⟩⟩⟩)
        have hbody : ∀ (post : Int32 → SX → Prop) (z0 : Int32), post (vq (c * 12 + h)) (nI K, fw, lv, ch, gr, be, ow, kt, kv, ol, upd hd c z0, upd ln c (nI l), tq, vq, gq, lo, nd, dp, bs, br, bz, ci) → wX_take_75 post (nI c) (vq (c * 12 + h)) z0 (nI c) (nI K) fw lv ch gr be ow kt kv ol hd ln tq vq gq lo nd dp bs br bz ci := by
          intro post z0 hp
          exact And.intro hi (nm_r (e' := upd hd c z0) (by rw [hcc]) (And.intro hi (And.intro hi (nm_r (e' := upd ln c (nI l)) hln hp))))
        unfold wpX_take
        refine rl_xgood hc (br_t rfl ⟨hi, br_f zo ⟨hi, br_f z' ⟨hi, by rw [hx]; exact vp_in_nI (by omega) (by decide), nm_r (e' := vq (c * 12 + h)) (by rw [hx, nI_clamp (by omega)]) ⟨hi, ?_⟩⟩⟩⟩)
        have hh1 : hd (nI c).toNatClampNeg + 1 = nI (h + 1) := by
          rw [hcc, eh, nI_1]
        by_cases z12 : h + 1 = 12
        · refine br_t (by rw [hh1, z12]; rfl) (hbody _ 0 (hY 0 ?_))
          rw [z12]
          rfl
        · refine br_f (by rw [hh1]; exact fun e => z12 (nb_inj (b := 12) e (by omega) (by decide))) ⟨hi, hbody _ _ (hY _ ?_)⟩
          rw [hh1]
          exact congrArg nI (by omega)
end
section
/-! kept values, publish, reached -/
section KJ
variable {kc fw : Int32} {lv ch gr be ow kt kv ol hd ln tq vq gq lo nd dp bs br bz ci : Nat → Int32}
variable {fl gs ty vy gy : Nat → Int32} {L : Nat → List (Nat × Nat)} {pa : Nat → Nat}
theorem kj_loop {K f : Nat} (hf : cd_fil f) (hK : kp_ok K kt) : ∀ (d i : Nat) (x : Int32), i + d = K → ∃ r : Int32, (∀ (post : Int32 → SX → Prop) (lv : Nat → Int32), (∀ lv : Nat → Int32, post r (nI K, fw, lv, ch, gr, be, ow, kt, kv, ol, hd, ln, tq, vq, gq, lo, nd, dp, bs, br, bz, ci)) → wX_kept_17 post (nI f) (d + 1) x (nI i) (nI K) fw lv ch gr be ow kt kv ol hd ln tq vq gq lo nd dp bs br bz ci) ∧ (∀ post : Int32 → Prop, post r → wY_kept_14 post (nI f) (nI K) fl gs ow ty vy gy ln lo ol kt kv (d + 1) x (nI i)) := by
  have h8 := hK.1
  intro d
  induction d with
  | zero =>
    intro i x hi
    have h : nI K ≤ nI i := nI_le (by omega) (by omega)
    exact ⟨x, fun post lv hp => br_t h (hp lv), fun post hp => br_t h hp⟩
  | succ d ih =>
    intro i x hi
    have h : ¬ nI K ≤ nI i := nI_ge (by omega) (by omega)
    have hin : vp_in (nI i) 8 := vp_in_nI (by omega) (by decide)
    obtain ⟨t, ht, et⟩ := hK.2.2 i (by omega)
    have hc : kt (nI i).toNatClampNeg = nI t := by
      rw [nI_clamp (by omega)]
      exact et
    by_cases hfit : cd_fit f t
    · obtain ⟨r, hX, hY⟩ := ih (i + 1) (x + 1) (by omega)
      refine ⟨r, fun post lv hp => br_f h (And.intro hin ?_), fun post hp => br_f h (And.intro hin ?_)⟩
      · rw [hc]
        exact xc_matches (fun _ _ _ _ _ _ _ lev' => br_f (by decide) (nm_e (nm_r (nI_1 i) (hX post lev' hp)))) fun hno _ => absurd hfit (hno f t hf ht rfl rfl)
      · rw [hc]
        exact yc_fits hf.1.1 hf.1.2.1 ht.1.1 ht.1.2.1 (fun _ => br_f (by decide) (nm_e (nm_r (nI_1 i) (hY post hp)))) fun hno => absurd hfit hno
    · obtain ⟨r, hX, hY⟩ := ih (i + 1) x (by omega)
      refine ⟨r, fun post lv hp => br_f h (And.intro hin ?_), fun post hp => br_f h (And.intro hin ?_)⟩
      · rw [hc]
        refine xc_matches (fun f' t' hf' ht' ef et hfit' lev' => ?_) fun _ lev' => br_t rfl (nm_r (nI_1 i) (hX post lev' hp))
        have e1 := nb_inj ef (by have := hf.1.2.1; omega) (by have := hf'.1.2.1; omega)
        have e2 := nb_inj et (by have := ht.1.2.1; omega) (by have := ht'.1.2.1; omega)
        subst e1 e2
        exact absurd hfit' hfit
      · rw [hc]
        exact yc_fits hf.1.1 hf.1.2.1 ht.1.1 ht.1.2.1 (fun hy => absurd hy hfit) fun _ => br_t rfl (nm_r (nI_1 i) (hY post hp))
theorem rj_loop {t : Nat} (hL : tr_L L) (Y : ys_ok fl gs ow L) (ht : cd_top t) (hB : wk_B L (fun f => cd_fit f t) bs) : ∀ (d c : Nat) (x : Int32), c + d = 4 → ∃ r : Int32, (∀ post : Int32 → SX → Prop, post r (kc, fw, lv, ch, gr, be, ow, kt, kv, ol, hd, ln, tq, vq, gq, lo, nd, dp, bs, br, bz, ci) → wX_reached_22 post kc fw lv ch gr be ow kt kv ol hd ln tq vq gq lo nd dp bs br bz ci (d + 1) x (nI c)) ∧ (∀ post : Int32 → Prop, post r → wY_reached_14 post (nI t) kc fl gs ow ty vy gy ln lo ol kt kv (d + 1) x (nI c)) := by
  intro d
  induction d with
  | zero =>
    intro c x hc
    have h : (4 : Int32) ≤ nI c := nI_le (a := 4) (by omega) (by omega)
    exact ⟨x, fun post hp => br_t h hp, fun post hp => br_t h hp⟩
  | succ d ih =>
    intro c x hcd
    have hc : c < 4 := by omega
    have h : ¬ (4 : Int32) ≤ nI c := nI_ge (b := 4) (by omega) (by omega)
    have hin : vp_in (nI c) 4 := vp_in_nI hc (by decide)
    have hb := hB c hc
    have hl2 : ∀ e, e ∈ L c → e.2 ≤ 2 := fun e he => ((hL c hc).2.2 e he).2
    have hcc : (nI c).toNatClampNeg = c := nI_clamp (by omega)
    rcases hb.2 with e1 | ⟨e, he, hs, eb⟩
    · obtain ⟨r, hX, hY⟩ := ih (c + 1) x (by omega)
      refine ⟨r, fun post hp => br_f h (And.intro hin (br_t ?_ (nm_r (nI_1 c) (hX post hp)))), fun post hp => br_f h (ys_greatest hc hL Y ht.1.1 ht.1.2.1 fun b' hb' => ?_)⟩
      · rw [hcc, e1]
        decide
      · rcases wk_same hl2 hb hb' with ⟨_, e2⟩ | ⟨g, g2, e3, e4⟩
        · exact br_t e2 (nm_r (nI_1 c) (hY post hp))
        · exact absurd (e3.symm.trans e1) (nb_ne_m1 (by omega))
    · have h2 := hl2 e he
      obtain ⟨r, hX, hY⟩ := ih (c + 1) (x ||| ((1 : Int32) <<< (nI c &&& 31))) (by omega)
      refine ⟨r, fun post hp => br_f h (And.intro hin (br_f ?_ (nm_e (nm_r (nI_1 c) (hX post hp))))), fun post hp => br_f h (ys_greatest hc hL Y ht.1.1 ht.1.2.1 fun b' hb' => ?_)⟩
      · rw [hcc, eb]
        exact nI_pos (by omega)
      · rcases wk_same hl2 hb hb' with ⟨e3, _⟩ | ⟨g, g2, e3, e4⟩
        · exact absurd (eb.symm.trans e3) (nb_ne_m1 (by omega))
        · exact br_f (by rw [e4]; exact nb_ne_m4 (by omega)) (nm_e (nm_r (nI_1 c) (hY post hp)))
theorem pj_loop {t : Nat} {v g : Int32} (hL : tr_L L) (Y : ys_ok fl gs ow L) (ht : cd_top t) (hB : wk_B L (fun f => cd_fit f t) bs) : ∀ (d c : Nat) (x : Int32) (ln lo tq vq gq ty vy gy : Nat → Int32), c + d = 4 → qu_ok hd ln tq vq gq ty vy gy → ∃ (r : Int32) (ln' lo' tq' vq' gq' ty' vy' gy' : Nat → Int32), qu_ok hd ln' tq' vq' gq' ty' vy' gy' ∧
    (∀ post : Int32 → SX → Prop, post r (kc, fw, lv, ch, gr, be, ow, kt, kv, ol, hd, ln', tq', vq', gq', lo', nd, dp, bs, br, bz, ci) → wX_publish_35 post (nI t) v g (d + 1) x (nI c) kc fw lv ch gr be ow kt kv ol hd ln tq vq gq lo nd dp bs br bz ci) ∧
    (∀ post : Int32 → SY → Prop, post r (kc, fl, gs, ow, ty', vy', gy', ln', lo', ol, kt, kv) → wY_publish_25 post (nI t) v g (d + 1) x (nI c) kc fl gs ow ty vy gy ln lo ol kt kv) := by
  intro d
  induction d with
  | zero =>
    intro c x ln lo tq vq gq ty vy gy hc Q
    have h : (4 : Int32) ≤ nI c := nI_le (a := 4) (by omega) (by omega)
    exact ⟨x, ln, lo, tq, vq, gq, ty, vy, gy, Q, fun post hp => br_t h hp, fun post hp => br_t h hp⟩
  | succ d ih =>
    intro c x ln lo tq vq gq ty vy gy hcd Q
    have hc : c < 4 := by omega
    have h : ¬ (4 : Int32) ≤ nI c := nI_ge (b := 4) (by omega) (by omega)
    have hin : vp_in (nI c) 4 := vp_in_nI hc (by decide)
    have hb := hB c hc
    have hl2 : ∀ e, e ∈ L c → e.2 ≤ 2 := fun e he => ((hL c hc).2.2 e he).2
    have hcc : (nI c).toNatClampNeg = c := nI_clamp (by omega)
    rcases hb.2 with e1 | ⟨e, he, hs, eb⟩
    · obtain ⟨r, ln', lo', tq', vq', gq', ty', vy', gy', Q', hX, hY⟩ := ih (c + 1) x ln lo tq vq gq ty vy gy (by omega) Q
      refine ⟨r, ln', lo', tq', vq', gq', ty', vy', gy', Q', fun post hp => br_f h (And.intro hin (br_t ?_ (nm_r (nI_1 c) (hX post hp)))), fun post hp => br_f h (ys_greatest hc hL Y ht.1.1 ht.1.2.1 fun b' hb' => ?_)⟩
      · rw [hcc, e1]
        decide
      · rcases wk_same hl2 hb hb' with ⟨_, e2⟩ | ⟨g, g2, e3, e4⟩
        · exact br_t e2 (nm_r (nI_1 c) (hY post hp))
        · exact absurd (e3.symm.trans e1) (nb_ne_m1 (by omega))
    · have h2 := hl2 e he
      obtain ⟨m, hm⟩ : ∃ m : Int32, (nI e.2 ≤ g ∧ m = nI e.2) ∨ (¬ nI e.2 ≤ g ∧ m = g) := by
        by_cases z : nI e.2 ≤ g
        · exact ⟨_, Or.inl ⟨z, rfl⟩⟩
        · exact ⟨_, Or.inr ⟨z, rfl⟩⟩
      obtain ⟨r0, ln1, lo1, tq1, vq1, gq1, ty1, vy1, gy1, Q1, hX1, hY1⟩ := qu_send (ol := ol) (lo := lo) hc (nI t) v m Q
      have hbv : bs (nI c).toNatClampNeg = nI e.2 := by
        rw [hcc]
        exact eb
      have hg4 : ∀ b', wk_b (-4) (L c) (fun f => cd_fit f t) b' → b' = nI e.2 := by
        intro b' hb'
        rcases wk_same hl2 hb hb' with ⟨e3, _⟩ | ⟨g, g2, e3, e4⟩
        · exact absurd (eb.symm.trans e3) (nb_ne_m1 (by omega))
        · rw [e4, ← e3, eb]
      obtain ⟨x', hx'⟩ : ∃ x' : Int32, (r0 = 0 ∧ x' = x) ∨ (¬ r0 = 0 ∧ x' = x + 1) := by
        by_cases z : r0 = 0
        · exact ⟨_, Or.inl ⟨z, rfl⟩⟩
        · exact ⟨_, Or.inr ⟨z, rfl⟩⟩
      obtain ⟨r, ln', lo', tq', vq', gq', ty', vy', gy', Q', hX, hY⟩ := ih (c + 1) x' ln1 lo1 tq1 vq1 gq1 ty1 vy1 gy1 (by omega) Q1
      refine ⟨r, ln', lo', tq', vq', gq', ty', vy', gy', Q', fun post hp => br_f h (And.intro hin ?_), fun post hp => br_f h (ys_greatest hc hL Y ht.1.1 ht.1.2.1 fun b' hb' => ?_)⟩
      · have hsend : wX_publish_73 post (wX_publish_35 post (nI t) v g (d + 1)) (nI t) v g x (nI c) m kc fw lv ch gr be ow kt kv ol hd ln tq vq gq lo nd dp bs br bz ci := by
          unfold wX_publish_73
          refine hX1 _ _ _ _ _ _ _ _ _ _ _ _ _ _ _ _ ?_
          rcases hx' with ⟨z, ex⟩ | ⟨z, ex⟩
          · rw [ex] at hX
            exact br_t z (nm_r (nI_1 c) (hX post hp))
          · rw [ex] at hX
            exact br_f z (nm_e (nm_r (nI_1 c) (hX post hp)))
        rw [hbv]
        refine br_f (nI_pos (by omega)) (And.intro hin ?_)
        rcases hm with ⟨z, em⟩ | ⟨z, em⟩
        · rw [em] at hsend
          exact br_t z (And.intro hin hsend)
        · rw [em] at hsend
          exact br_f z hsend
      · have hsend : wY_publish_64 post (wY_publish_25 post (nI t) v g (d + 1)) (nI t) v g x (nI c) m v (nI t) (nI c) kc fl gs ow ty vy gy ln lo ol kt kv := by
          unfold wY_publish_64
          refine hY1 _ _ _ _ _ _ _ ?_
          rcases hx' with ⟨z, ex⟩ | ⟨z, ex⟩
          · rw [ex] at hY
            exact br_t z (nm_r (nI_1 c) (hY post hp))
          · rw [ex] at hY
            exact br_f z (nm_e (nm_r (nI_1 c) (hY post hp)))
        rw [hg4 b' hb']
        refine br_f (nb_ne_m4 (by omega)) ?_
        rcases hm with ⟨z, em⟩ | ⟨z, em⟩
        · by_cases z2 : g ≤ nI e.2
          · have e5 : nI e.2 = g := Int32.le_antisymm z z2
            rw [em, e5] at hsend
            exact br_t z2 hsend
          · rw [em] at hsend
            exact br_f z2 hsend
        · rw [em] at hsend
          exact br_t (Int32.le_of_lt (Int32.not_le.mp z)) hsend
end KJ
theorem i_vc_kept {k : Nat} {u : SX} {v : SY} (I : i_Rel k u v) (hk : k + 4 ≤ 2048) (v1 : Int32) : wpX_kept (fun r u' => wpY_kept (fun r' => r' = r ∧ i_Rel (k + 4) u' v) v v1) u v1 := by
  refine rl_el (Pr := fun u v => wpX_kept (fun r u' => wpY_kept (fun r' => r' = r ∧ i_Rel (k + 4) u' v) v v1) u v1) ?_ I
  intro fw lv ch gr be ow kt kv ol hd ln tq vq gq lo nd dp bs br bz ci fl gs ty vy gy K L pa H
  unfold wpX_kept
  refine xc_spreadFilter (fun f hf ef lev' _ => ?_) fun h lev' => ?_
  · have hn := cd_nl_le hf.1.2.1
    refine br_t (nI_pos' (by omega)) ?_
    rw [ef]
    obtain ⟨r, hX, hY⟩ := kj_loop (fw := fw) (ch := ch) (gr := gr) (be := be) (ow := ow) (kv := kv) (ol := ol) (hd := hd) (ln := ln) (tq := tq) (vq := vq) (gq := gq) (lo := lo) (nd := nd) (dp := dp) (bs := bs) (br := br) (bz := bz) (ci := ci) (fl := fl) (gs := gs) (ty := ty) (vy := vy) (gy := gy) hf H.1 K 0 0 (by omega)
    refine ⟨K + 1, hX _ lev' fun lev2 => ?_⟩
    unfold wpY_kept
    exact yc_isFilter (fun f' _ _ => br_f (by decide) ⟨K + 1, hY _ ⟨rfl, rl_in H⟩⟩) fun h => absurd rfl (h f hf)
  · refine br_f (by decide) ?_
    unfold wpY_kept
    exact yc_isFilter (fun f' hf' ef' => absurd ef' (h f' hf')) fun _ => br_t rfl ⟨rfl, rl_in H⟩
theorem i_vc_reached {k : Nat} {u : SX} {v : SY} (I : i_Rel k u v) (hk : k + 4 ≤ 2048) (v1 : Int32) : wpX_reached (fun r u' => wpY_reached (fun r' => r' = r ∧ i_Rel (k + 4) u' v) v v1) u v1 := by
  refine rl_el (Pr := fun u v => wpX_reached (fun r u' => wpY_reached (fun r' => r' = r ∧ i_Rel (k + 4) u' v) v v1) u v1) ?_ I
  intro fw lv ch gr be ow kt kv ol hd ln tq vq gq lo nd dp bs br bz ci fl gs ty vy gy K L pa H
  unfold wpX_reached
  refine xc_spreadTopic (fun t ht et lev' hl => ?_) fun h lev' => ?_
  · have hn := cd_nl_le ht.1.2.1
    refine br_t (nI_pos' (by omega)) (wk_walk H.2.2.1 H.2.2.2.2 ht hl fun fw' nd' dp' bs' hB => ?_)
    obtain ⟨r, hX, hY⟩ := rj_loop (kc := nI K) (fw := fw') (lv := lev') (ch := ch) (gr := gr) (be := be) (kt := kt) (kv := kv) (ol := ol) (hd := hd) (ln := ln) (tq := tq) (vq := vq) (gq := gq) (lo := lo) (nd := nd') (dp := dp') (br := br) (bz := bz) (ci := ci) (ty := ty) (vy := vy) (gy := gy) H.2.2.1 H.2.2.2.1 ht hB 4 0 0 (by decide)
    refine ⟨5, hX _ ?_⟩
    rw [et]
    unfold wpY_reached
    exact yc_isTopic (fun t' _ _ => br_f (by decide) ⟨5, hY _ ⟨rfl, rl_in H⟩⟩) fun h => absurd rfl (h t ht)
  · refine br_f (by decide) ?_
    unfold wpY_reached
    exact yc_isTopic (fun t' ht' et' => absurd et' (h t' ht')) fun _ => br_t rfl ⟨rfl, rl_in H⟩
theorem i_vc_publish {k : Nat} {u : SX} {v : SY} (I : i_Rel k u v) (hk : k + 4 ≤ 2048) (v1 : Int32) (v2 : Int32) (v3 : Int32) : wpX_publish (fun r u' => wpY_publish (fun r' v' => r' = r ∧ i_Rel (k + 4) u' v') v v1 v2 v3) u v1 v2 v3 := by
  refine rl_el (Pr := fun u v => wpX_publish (fun r u' => wpY_publish (fun r' v' => r' = r ∧ i_Rel (k + 4) u' v') v v1 v2 v3) u v1 v2 v3) ?_ I
  intro fw lv ch gr be ow kt kv ol hd ln tq vq gq lo nd dp bs br bz ci fl gs ty vy gy K L pa H
  unfold wpX_publish
  refine xc_spreadTopic (fun t ht et lev' hl => ?_) fun h lev' => ?_
  · have hn := cd_nl_le ht.1.2.1
    refine br_f (nI_pos (by omega)) ?_
    by_cases z0 : v3 < 0
    · refine br_t z0 ?_
      unfold wpY_publish
      exact yc_isTopic (fun t' _ _ => br_f (by decide) (br_t z0 ⟨rfl, rl_in H⟩)) fun h => absurd et (h t ht)
    · refine br_f z0 ?_
      by_cases z2 : v3 ≤ 2
      · refine br_t z2 (wk_walk H.2.2.1 H.2.2.2.2 ht hl fun fw' nd' dp' bs' hB => ?_)
        obtain ⟨r, ln', lo', tq', vq', gq', ty', vy', gy', Q', hX, hY⟩ := pj_loop (kc := nI K) (fw := fw') (lv := lev') (ch := ch) (gr := gr) (be := be) (kt := kt) (kv := kv) (ol := ol) (nd := nd') (dp := dp') (br := br) (bz := bz) (ci := ci) (v := v2) (g := v3) H.2.2.1 H.2.2.2.1 ht hB 4 0 0 ln lo tq vq gq ty vy gy (by decide) H.2.1
        rw [et]
        refine ⟨5, hX _ ?_⟩
        unfold wpY_publish
        exact yc_isTopic (fun t' _ _ => br_f (by decide) (br_f z0 (br_t z2 ⟨5, hY _ ⟨rfl, rl_in ⟨H.1, Q', H.2.2⟩⟩⟩))) fun h => absurd rfl (h t ht)
      · refine br_f z2 ?_
        unfold wpY_publish
        exact yc_isTopic (fun t' _ _ => br_f (by decide) (br_f z0 (br_f z2 ⟨rfl, rl_in H⟩))) fun h => absurd et (h t ht)
  · refine br_t (by decide) ?_
    unfold wpY_publish
    exact yc_isTopic (fun t' ht' et' => absurd et' (h t' ht')) fun _ => br_t rfl ⟨rfl, rl_in H⟩
theorem i_vc_keep {k : Nat} {u : SX} {v : SY} (I : i_Rel k u v) (hk : k + 4 ≤ 2048) (v1 : Int32) (v2 : Int32) : wpX_keep (fun r u' => wpY_keep (fun r' v' => r' = r ∧ i_Rel (k + 4) u' v') v v1 v2) u v1 v2 := by
  refine rl_el (Pr := fun u v => wpX_keep (fun r u' => wpY_keep (fun r' v' => r' = r ∧ i_Rel (k + 4) u' v') v v1 v2) u v1 v2) ?_ I
  intro fw lv ch gr be ow kt kv ol hd ln tq vq gq lo nd dp bs br bz ci fl gs ty vy gy K L pa H
  unfold wpX_keep
  refine xc_spreadTopic (fun t ht et lev' _ => ?_) fun h lev' => ?_
  · have hn := cd_nl_le ht.1.2.1
    have h8 := H.1.1
    obtain ⟨p, A⟩ := kp_ex H.1.2.1 v1
    have hpK := A.1
    refine br_t (nI_pos' (by omega)) (kp_xplace h8 A ?_)
    by_cases za : p < K ∧ kt p = v1
    · have hin : vp_in (nI p) 8 := vp_in_nI (by omega) (by decide)
      have hpc : (nI p).toNatClampNeg = p := nI_clamp (by omega)
      have h1 : ¬ nI K ≤ nI p := nI_ge (by omega) (by omega)
      have h2 : kt (nI p).toNatClampNeg = v1 := by rw [hpc]; exact za.2
      refine br_f h1 (And.intro hin (br_t h2 (And.intro hin (nm_r (e' := upd kv p v2) (by rw [hpc]) ?_))))
      unfold wpY_keep
      exact yc_isTopic (fun t' _ _ => br_f (by decide) (kp_yplace h8 A (br_f h1 (And.intro hin (br_t h2 (And.intro hin (nm_r (e' := upd kv p v2) (by rw [hpc]) ⟨rfl, rl_in H⟩))))))) fun h => absurd et (h t ht)
    · have hgo : ∀ P1 : Prop, P1 → ((nI K ≤ nI p → P1) ∧ (¬ nI K ≤ nI p → (vp_in (nI p) 8 ∧ ((kt (nI p).toNatClampNeg = v1 → False) ∧ (¬ kt (nI p).toNatClampNeg = v1 → P1))))) := by
        intro P1 h
        refine ⟨fun _ => h, fun hle => ?_⟩
        have hp1 : p < K := by
          by_cases z : p < K
          · exact z
          · exact absurd (nI_le (by omega) (by omega)) hle
        refine ⟨vp_in_nI (by omega) (by decide), fun e => za ⟨hp1, ?_⟩, fun _ => h⟩
        rw [nI_clamp (by omega)] at e
        exact e
      have hne : p < K → kt p ≠ v1 := fun h1 h2 => za ⟨h1, h2⟩
      by_cases z8 : K = 8
      · subst z8
        refine ⟨fun hle => br_t rfl ?_, fun hle => ⟨((hgo True trivial).2 hle).1, fun e => absurd (((hgo True trivial).2 hle).2.1 e) id, fun _ => br_t rfl ?_⟩⟩
        · unfold wpY_keep
          exact yc_isTopic (fun t' _ _ => br_f (by decide) (kp_yplace h8 A (br_t hle (br_t rfl ⟨rfl, rl_in H⟩)))) fun h => absurd et (h t ht)
        · rename_i hnk
          unfold wpY_keep
          exact yc_isTopic (fun t' _ _ => br_f (by decide) (kp_yplace h8 A (br_f hle (And.intro ((hgo True trivial).2 hle).1 (br_f hnk (br_t rfl ⟨rfl, rl_in H⟩)))))) fun h => absurd et (h t ht)
      · have hK8 : ¬ nI K = 8 := fun e => z8 (nb_inj (b := 8) e (by omega) (by decide))
        obtain ⟨d, rfl⟩ : ∃ d, K = p + d := ⟨K - p, by omega⟩
        obtain ⟨kt', kv', h1, h2, h3, h4, hX, hY⟩ := kp_keep (p := p) (K := p + d) (t := v1) (v := v2) (fw := fw) (lv := lev') (ch := ch) (gr := gr) (be := be) (ow := ow) (ol := ol) (hd := hd) (ln := ln) (tq := tq) (vq := vq) (gq := gq) (lo := lo) (nd := nd) (dp := dp) (bs := bs) (br := br) (bz := bz) (ci := ci) (fl := fl) (gs := gs) (ty := ty) (vy := vy) (gy := gy) (by omega) d kt kv (Nat.le_refl _)
        have hOK := kp_ins H.1 (by omega) A ⟨t, ht, et⟩ hne h1 h2 h3
        refine ⟨fun hle => br_f hK8 ⟨d + 1, hX _ ?_⟩, fun hle => ⟨((hgo True trivial).2 hle).1, fun e => absurd (((hgo True trivial).2 hle).2.1 e) id, fun hnk => br_f hK8 ⟨d + 1, hX _ ?_⟩⟩⟩
        · unfold wpY_keep
          exact yc_isTopic (fun t' _ _ => br_f (by decide) (kp_yplace h8 A (br_t hle (br_f hK8 ⟨d + 1, hY _ ⟨rfl, rl_in ⟨hOK, H.2⟩⟩⟩)))) fun h => absurd et (h t ht)
        · unfold wpY_keep
          exact yc_isTopic (fun t' _ _ => br_f (by decide) (kp_yplace h8 A (br_f hle (And.intro ((hgo True trivial).2 hle).1 (br_f hnk (br_f hK8 ⟨d + 1, hY _ ⟨rfl, rl_in ⟨hOK, H.2⟩⟩⟩)))))) fun h => absurd et (h t ht)
  · refine br_f (by decide) ?_
    unfold wpY_keep
    exact yc_isTopic (fun t' ht' et' => absurd et' (h t' ht')) fun _ => br_t rfl ⟨rfl, rl_in H⟩
theorem i_vc_forget {k : Nat} {u : SX} {v : SY} (I : i_Rel k u v) (hk : k + 4 ≤ 2048) (v1 : Int32) : wpX_forget (fun r u' => wpY_forget (fun r' v' => r' = r ∧ i_Rel (k + 4) u' v') v v1) u v1 := by
  refine rl_el (Pr := fun u v => wpX_forget (fun r u' => wpY_forget (fun r' v' => r' = r ∧ i_Rel (k + 4) u' v') v v1) u v1) ?_ I
  intro fw lv ch gr be ow kt kv ol hd ln tq vq gq lo nd dp bs br bz ci fl gs ty vy gy K L pa H
  unfold wpX_forget
  refine xc_spreadTopic (fun t ht et lev' _ => ?_) fun h lev' => ?_
  · have hn := cd_nl_le ht.1.2.1
    have h8 := H.1.1
    obtain ⟨p, A⟩ := kp_ex H.1.2.1 v1
    have hpK := A.1
    refine br_t (nI_pos' (by omega)) (kp_xplace h8 A ?_)
    by_cases zp : p = K
    · refine br_t (nI_le (by omega) (by omega)) ?_
      unfold wpY_forget
      exact yc_isTopic (fun t' _ _ => br_f (by decide) (kp_yplace h8 A (br_t (congrArg nI zp) ⟨rfl, rl_in H⟩))) fun h => absurd et (h t ht)
    · have hin : vp_in (nI p) 8 := vp_in_nI (by omega) (by decide)
      have hpc : (nI p).toNatClampNeg = p := nI_clamp (by omega)
      have h1 : ¬ nI K ≤ nI p := nI_ge (by omega) (by omega)
      have h1' : ¬ nI p = nI K := fun e => zp (nb_inj e (by omega) (by omega))
      by_cases za : kt p = v1
      · have h2 : kt (nI p).toNatClampNeg = v1 := by rw [hpc]; exact za
        obtain ⟨K1, rfl⟩ : ∃ K1, K = K1 + 1 := ⟨K - 1, by omega⟩
        obtain ⟨kt', kv', hs, hX, hY⟩ := kp_forget (K := K1) (fw := fw) (lv := lev') (ch := ch) (gr := gr) (be := be) (ow := ow) (ol := ol) (hd := hd) (ln := ln) (tq := tq) (vq := vq) (gq := gq) (lo := lo) (nd := nd) (dp := dp) (bs := bs) (br := br) (bz := bz) (ci := ci) (fl := fl) (gs := gs) (ty := ty) (vy := vy) (gy := gy) (by omega) (K1 - p) p kt kv (by omega)
        have hOK := kp_del H.1 (by omega) hs
        refine br_f h1 (And.intro hin (br_t h2 (nm_r (nI_pred K1) ⟨K1 - p + 1, hX _ ?_⟩)))
        unfold wpY_forget
        exact yc_isTopic (fun t' _ _ => br_f (by decide) (kp_yplace h8 A (br_f h1' (And.intro hin (br_t h2 (nm_r (nI_pred K1) ⟨K1 - p + 1, hY _ ⟨rfl, rl_in ⟨hOK, H.2⟩⟩⟩)))))) fun h => absurd et (h t ht)
      · have h2 : ¬ kt (nI p).toNatClampNeg = v1 := by rw [hpc]; exact za
        refine br_f h1 (And.intro hin (br_f h2 ?_))
        unfold wpY_forget
        exact yc_isTopic (fun t' _ _ => br_f (by decide) (kp_yplace h8 A (br_f h1' (And.intro hin (br_f h2 ⟨rfl, rl_in H⟩))))) fun h => absurd et (h t ht)
  · refine br_f (by decide) ?_
    unfold wpY_forget
    exact yc_isTopic (fun t' ht' et' => absurd et' (h t' ht')) fun _ => br_t rfl ⟨rfl, rl_in H⟩
end
section
/-! subscribe and unsubscribe -/
theorem ys_uni {l : List (Nat × Nat)} {i j f g g' : Nat} (hn : (l.map Prod.fst).Nodup) (h1 : l[i]? = some (f, g)) (h2 : l[j]? = some (f, g')) : i = j := by
  have e1 : (l.map Prod.fst)[i]? = some f := by rw [List.getElem?_map, h1]; rfl
  have e2 : (l.map Prod.fst)[j]? = some f := by rw [List.getElem?_map, h2]; rfl
  exact (List.getElem?_inj (by rw [List.length_map]; exact ys_lt h1) hn).mp (e1.trans e2.symm)
section SJ
variable {kc fw : Int32} {lv ch gr be ow kt kv ol hd ln tq vq gq lo nd dp bs br bz ci : Nat → Int32}
variable {fl gs ty vy gy : Nat → Int32} {L : Nat → List (Nat × Nat)} {pa : Nat → Nat}
theorem sj_loop {K c f : Nat} {g : Int32} (hc : c < 4) (hf : cd_fil f) (hK : kp_ok K kt) : ∀ (d i : Nat) (x : Int32) (ln lo tq vq gq ty vy gy : Nat → Int32), i + d = K → qu_ok hd ln tq vq gq ty vy gy → ∃ (r : Int32) (ln' lo' tq' vq' gq' ty' vy' gy' : Nat → Int32), qu_ok hd ln' tq' vq' gq' ty' vy' gy' ∧
    (∀ (post : Int32 → SX → Prop) (lv : Nat → Int32), (∀ lv : Nat → Int32, post r (nI K, fw, lv, ch, gr, be, ow, kt, kv, ol, hd, ln', tq', vq', gq', lo', nd, dp, bs, br, bz, ci)) → wX_subscribe_128 post (nI c) (nI f) g (d + 1) x (nI i) (nI K) fw lv ch gr be ow kt kv ol hd ln tq vq gq lo nd dp bs br bz ci) ∧
    (∀ post : Int32 → SY → Prop, post r (nI K, fl, gs, ow, ty', vy', gy', ln', lo', ol, kt, kv) → wY_subscribe_106 post (nI c) (nI f) g (d + 1) x (nI i) (nI K) fl gs ow ty vy gy ln lo ol kt kv) := by
  have h8 := hK.1
  intro d
  induction d with
  | zero =>
    intro i x ln lo tq vq gq ty vy gy hi Q
    have h : nI K ≤ nI i := nI_le (by omega) (by omega)
    exact ⟨x, ln, lo, tq, vq, gq, ty, vy, gy, Q, fun post lv hp => br_t h (hp lv), fun post hp => br_t h hp⟩
  | succ d ih =>
    intro i x ln lo tq vq gq ty vy gy hi Q
    have h : ¬ nI K ≤ nI i := nI_ge (by omega) (by omega)
    have hin : vp_in (nI i) 8 := vp_in_nI (by omega) (by decide)
    obtain ⟨t, ht, et⟩ := hK.2.2 i (by omega)
    have hcl : (nI i).toNatClampNeg = i := nI_clamp (by omega)
    have hkt : kt (nI i).toNatClampNeg = nI t := by
      rw [hcl]
      exact et
    have hkv : kv (nI i).toNatClampNeg = kv i := by rw [hcl]
    by_cases hfit : cd_fit f t
    · obtain ⟨m, hm⟩ : ∃ m : Int32, (1 ≤ g ∧ m = 1) ∨ (¬ 1 ≤ g ∧ m = g) := by
        by_cases z : 1 ≤ g
        · exact ⟨_, Or.inl ⟨z, rfl⟩⟩
        · exact ⟨_, Or.inr ⟨z, rfl⟩⟩
      obtain ⟨r0, ln1, lo1, tq1, vq1, gq1, ty1, vy1, gy1, Q1, hX1, hY1⟩ := qu_send (ol := ol) (lo := lo) hc (nI t) (kv i) m Q
      obtain ⟨r, ln', lo', tq', vq', gq', ty', vy', gy', Q', hX, hY⟩ := ih (i + 1) (x + 1) ln1 lo1 tq1 vq1 gq1 ty1 vy1 gy1 (by omega) Q1
      refine ⟨r, ln', lo', tq', vq', gq', ty', vy', gy', Q', fun post lv hp => br_f h (And.intro hin ?_), fun post hp => br_f h (And.intro hin ?_)⟩
      · have hsend : ∀ lv : Nat → Int32, wX_subscribe_166 post (wX_subscribe_128 post (nI c) (nI f) g (d + 1)) (nI c) (nI f) g x (nI i) m (nI K) fw lv ch gr be ow kt kv ol hd ln tq vq gq lo nd dp bs br bz ci := by
          intro lv
          refine And.intro hin (And.intro hin ?_)
          rw [hkt, hkv]
          refine hX1 _ _ _ _ _ _ _ _ _ _ _ _ _ _ _ _ ?_
          exact nm_e (nm_r (nI_1 i) (hX post lv hp))
        rw [hkt]
        refine xc_matches (fun _ _ _ _ _ _ _ lev' => br_f (by decide) ?_) fun hno _ => absurd hfit (hno f t hf ht rfl rfl)
        rcases hm with ⟨z, em⟩ | ⟨z, em⟩
        · rw [em] at hsend
          exact br_t z (hsend lev')
        · rw [em] at hsend
          exact br_f z (hsend lev')
      · have hsend : wY_subscribe_156 post (wY_subscribe_106 post (nI c) (nI f) g (d + 1)) (nI c) (nI f) g x (nI i) m (kv (nI i).toNatClampNeg) (nI t) (nI c) (nI K) fl gs ow ty vy gy ln lo ol kt kv := by
          unfold wY_subscribe_156
          rw [hkv]
          refine hY1 _ _ _ _ _ _ _ ?_
          exact nm_e (nm_r (nI_1 i) (hY post hp))
        rw [hkt]
        refine yc_fits hf.1.1 hf.1.2.1 ht.1.1 ht.1.2.1 (fun _ => br_f (by decide) (And.intro hin (And.intro hin ?_))) fun hno => absurd hfit hno
        rcases hm with ⟨z, em⟩ | ⟨z, em⟩
        · rw [em] at hsend
          exact br_t z hsend
        · rw [em] at hsend
          exact br_f z hsend
    · obtain ⟨r, ln', lo', tq', vq', gq', ty', vy', gy', Q', hX, hY⟩ := ih (i + 1) x ln lo tq vq gq ty vy gy (by omega) Q
      refine ⟨r, ln', lo', tq', vq', gq', ty', vy', gy', Q', fun post lv hp => br_f h (And.intro hin ?_), fun post hp => br_f h (And.intro hin ?_)⟩
      · rw [hkt]
        refine xc_matches (fun f' t' hf' ht' ef et hfit' lev' => ?_) fun _ lev' => br_t rfl (nm_r (nI_1 i) (hX post lev' hp))
        have e1 := nb_inj ef (by have := hf.1.2.1; omega) (by have := hf'.1.2.1; omega)
        have e2 := nb_inj et (by have := ht.1.2.1; omega) (by have := ht'.1.2.1; omega)
        subst e1 e2
        exact absurd hfit' hfit
      · rw [hkt]
        exact yc_fits hf.1.1 hf.1.2.1 ht.1.1 ht.1.2.1 (fun hy => absurd hy hfit) fun _ => br_t rfl (nm_r (nI_1 i) (hY post hp))
end SJ
section SY
variable {fk : Int32} {fl gs cn ty vy gy wa ls oy ky vk : Nat → Int32}
variable {L : Nat → List (Nat × Nat)}
theorem sy_new {post : Int32 → SY → Prop} {c f g : Nat} (hc : c < 4) (hL : tr_L L) (Y : ys_ok fl gs cn L) (hf : cd_fil f) (hg : g ≤ 2) (hn : ∀ e, e ∈ L c → e.1 ≠ f) (h5 : (L c).length < 5) (K : ∃ n106 : Nat, wY_subscribe_106 post (nI c) (nI f) (nI g) n106 0 0 fk (upd fl (c * 5 + (L c).length) (nI f)) (upd gs (c * 5 + (L c).length) (nI g)) (upd cn c (cn c + 1)) ty vy gy wa ls oy ky vk) : wpY_subscribe post (fk, fl, gs, cn, ty, vy, gy, wa, ls, oy, ky, vk) (nI c) (nI f) (nI g) := by
  have hi : vp_in (nI c) 4 := vp_in_nI hc (by decide)
  have hcc : (nI c).toNatClampNeg = c := nI_clamp (by omega)
  have hcn : cn (nI c).toNatClampNeg = nI (L c).length := by
    rw [hcc]
    exact (Y c hc).1
  have hix : 5 * nI c + cn (nI c).toNatClampNeg = nI (c * 5 + (L c).length) := by
    rw [hcn, ys_51, nI_add]
  have hat : vp_in (nI (c * 5 + (L c).length)) 20 := vp_in_nI (by omega) (by decide)
  have hac : (nI (c * 5 + (L c).length)).toNatClampNeg = c * 5 + (L c).length := nI_clamp (by omega)
  unfold wpY_subscribe
  refine rl_ygood hc (br_f (by decide) (yc_isFilter (fun _ _ _ => br_f (by decide) (br_f (nI_pos (by omega)) (br_t (nI_le (b := 2) hg (by decide)) ?_))) fun h => absurd rfl (h f hf)))
  refine ys_find hc hL Y hf.1.2.1 (fun _ => br_t rfl (And.intro hi (br_f ?_ (br_t rfl (And.intro hi (nm_r hix (And.intro hi (And.intro hi (nm_r (e' := upd cn c (cn c + 1)) (by rw [hcc]) (And.intro hat (nm_r (by rw [hac]) (And.intro hat (nm_r (by rw [hac]) K))))))))))))) fun i g' hgi _ => absurd rfl (hn _ (List.mem_iff_getElem?.mpr ⟨i, hgi⟩))
  rw [hcn]
  intro e
  have := nb_inj (b := 5) e (by omega) (by decide)
  omega
theorem sy_full {post : Int32 → SY → Prop} {c f g : Nat} (hc : c < 4) (hL : tr_L L) (Y : ys_ok fl gs cn L) (hf : cd_fil f) (hg : g ≤ 2) (hn : ∀ e, e ∈ L c → e.1 ≠ f) (h5 : (L c).length = 5) (K : post (-2) (fk, fl, gs, cn, ty, vy, gy, wa, ls, oy, ky, vk)) : wpY_subscribe post (fk, fl, gs, cn, ty, vy, gy, wa, ls, oy, ky, vk) (nI c) (nI f) (nI g) := by
  have hi : vp_in (nI c) 4 := vp_in_nI hc (by decide)
  have hcc : (nI c).toNatClampNeg = c := nI_clamp (by omega)
  have hcn : cn (nI c).toNatClampNeg = nI (L c).length := by
    rw [hcc]
    exact (Y c hc).1
  unfold wpY_subscribe
  refine rl_ygood hc (br_f (by decide) (yc_isFilter (fun _ _ _ => br_f (by decide) (br_f (nI_pos (by omega)) (br_t (nI_le (b := 2) hg (by decide)) ?_))) fun h => absurd rfl (h f hf)))
  refine ys_find hc hL Y hf.1.2.1 (fun _ => br_t rfl (And.intro hi (br_t ?_ K))) fun i g' hgi _ => absurd rfl (hn _ (List.mem_iff_getElem?.mpr ⟨i, hgi⟩))
  rw [hcn, h5]
  rfl
theorem sy_old {post : Int32 → SY → Prop} {c f g g0 i0 : Nat} (hc : c < 4) (hL : tr_L L) (Y : ys_ok fl gs cn L) (hf : cd_fil f) (hg : g ≤ 2) (h0 : (L c)[i0]? = some (f, g0)) (K : ∃ n106 : Nat, wY_subscribe_106 post (nI c) (nI f) (nI g) n106 0 0 fk (upd fl (c * 5 + i0) (nI f)) (upd gs (c * 5 + i0) (nI g)) cn ty vy gy wa ls oy ky vk) : wpY_subscribe post (fk, fl, gs, cn, ty, vy, gy, wa, ls, oy, ky, vk) (nI c) (nI f) (nI g) := by
  have h5 := (hL c hc).1
  have hlt := ys_lt h0
  have hat : vp_in (nI (c * 5 + i0)) 20 := vp_in_nI (by omega) (by decide)
  have hac : (nI (c * 5 + i0)).toNatClampNeg = c * 5 + i0 := nI_clamp (by omega)
  unfold wpY_subscribe
  refine rl_ygood hc (br_f (by decide) (yc_isFilter (fun _ _ _ => br_f (by decide) (br_f (nI_pos (by omega)) (br_t (nI_le (b := 2) hg (by decide)) ?_))) fun h => absurd rfl (h f hf)))
  refine ys_find hc hL Y hf.1.2.1 (fun hno => absurd rfl (hno _ (List.mem_iff_getElem?.mpr ⟨i0, h0⟩))) fun i g' hgi _ => ?_
  have e := ys_uni (hL c hc).2.1 hgi h0
  subst e
  have hne : ¬ nI (c * 5 + i) = -4 := nb_ne_m4 (by omega)
  exact br_f hne (br_f hne (And.intro hat (nm_r (by rw [hac]) (And.intro hat (nm_r (by rw [hac]) K)))))
theorem sy_u55 {post : Int32 → SY → Prop} {c i0 n : Nat} {x : Int32} (hc : c < 4) (hn : i0 + n < 5) (hw : cn c = nI (i0 + n)) (K : ∀ fl' gs' : Nat → Int32, qu_sh (c * 5 + i0) n fl fl' → qu_sh (c * 5 + i0) n gs gs' → post x (fk, fl', gs', cn, ty, vy, gy, wa, ls, oy, ky, vk)) : ∀ (d j : Nat) (fl' gs' : Nat → Int32), j + d = n → qu_sh (c * 5 + i0) j fl fl' → qu_sh (c * 5 + i0) j gs gs' → wY_unsubscribe_55 post (nI c) x fk (d + 1) (nI (c * 5 + i0 + j)) fl' gs' cn ty vy gy wa ls oy ky vk := by
  have hin : vp_in (nI c) 4 := vp_in_nI (by omega) (by decide)
  have hcc : (nI c).toNatClampNeg = c := nI_clamp (by omega)
  have he : 5 * nI c + cn (nI c).toNatClampNeg = nI (c * 5 + (i0 + n)) := by
    rw [hcc, hw, ys_51, nI_add]
  intro d
  induction d with
  | zero =>
    intro j fl' gs' hj h1 h2
    have e : j = n := by omega
    subst e
    exact And.intro hin (br_t (by rw [he]; exact nI_le (by omega) (by omega)) (K fl' gs' h1 h2))
  | succ d ih =>
    intro j fl' gs' hj h1 h2
    have a1 : vp_in (nI (c * 5 + i0 + j) + 1) 20 := by
      rw [nI_1]
      exact vp_in_nI (by omega) (by decide)
    have a2 : vp_in (nI (c * 5 + i0 + j)) 20 := vp_in_nI (by omega) (by decide)
    have a3 : (nI (c * 5 + i0 + j) + 1).toNatClampNeg = c * 5 + i0 + j + 1 := by
      rw [nI_1]
      exact nI_clamp (by omega)
    have a4 : (nI (c * 5 + i0 + j)).toNatClampNeg = c * 5 + i0 + j := nI_clamp (by omega)
    exact And.intro hin (br_f (by rw [he]; exact nI_ge (by omega) (by omega)) (And.intro a1 (And.intro a2 (nm_r (by rw [a3, a4]) (And.intro a1 (And.intro a2 (nm_r (by rw [a3, a4]) (nm_r (nI_1 _) (ih (j + 1) _ _ (by omega) (qu_sh_s h1) (qu_sh_s h2))))))))))
theorem sy_un {post : Int32 → SY → Prop} {c f g0 i0 : Nat} {l1 l2 : List (Nat × Nat)} (hc : c < 4) (hL : tr_L L) (Y : ys_ok fl gs cn L) (hf : cd_fil f) (h0 : (L c)[i0]? = some (f, g0)) (hl : L c = l1 ++ (f, g0) :: l2) (hl1 : l1.length = i0) (K : ∀ fl' gs' : Nat → Int32, qu_sh (c * 5 + i0) l2.length fl fl' → qu_sh (c * 5 + i0) l2.length gs gs' → post (nI g0) (fk, fl', gs', upd cn c (cn c - 1), ty, vy, gy, wa, ls, oy, ky, vk)) : wpY_unsubscribe post (fk, fl, gs, cn, ty, vy, gy, wa, ls, oy, ky, vk) (nI c) (nI f) := by
  have h5 := (hL c hc).1
  have hlt := ys_lt h0
  have hlen : (L c).length = l1.length + (l2.length + 1) := by
    rw [hl, List.length_append, List.length_cons]
  have hi : vp_in (nI c) 4 := vp_in_nI hc (by decide)
  have hcc : (nI c).toNatClampNeg = c := nI_clamp (by omega)
  have hat : vp_in (nI (c * 5 + i0)) 20 := vp_in_nI (by omega) (by decide)
  have hac : (nI (c * 5 + i0)).toNatClampNeg = c * 5 + i0 := nI_clamp (by omega)
  have hcn : cn c - 1 = nI (i0 + l2.length) := by
    rw [(Y c hc).1, hlen, hl1, show i0 + (l2.length + 1) = (i0 + l2.length) + 1 by omega]
    exact nI_pred _
  unfold wpY_unsubscribe
  refine rl_ygood hc (br_f (by decide) (yc_isFilter (fun _ _ _ => br_f (by decide) ?_) fun h => absurd rfl (h f hf)))
  refine ys_find hc hL Y hf.1.2.1 (fun hno => absurd rfl (hno _ (List.mem_iff_getElem?.mpr ⟨i0, h0⟩))) fun i g' hgi _ => ?_
  have e := ys_uni (hL c hc).2.1 hgi h0
  subst e
  refine br_f (nb_ne_m4 (by omega)) (And.intro hat (nm_r (e' := nI g0) (by rw [hac]; exact ((Y c hc).2 i _ h0).2) (And.intro hi (And.intro hi (nm_r (e' := upd cn c (cn c - 1)) (by rw [hcc]) ⟨l2.length + 1, ?_⟩)))))
  exact sy_u55 (cn := upd cn c (cn c - 1)) hc (by omega) (by rw [pk_us]; exact hcn) K l2.length 0 fl gs (by omega) qu_sh_0 qu_sh_0
end SY
end
section
/-! the two calls that change the tree -/
theorem i_vc_unsubscribe {k : Nat} {u : SX} {v : SY} (I : i_Rel k u v) (hk : k + 4 ≤ 2048) (v1 : Int32) (v2 : Int32) : wpX_unsubscribe (fun r u' => wpY_unsubscribe (fun r' v' => r' = r ∧ i_Rel (k + 4) u' v') v v1 v2) u v1 v2 := by
  refine rl_el (Pr := fun u v => wpX_unsubscribe (fun r u' => wpY_unsubscribe (fun r' v' => r' = r ∧ i_Rel (k + 4) u' v') v v1 v2) u v1 v2) ?_ I
  intro fw lv ch gr be ow kt kv ol hd ln tq vq gq lo nd dp bs br bz ci fl gs ty vy gy K L pa H
  obtain ⟨HK, HQ, hL, Y, P⟩ := id H
  unfold wpX_unsubscribe
  refine xc_spreadFilter (fun f hf ef lev' hl => ?_) fun h lev' => ?_
  · have hn := cd_nl_le hf.1.2.1
    rcases rl_cl v1 with hb | ⟨c, hc, rfl⟩
    · refine rl_xbad hb (br_f (by decide) ?_)
      unfold wpY_unsubscribe
      exact rl_ybad hb (br_t rfl ⟨rfl, rl_in H⟩)
    · subst ef
      have hi : vp_in (nI c) 4 := vp_in_nI hc (by decide)
      have hcc : (nI c).toNatClampNeg = c := nI_clamp (by omega)
      refine rl_xgood hc (br_t rfl (br_t (nI_pos' (by omega)) ?_))
      rcases tr_g_yes (p := f) (L c) with hno | ⟨g0, hm, hgv⟩
      · have hY : ∀ lev : Nat → Int32, wpY_unsubscribe (fun r' v' => r' = -4 ∧ i_Rel (k + 4) (nI K, fw, lev, ch, gr, be, ow, kt, kv, ol, hd, ln, tq, vq, gq, lo, nd, dp, bs, br, bz, ci) v') (nI K, fl, gs, ow, ty, vy, gy, ln, lo, ol, kt, kv) (nI c) (nI f) := by
          intro lev
          unfold wpY_unsubscribe
          exact rl_ygood hc (br_f (by decide) (yc_isFilter (fun _ _ _ => br_f (by decide) (ys_find hc hL Y hf.1.2.1 (fun _ => br_t rfl ⟨rfl, rl_in H⟩) fun i g' hgi _ => absurd rfl (hno _ (List.mem_iff_getElem?.mpr ⟨i, hgi⟩)))) fun h => absurd rfl (h f hf)))
        refine xt_nodeOf hL hf.1 P.1 hl (fun _ => br_t (by decide) (hY lev')) fun x x1 x2 xp => ?_
        have hix : nI x * 4 + nI c = nI (x * 4 + c) := xt_ix4
        refine br_f (nI_nle (by omega) (by omega)) (And.intro (by rw [hix]; exact vp_in_nI (by omega) (by decide)) (br_f ?_ (hY lev')))
        rw [hix, nI_clamp (by omega), P.2.2 x c x1 x2 hc, xp, tr_g_no _ hno]
        decide
      · have hg2 : g0 ≤ 2 := ((hL c hc).2.2 _ hm).2
        obtain ⟨i0, h0⟩ := List.mem_iff_getElem?.mp hm
        obtain ⟨l1, l2, hll, hl1⟩ := ys_dec _ _ h0
        have hnd := (hL c hc).2.1
        rw [hll] at hnd
        obtain ⟨hn1, hn2, _⟩ := trl_not hnd
        refine xt_nodeOf hL hf.1 P.1 hl (fun w0 => ?_) fun x x1 x2 xp => ?_
        · have h5 := tr_w_self hL hc hm
          have h6 : 1 ≤ tr_w L f := h5
          omega
        · have hix : nI x * 4 + nI c = nI (x * 4 + c) := xt_ix4
          have hin : vp_in (nI x * 4 + nI c) 324 := by
            rw [hix]
            exact vp_in_nI (by omega) (by decide)
          have hic : (nI x * 4 + nI c).toNatClampNeg = x * 4 + c := by
            rw [hix]
            exact nI_clamp (by omega)
          have hgr : gr (nI x * 4 + nI c).toNatClampNeg = nI g0 := by
            rw [hic, P.2.2 x c x1 x2 hc, xp]
            exact hgv
          refine br_f (nI_nle (by omega) (by omega)) (And.intro hin (br_t (by rw [hgr]; exact nI_pos' (by omega)) (And.intro hin (nm_r (e' := nI g0) hgr (And.intro hin (nm_r (e' := upd gr (x * 4 + c) (-1)) (by rw [hic]) (And.intro hi (And.intro hi (nm_r (e' := upd ow c (ow c - 1)) (by rw [hcc]) ?_)))))))))
          refine xt_leave (L := tr_set L c (l1 ++ l2)) (trl_del hL hc hll) hf.1 hl (le_0 hL hf.1 hc hll hn1 hn2 x1 x2 xp P) fun x' ch' be' I' => ?_
          obtain ⟨pa', P'⟩ := le_n I'
          refine sy_un hc hL Y hf h0 hll hl1 fun fl' gs' s1 s2 => ⟨rfl, rl_in ⟨HK, HQ, trl_del hL hc hll, ys_del hL hc hll hl1 s1 s2 Y, P'⟩⟩
  · have hY : wpY_unsubscribe (fun r' v' => r' = -1 ∧ i_Rel (k + 4) (nI K, fw, lev', ch, gr, be, ow, kt, kv, ol, hd, ln, tq, vq, gq, lo, nd, dp, bs, br, bz, ci) v') (nI K, fl, gs, ow, ty, vy, gy, ln, lo, ol, kt, kv) v1 v2 := by
      unfold wpY_unsubscribe
      rcases rl_cl v1 with hb | ⟨c, hc, rfl⟩
      · exact rl_ybad hb (br_t rfl ⟨rfl, rl_in H⟩)
      · exact rl_ygood hc (br_f (by decide) (yc_isFilter (fun f' hf' ef' => absurd ef' (h f' hf')) fun _ => br_t rfl ⟨rfl, rl_in H⟩))
    exact rl_xgr (fun _ => br_f (by decide) hY) fun _ _ _ => br_t rfl (br_f (by decide) hY)
theorem i_vc_subscribe {k : Nat} {u : SX} {v : SY} (I : i_Rel k u v) (hk : k + 4 ≤ 2048) (v1 : Int32) (v2 : Int32) (v3 : Int32) : wpX_subscribe (fun r u' => wpY_subscribe (fun r' v' => r' = r ∧ i_Rel (k + 4) u' v') v v1 v2 v3) u v1 v2 v3 := by
  refine rl_el (Pr := fun u v => wpX_subscribe (fun r u' => wpY_subscribe (fun r' v' => r' = r ∧ i_Rel (k + 4) u' v') v v1 v2 v3) u v1 v2 v3) ?_ I
  intro fw lv ch gr be ow kt kv ol hd ln tq vq gq lo nd dp bs br bz ci fl gs ty vy gy K L pa H
  obtain ⟨HK, HQ, hL, Y, P⟩ := id H
  unfold wpX_subscribe
  refine xc_spreadFilter (fun f hf ef lev' hl => ?_) fun h lev' => ?_
  · have hn := cd_nl_le hf.1.2.1
    rcases rl_cl v1 with hb | ⟨c, hc, rfl⟩
    · refine rl_xbad hb (br_f (by decide) ?_)
      unfold wpY_subscribe
      exact rl_ybad hb (br_t rfl ⟨rfl, rl_in H⟩)
    · subst ef
      have hi : vp_in (nI c) 4 := vp_in_nI hc (by decide)
      have hcc : (nI c).toNatClampNeg = c := nI_clamp (by omega)
      refine rl_xgood hc (br_t rfl (br_f (nI_pos (by omega)) ?_))
      by_cases z0 : v3 < 0
      · refine br_t z0 ?_
        unfold wpY_subscribe
        exact rl_ygood hc (br_f (by decide) (yc_isFilter (fun _ _ _ => br_f (by decide) (br_t z0 ⟨rfl, rl_in H⟩)) fun h => absurd rfl (h f hf)))
      · refine br_f z0 ?_
        by_cases z2 : v3 ≤ 2
        · refine br_t z2 ?_
          obtain ⟨g, hg2, rfl⟩ := nI_of2 (M := 2) (n := 2) (by decide) z0 z2
          have how : ow (nI c).toNatClampNeg = nI (L c).length := by
            rw [hcc]
            exact (Y c hc).1
          have hlen5 := (hL c hc).1
          rcases tr_g_yes (p := f) (L c) with hno | ⟨g0, hm, hgv⟩
          · have h62 : ∀ r : Int32, wX_subscribe_62 (fun r u' => wpY_subscribe (fun r' v' => r' = r ∧ i_Rel (k + 4) u' v') (nI K, fl, gs, ow, ty, vy, gy, ln, lo, ol, kt, kv) (nI c) (nI f) (nI g)) (nI c) (nI f) (nI g) (nI (cd_nl f)) r (nI K) fw lev' ch gr be ow kt kv ol hd ln tq vq gq lo nd dp bs br bz ci := by
              intro r
              unfold wX_subscribe_62
              refine br_t rfl (And.intro hi ?_)
              by_cases z5 : (L c).length = 5
              · refine br_t (by rw [how, z5]; rfl) ?_
                exact sy_full hc hL Y hf hg2 hno z5 ⟨rfl, rl_in H⟩
              · refine br_f ?_ (br_t rfl (xt_enter hL hf.1 (tr_room hL hc (by omega)) hl P fun x ch' be' I' => ?_))
                · rw [how]
                  intro e
                  exact z5 (nb_inj (b := 5) e (by omega) (by decide))
                · obtain ⟨x1, x2, pa', P'⟩ := en_n (g := g) hf.1 hc hno I'
                  have hix : nI x * 4 + nI c = nI (x * 4 + c) := xt_ix4
                  have hic : (nI x * 4 + nI c).toNatClampNeg = x * 4 + c := by
                    rw [hix]
                    exact nI_clamp (by omega)
                  obtain ⟨r', ln', lo', tq', vq', gq', ty', vy', gy', Q', hX, hY⟩ := sj_loop (fw := fw) (ch := ch') (gr := upd gr (x * 4 + c) (nI g)) (be := be') (ow := upd ow c (ow c + 1)) (kv := kv) (ol := ol) (nd := nd) (dp := dp) (bs := bs) (br := br) (bz := bz) (ci := ci) (fl := upd fl (c * 5 + (L c).length) (nI f)) (gs := upd gs (c * 5 + (L c).length) (nI g)) (g := nI g) hc hf HK K 0 0 ln lo tq vq gq ty vy gy (by omega) HQ
                  refine And.intro hi (And.intro hi (nm_r (e' := upd ow c (ow c + 1)) (by rw [hcc]) (And.intro (by rw [hix]; exact vp_in_nI (by omega) (by decide)) (nm_r (e' := upd gr (x * 4 + c) (nI g)) (by rw [hic]) ⟨K + 1, hX _ lev' fun lev2 => ?_⟩))))
                  refine sy_new hc hL Y hf hg2 hno (by omega) ⟨K + 1, hY _ ⟨rfl, rl_in ⟨HK, Q', trl_app hL hc (by omega) hf hg2 hno, ys_app hL hc (by omega) Y, P'⟩⟩⟩
            refine xt_nodeOf hL hf.1 P.1 hl (fun _ => br_t (by decide) (h62 _)) fun x x1 x2 xp => ?_
            have hix : nI x * 4 + nI c = nI (x * 4 + c) := xt_ix4
            refine br_f (nI_nle (by omega) (by omega)) (And.intro (by rw [hix]; exact vp_in_nI (by omega) (by decide)) (br_t ?_ (h62 _)))
            rw [hix, nI_clamp (by omega), P.2.2 x c x1 x2 hc, xp, tr_g_no _ hno]
            decide
          · have hg02 : g0 ≤ 2 := ((hL c hc).2.2 _ hm).2
            obtain ⟨i0, h0⟩ := List.mem_iff_getElem?.mp hm
            obtain ⟨l1, l2, hll, hl1⟩ := ys_dec _ _ h0
            have hnd := (hL c hc).2.1
            rw [hll] at hnd
            obtain ⟨hn1, hn2, _⟩ := trl_not hnd
            refine xt_nodeOf hL hf.1 P.1 hl (fun w0 => ?_) fun x x1 x2 xp => ?_
            · have h5 := tr_w_self hL hc hm
              have h6 : 1 ≤ tr_w L f := h5
              omega
            · have hix : nI x * 4 + nI c = nI (x * 4 + c) := xt_ix4
              have hin : vp_in (nI x * 4 + nI c) 324 := by
                rw [hix]
                exact vp_in_nI (by omega) (by decide)
              have hic : (nI x * 4 + nI c).toNatClampNeg = x * 4 + c := by
                rw [hix]
                exact nI_clamp (by omega)
              have hgr : gr (nI x * 4 + nI c).toNatClampNeg = nI g0 := by
                rw [hic, P.2.2 x c x1 x2 hc, xp]
                exact hgv
              obtain ⟨r', ln', lo', tq', vq', gq', ty', vy', gy', Q', hX, hY⟩ := sj_loop (fw := fw) (ch := ch) (gr := upd gr (x * 4 + c) (nI g)) (be := be) (ow := ow) (kv := kv) (ol := ol) (nd := nd) (dp := dp) (bs := bs) (br := br) (bz := bz) (ci := ci) (fl := upd fl (c * 5 + i0) (nI f)) (gs := upd gs (c * 5 + i0) (nI g)) (g := nI g) hc hf HK K 0 0 ln lo tq vq gq ty vy gy (by omega) HQ
              refine br_f (nI_nle (by omega) (by omega)) (And.intro hin (br_f (by rw [hgr]; exact nI_pos (by omega)) (br_f (by decide) (br_f (by decide) (And.intro hin (nm_r (e' := upd gr (x * 4 + c) (nI g)) (by rw [hic]) ⟨K + 1, hX _ lev' fun lev2 => ?_⟩))))))
              exact sy_old hc hL Y hf hg2 h0 ⟨K + 1, hY _ ⟨rfl, rl_in ⟨HK, Q', trl_set hL hc hll hg2, ys_set hL hc hll hl1 Y, tr_re hf.1 hc hll hn1 x1 x2 xp P⟩⟩⟩
        · refine br_f z2 ?_
          unfold wpY_subscribe
          exact rl_ygood hc (br_f (by decide) (yc_isFilter (fun _ _ _ => br_f (by decide) (br_f z0 (br_f z2 ⟨rfl, rl_in H⟩))) fun h => absurd rfl (h f hf)))
  · have hY : wpY_subscribe (fun r' v' => r' = -1 ∧ i_Rel (k + 4) (nI K, fw, lev', ch, gr, be, ow, kt, kv, ol, hd, ln, tq, vq, gq, lo, nd, dp, bs, br, bz, ci) v') (nI K, fl, gs, ow, ty, vy, gy, ln, lo, ol, kt, kv) v1 v2 v3 := by
      unfold wpY_subscribe
      rcases rl_cl v1 with hb | ⟨c, hc, rfl⟩
      · exact rl_ybad hb (br_t rfl ⟨rfl, rl_in H⟩)
      · exact rl_ygood hc (br_f (by decide) (yc_isFilter (fun f' hf' ef' => absurd ef' (h f' hf')) fun _ => br_t rfl ⟨rfl, rl_in H⟩))
    exact rl_xgr (fun _ => br_f (by decide) hY) fun _ _ _ => br_t rfl (br_t (by decide) hY)
end
