section
/-! rows of kit/rows (starting texts), pasted -/
theorem pk_us {f : Nat → Int32} {k : Nat} {x : Int32} : upd f k x k = x := if_pos rfl
theorem pk_un {f : Nat → Int32} {k j : Nat} {x : Int32} (h : j ≠ k) : upd f k x j = f j := if_neg h
theorem pk_sub {a b : Nat} (h : b ≤ a) : nI a - nI b = nI (a - b) := by
  obtain ⟨c, rfl⟩ : ∃ c, a = c + b := ⟨a - b, by omega⟩
  rw [← nI_add, Int32.add_sub_cancel, Nat.add_sub_cancel]
theorem pk_m1 (n : Nat) : nI (n + 1) + (-1) = nI n := by
  rw [← nI_1, Int32.add_assoc, show (1 : Int32) + (-1) = 0 from rfl, Int32.add_zero]
theorem pk_mul (a b : Nat) : nI a * nI b = nI (a * b) := (Int32.ofNat_mul a b).symm
theorem pk_sub_toInt {a b : Nat} (ha : a < 2 ^ 30) (hb : b < 2 ^ 30) : (nI a - nI b).toInt = (a : Int) - b := by
  rw [Int32.toInt_sub, nI_toInt (by omega), nI_toInt (by omega)]
  exact Int.bmod_eq_of_le (by omega) (by omega)
theorem pk_sneg {a b : Nat} (hb : b < 2 ^ 30) (h : a < b) : nI a - nI b < 0 := by
  rw [Int32.lt_iff_toInt_lt, pk_sub_toInt (by omega) hb, show (0 : Int32).toInt = 0 from by decide]
  omega
theorem pk_ix (x : Int32) {n : Nat} (hn : n < 2 ^ 31) : x < 0 ∨ nI n ≤ x ∨ ∃ j : Nat, j < n ∧ x = nI j := by
  by_cases h : x < 0
  · exact Or.inl h
  · obtain ⟨j, hj, rfl⟩ := nI_of h
    by_cases h2 : j < n
    · exact Or.inr (Or.inr ⟨j, h2, rfl⟩)
    · exact Or.inr (Or.inl (nI_le (by omega) hj))
theorem pk_le {x y : Int32} {A B : Prop} (a b : Nat) (f : a ≤ b → A) (g : b < a → B) (hx : x = nI a := by rfl) (hy : y = nI b := by rfl) (ha : a < 2 ^ 31 := by omega) (hb : b < 2 ^ 31 := by omega) : (x ≤ y → A) ∧ (¬ x ≤ y → B) := by
  subst hx hy
  rw [nI_leI ha hb]
  exact ⟨f, fun z => g (by omega)⟩
theorem pk_lt {x y : Int32} {A B : Prop} (a b : Nat) (f : a < b → A) (g : b ≤ a → B) (hx : x = nI a := by rfl) (hy : y = nI b := by rfl) (ha : a < 2 ^ 31 := by omega) (hb : b < 2 ^ 31 := by omega) : (x < y → A) ∧ (¬ x < y → B) := by
  subst hx hy
  rw [nI_ltI ha hb]
  exact ⟨f, fun z => g (by omega)⟩
theorem pk_eq {x y : Int32} {A B : Prop} (a b : Nat) (f : a = b → A) (g : a ≠ b → B) (hx : x = nI a := by rfl) (hy : y = nI b := by rfl) (ha : a < 2 ^ 31 := by omega) (hb : b < 2 ^ 31 := by omega) : (x = y → A) ∧ (¬ x = y → B) := by
  subst hx hy
  rw [nI_eq ha hb]
  exact ⟨f, g⟩
theorem pk_in {x : Int32} (n N : Nat) (h : n < N) (hx : x = nI n := by rfl) (hN : N < 2 ^ 31 := by omega) : vp_in x N := by
  subst hx
  exact vp_in_nI h hN
theorem pk_cl {x : Int32} (n : Nat) (hx : x = nI n := by rfl) (h : n < 2 ^ 31 := by omega) : x.toNatClampNeg = n := by
  subst hx
  exact nI_clamp h
theorem pk_tn {n : Nat} (h : n < 2 ^ 32) : (nI n).toBitVec.toNat = n := Nat.mod_eq_of_lt h
theorem pk_and (x : Int32) {m : Int32} (k : Nat) (hm : m.toBitVec.toNat = 2 ^ k - 1) : x &&& m = nI (x.toBitVec.toNat % 2 ^ k) := by
  apply Int32.toBitVec_inj.mp
  apply BitVec.eq_of_toNat_eq
  rw [Int32.toBitVec_and, BitVec.toNat_and, hm, Nat.and_two_pow_sub_one_eq_mod]
  show _ = (BitVec.ofNat 32 _).toNat
  rw [BitVec.toNat_ofNat]
  exact (Nat.mod_eq_of_lt (Nat.lt_of_le_of_lt (Nat.mod_le _ _) x.toBitVec.isLt)).symm
theorem pk_andN {n : Nat} (h : n < 2 ^ 32) {m : Int32} (k : Nat) (hm : m.toBitVec.toNat = 2 ^ k - 1) : nI n &&& m = nI (n % 2 ^ k) := by
  rw [pk_and _ k hm, pk_tn h]
theorem pk_shl (a s : Int32) (k : Nat) (hs : (s.toBitVec.smod 32).toNat = k) : (a <<< s).toBitVec.toNat = a.toBitVec.toNat * 2 ^ k % 2 ^ 32 := by
  show (a.toBitVec <<< (s.toBitVec.smod 32).toNat).toNat = _
  rw [hs, BitVec.toNat_shiftLeft, Nat.shiftLeft_eq]
theorem pk_shlN {n : Nat} (s : Int32) (k : Nat) (hs : (s.toBitVec.smod 32).toNat = k) (h : n * 2 ^ k < 2 ^ 32) : nI n <<< s = nI (n * 2 ^ k) := by
  apply Int32.toBitVec_inj.mp
  apply BitVec.eq_of_toNat_eq
  have hn : n < 2 ^ 32 := Nat.lt_of_le_of_lt (Nat.le_mul_of_pos_right n (Nat.two_pow_pos k)) h
  rw [pk_shl _ _ k hs, pk_tn hn, pk_tn h, Nat.mod_eq_of_lt h]
theorem pk_shr (a s : Int32) (k : Nat) (hs : (s.toBitVec.smod 32).toNat = k) : (a >>> s).toInt = a.toInt >>> k := by
  show (a.toBitVec.sshiftRight (s.toBitVec.smod 32).toNat).toInt = _
  rw [hs, BitVec.toInt_sshiftRight]
  rfl
theorem pk_shrN {n : Nat} (h : n < 2 ^ 31) (s : Int32) (k : Nat) (hs : (s.toBitVec.smod 32).toNat = k) : nI n >>> s = nI (n / 2 ^ k) := by
  apply Int32.toInt_inj.mp
  have h2 : n / 2 ^ k ≤ n := Nat.div_le_self _ _
  rw [pk_shr _ _ k hs, nI_toInt h, nI_toInt (by omega), Int.shiftRight_eq_div_pow]
  rfl
theorem pk_ushr (x s : Int32) (k : Nat) (hs : ((s.toUInt32 &&& Int32.toUInt32 31).toBitVec % 32).toNat = k) : (x.toUInt32 >>> (s.toUInt32 &&& Int32.toUInt32 31)).toInt32.toBitVec.toNat = x.toBitVec.toNat / 2 ^ k := by
  have e : (x.toUInt32 >>> (s.toUInt32 &&& Int32.toUInt32 31)).toInt32.toBitVec = x.toBitVec >>> k := by
    rw [← hs]
    exact UInt32.toBitVec_shiftRight _ _
  rw [e, BitVec.toNat_ushiftRight, Nat.shiftRight_eq_div_pow]
theorem pk_ushrN {n : Nat} (hn : n < 2 ^ 32) (s : Int32) (k : Nat) (hs : ((s.toUInt32 &&& Int32.toUInt32 31).toBitVec % 32).toNat = k) : ((nI n).toUInt32 >>> (s.toUInt32 &&& Int32.toUInt32 31)).toInt32 = nI (n / 2 ^ k) := by
  apply Int32.toBitVec_inj.mp
  apply BitVec.eq_of_toNat_eq
  rw [pk_ushr _ s k hs, pk_tn hn, pk_tn (Nat.lt_of_le_of_lt (Nat.div_le_self _ _) hn)]
def bt (x : Int32) (i : Nat) : Bool := x.toBitVec.getLsbD i
theorem b_ext {x y : Int32} (h : ∀ i, i < 32 → bt x i = bt y i) : x = y := Int32.toBitVec_inj.mp (BitVec.eq_of_getLsbD_eq (fun i hi => h i hi))
theorem b_and (x y : Int32) (i : Nat) : bt (x &&& y) i = (bt x i && bt y i) := by unfold bt; rw [Int32.toBitVec_and, BitVec.getLsbD_and]
theorem b_big {x : Int32} {i : Nat} (h : 32 ≤ i) : bt x i = false := BitVec.getLsbD_of_ge _ _ h
theorem s_l : ∀ n, n < 32 → ((nI n &&& 31).toBitVec.smod 32).toNat = n := by decide +kernel
theorem s_u : ∀ n, n < 32 → (((nI n).toUInt32 &&& Int32.toUInt32 31).toBitVec % 32).toNat = n := by decide +kernel
theorem b_ushr (n : Nat) (hn : n < 32) (x : Int32) (i : Nat) : bt ((x.toUInt32 >>> ((nI n).toUInt32 &&& Int32.toUInt32 31)).toInt32) i = bt x (n + i) := by
  show (x.toUInt32 >>> ((nI n).toUInt32 &&& Int32.toUInt32 31)).toBitVec.getLsbD i = x.toUInt32.toBitVec.getLsbD (n + i)
  rw [UInt32.toBitVec_shiftRight]
  show (x.toUInt32.toBitVec >>> (((nI n).toUInt32 &&& Int32.toUInt32 31).toBitVec % 32).toNat).getLsbD i = _
  rw [s_u n hn, BitVec.getLsbD_ushiftRight]
theorem b_sshr (n : Nat) (hn : n < 32) (x : Int32) {i : Nat} (hi : i < 32) : bt (x >>> (nI n &&& 31)) i = if n + i < 32 then bt x (n + i) else bt x 31 := by
  unfold bt
  rw [Int32.toBitVec_shiftRight]
  show (x.toBitVec.sshiftRight ((nI n &&& 31).toBitVec.smod 32).toNat).getLsbD i = _
  rw [s_l n hn, BitVec.getLsbD_sshiftRight, BitVec.msb_eq_getLsbD_last]
  simp [hi]
end
section
/-! pure picture of a row of items: K i is the kind of item i; blocks, starters, the stack of items still to be ended -/
abbrev zp_B (k : Int32) : Prop := k = 0 ∨ k = 6 ∨ k = 7
abbrev zp_M (k : Int32) : Prop := k = 8 ∨ k = 9
def zp_bk (K : Nat → Int32) : Nat → Nat
  | 0 => 0
  | i + 1 => zp_bk K i + (if zp_B (K i) then 1 else 0)
def zp_ls (K : Nat → Int32) : Nat → Option Nat
  | 0 => none
  | i + 1 => if zp_B (K i) then some i else zp_ls K i
def zp_pop (K : Nat → Int32) (i : Nat) : List (Nat × Nat) → List (Nat × Nat)
  | [] => []
  | (o, t) :: r => if K o = 6 ∧ t = 0 then (o, i) :: r else r
def zp_sk (K : Nat → Int32) : Nat → List (Nat × Nat)
  | 0 => []
  | i + 1 => if K i = 6 ∨ K i = 7 then (i, 0) :: zp_sk K i else if K i = 0 then zp_pop K i (zp_sk K i) else zp_sk K i
def zp_fi (K : Nat → Int32) : Nat → Bool
  | 0 => false
  | i + 1 => zp_fi K i || decide (K i = 0 ∧ zp_sk K i = [])
def zp_w (K : Nat → Int32) (o t : Nat) : Nat := if K o = 6 ∧ t = 0 then 2 else 1
def zp_wt (K : Nat → Int32) : List (Nat × Nat) → Nat
  | [] => 0
  | (o, t) :: r => zp_w K o t + zp_wt K r
def zp_ow (K : Nat → Int32) (n : Nat) : Nat := if zp_fi K n = true then 0 else 1 + zp_wt K (zp_sk K n)
def zp_top (K : Nat → Int32) (i : Nat) : Option Nat := (zp_sk K i).head?.map Prod.fst
def zp_fd (K : Nat → Int32) : List (Nat × Nat) → Nat → Option Nat
  | [], _ => none
  | (o, t) :: r, e => if e ≤ zp_w K o t then some o else zp_fd K r (e - zp_w K o t)
def oI : Option Nat → Int32
  | none => -1
  | some x => nI x
theorem oI_n : oI none = -1 := rfl
theorem oI_s (x : Nat) : oI (some x) = nI x := rfl
theorem zp_nm1 {x : Nat} (h : x < 2 ^ 31) : ¬ nI x = -1 := by
  intro e
  have a := nI_toInt h
  rw [e, show (-1 : Int32).toInt = -1 from by decide] at a
  omega
theorem zp_nm1' {x : Nat} (h : x < 2 ^ 31) : ¬ -1 = nI x := fun e => zp_nm1 h e.symm
section
variable {K : Nat → Int32}
theorem zp_bk_b {i : Nat} (h : zp_B (K i)) : zp_bk K (i + 1) = zp_bk K i + 1 := by
  show zp_bk K i + (if zp_B (K i) then 1 else 0) = _
  rw [if_pos h]
theorem zp_bk_n {i : Nat} (h : ¬ zp_B (K i)) : zp_bk K (i + 1) = zp_bk K i := by
  show zp_bk K i + (if zp_B (K i) then 1 else 0) = _
  rw [if_neg h]; rfl
theorem zp_ls_b {i : Nat} (h : zp_B (K i)) : zp_ls K (i + 1) = some i := by
  show (if zp_B (K i) then some i else zp_ls K i) = _
  rw [if_pos h]
theorem zp_ls_n {i : Nat} (h : ¬ zp_B (K i)) : zp_ls K (i + 1) = zp_ls K i := by
  show (if zp_B (K i) then some i else zp_ls K i) = _
  rw [if_neg h]
theorem zp_sk6 {i : Nat} (h : K i = 6 ∨ K i = 7) : zp_sk K (i + 1) = (i, 0) :: zp_sk K i := by
  show (if K i = 6 ∨ K i = 7 then (i, 0) :: zp_sk K i else if K i = 0 then zp_pop K i (zp_sk K i) else zp_sk K i) = _
  rw [if_pos h]
theorem zp_sk0 {i : Nat} (h : K i = 0) : zp_sk K (i + 1) = zp_pop K i (zp_sk K i) := by
  show (if K i = 6 ∨ K i = 7 then (i, 0) :: zp_sk K i else if K i = 0 then zp_pop K i (zp_sk K i) else zp_sk K i) = _
  rw [if_neg (by rw [h]; decide), if_pos h]
theorem zp_skp {i : Nat} (h : ¬ zp_B (K i)) : zp_sk K (i + 1) = zp_sk K i := by
  show (if K i = 6 ∨ K i = 7 then (i, 0) :: zp_sk K i else if K i = 0 then zp_pop K i (zp_sk K i) else zp_sk K i) = _
  rw [if_neg (fun z => h (Or.inr z)), if_neg (fun z => h (Or.inl z))]
theorem zp_pop2 {i o t : Nat} {r : List (Nat × Nat)} (h : K o = 6 ∧ t = 0) : zp_pop K i ((o, t) :: r) = (o, i) :: r := if_pos h
theorem zp_pop1 {i o t : Nat} {r : List (Nat × Nat)} (h : ¬ (K o = 6 ∧ t = 0)) : zp_pop K i ((o, t) :: r) = r := if_neg h
theorem zp_bk_mono {i j : Nat} (h : i ≤ j) : zp_bk K i ≤ zp_bk K j := by
  induction j with
  | zero => have : i = 0 := by omega
            subst this; exact Nat.le_refl _
  | succ j ih =>
    rcases Nat.lt_or_ge j i with z | z
    · have : i = j + 1 := by omega
      subst this; exact Nat.le_refl _
    · refine Nat.le_trans (ih z) ?_
      show zp_bk K j ≤ zp_bk K j + _
      exact Nat.le_add_right _ _
theorem zp_bk_le (i : Nat) : zp_bk K i ≤ i := by
  induction i with
  | zero => exact Nat.le_refl _
  | succ i ih =>
    by_cases h : zp_B (K i)
    · rw [zp_bk_b h]; omega
    · rw [zp_bk_n h]; omega
theorem zp_bk_lt {j s : Nat} (h : zp_B (K j)) (hj : j < s) : zp_bk K j + 1 ≤ zp_bk K s := by
  rw [← zp_bk_b h]; exact zp_bk_mono hj
theorem zp_ls_some {p s : Nat} (h : zp_ls K p = some s) : s < p ∧ zp_B (K s) ∧ zp_bk K p = zp_bk K s + 1 := by
  induction p with
  | zero => cases h
  | succ p ih =>
    by_cases hb : zp_B (K p)
    · rw [zp_ls_b hb] at h
      injection h with h
      subst h
      exact ⟨by omega, hb, zp_bk_b hb⟩
    · rw [zp_ls_n hb] at h
      have I := ih h
      exact ⟨by omega, I.2.1, by rw [zp_bk_n hb]; exact I.2.2⟩
theorem zp_ls_none {p : Nat} (h : zp_ls K p = none) : zp_bk K p = 0 := by
  induction p with
  | zero => rfl
  | succ p ih =>
    by_cases hb : zp_B (K p)
    · rw [zp_ls_b hb] at h; cases h
    · rw [zp_ls_n hb] at h
      rw [zp_bk_n hb]; exact ih h
theorem zp_ls_eq {p q : Nat} (hpq : p ≤ q) (h : zp_bk K p = zp_bk K q) : zp_ls K q = zp_ls K p := by
  induction q with
  | zero => have : p = 0 := by omega
            subst this; rfl
  | succ q ih =>
    rcases Nat.lt_or_ge q p with z | z
    · have : p = q + 1 := by omega
      subst this; rfl
    · by_cases hb : zp_B (K q)
      · have a := zp_bk_mono (K := K) z
        rw [zp_bk_b hb] at h; omega
      · rw [zp_bk_n hb] at h
        rw [zp_ls_n hb]; exact ih z h
theorem zp_st : ∀ n o t r, zp_sk K n = (o, t) :: r → o < n ∧ (K o = 6 ∨ K o = 7) ∧ r = zp_sk K o ∧ (t ≠ 0 → K o = 6 ∧ o < t ∧ t < n ∧ K t = 0 ∧ zp_sk K t = (o, 0) :: r) := by
  intro n
  induction n using Nat.strongRecOn with
  | ind n ih =>
    intro o t r h
    cases n with
    | zero => cases h
    | succ n =>
      by_cases h6 : K n = 6 ∨ K n = 7
      · rw [zp_sk6 h6] at h
        injection h with h1 h2
        injection h1 with h3 h4
        subst h3 h4 h2
        exact ⟨by omega, h6, rfl, fun z => absurd rfl z⟩
      · by_cases h0 : K n = 0
        · rw [zp_sk0 h0] at h
          cases hs : zp_sk K n with
          | nil => rw [hs] at h; cases h
          | cons e r1 =>
            obtain ⟨o1, t1⟩ := e
            have I := ih n (Nat.lt_succ_self n) o1 t1 r1 hs
            rw [hs] at h
            by_cases hc : K o1 = 6 ∧ t1 = 0
            · rw [zp_pop2 hc] at h
              injection h with h1 h2
              injection h1 with h3 h4
              subst h3 h4 h2
              refine ⟨by omega, I.2.1, I.2.2.1, fun _ => ⟨hc.1, I.1, by omega, h0, ?_⟩⟩
              rw [hs, hc.2]
            · rw [zp_pop1 hc, I.2.2.1] at h
              have J := ih o1 (by omega) o t r h
              exact ⟨by omega, J.2.1, J.2.2.1, fun ht => ⟨(J.2.2.2 ht).1, (J.2.2.2 ht).2.1, by have := (J.2.2.2 ht).2.2.1; omega, (J.2.2.2 ht).2.2.2⟩⟩
        · rw [zp_skp (by intro z; rcases z with z | z; exact h0 z; exact h6 z)] at h
          have J := ih n (Nat.lt_succ_self n) o t r h
          exact ⟨by omega, J.2.1, J.2.2.1, fun ht => ⟨(J.2.2.2 ht).1, (J.2.2.2 ht).2.1, by have := (J.2.2.2 ht).2.2.1; omega, (J.2.2.2 ht).2.2.2⟩⟩
theorem zp_over : ∀ n o t r, zp_sk K n = (o, t) :: r → ∀ e, o < e → e ≤ n → ∃ x s q, zp_sk K e = (x, s) :: q ∧ o ≤ x := by
  intro n
  induction n using Nat.strongRecOn with
  | ind n ih =>
    intro o t r h e he hen
    rcases Nat.lt_or_ge e n with hlt | hge
    · cases n with
      | zero => omega
      | succ n =>
        by_cases h6 : K n = 6 ∨ K n = 7
        · rw [zp_sk6 h6] at h
          injection h with h1 h2
          injection h1 with h3 h4
          omega
        · by_cases h0 : K n = 0
          · rw [zp_sk0 h0] at h
            cases hs : zp_sk K n with
            | nil => rw [hs] at h; cases h
            | cons e1 r1 =>
              obtain ⟨o1, t1⟩ := e1
              have I := zp_st n o1 t1 r1 hs
              rw [hs] at h
              by_cases hc : K o1 = 6 ∧ t1 = 0
              · rw [zp_pop2 hc] at h
                injection h with h1 h2
                injection h1 with h3 h4
                subst h3
                exact ih n (Nat.lt_succ_self n) o1 t1 r1 hs e he (by omega)
              · rw [zp_pop1 hc, I.2.2.1] at h
                have J := zp_st o1 o t r h
                rcases Nat.lt_or_ge o1 e with z | z
                · obtain ⟨x, s, q, hx, hxo⟩ := ih n (Nat.lt_succ_self n) o1 t1 r1 hs e z (by omega)
                  exact ⟨x, s, q, hx, by omega⟩
                · exact ih o1 (by omega) o t r h e he z
          · rw [zp_skp (by intro z; rcases z with z | z; exact h0 z; exact h6 z)] at h
            exact ih n (Nat.lt_succ_self n) o t r h e he (by omega)
    · have : e = n := by omega
      subst this
      exact ⟨o, t, r, h, Nat.le_refl _⟩
theorem zp_top_c {i o t : Nat} {r : List (Nat × Nat)} (h : zp_sk K i = (o, t) :: r) : zp_top K i = some o := by
  unfold zp_top; rw [h]; rfl
theorem zp_top_e {i : Nat} (h : zp_sk K i = []) : zp_top K i = none := by
  unfold zp_top; rw [h]; rfl
theorem zp_top_s {i o : Nat} (h : zp_top K i = some o) : ∃ t r, zp_sk K i = (o, t) :: r := by
  unfold zp_top at h
  cases hs : zp_sk K i with
  | nil => rw [hs] at h; cases h
  | cons e r =>
    obtain ⟨x, t⟩ := e
    rw [hs] at h
    injection h with h
    exact ⟨t, r, by rw [← h]⟩
theorem zp_top_lt {i o : Nat} (h : zp_top K i = some o) : o < i := by
  obtain ⟨t, r, hs⟩ := zp_top_s h
  exact (zp_st i o t r hs).1
end
def zp_ac (K : Nat → Int32) (o n : Nat) : List Nat := (List.range n).filter (fun e => decide (K e = 0 ∧ zp_top K e = some o))
section
variable {K : Nat → Int32}
theorem zp_ac_s (o n : Nat) : zp_ac K o (n + 1) = zp_ac K o n ++ (if K n = 0 ∧ zp_top K n = some o then [n] else []) := by
  unfold zp_ac
  rw [List.range_succ, List.filter_append, List.filter_cons, List.filter_nil]
  simp only [decide_eq_true_eq]
theorem zp_ac_y {o n : Nat} (h : K n = 0 ∧ zp_top K n = some o) : zp_ac K o (n + 1) = zp_ac K o n ++ [n] := by
  rw [zp_ac_s, if_pos h]
theorem zp_ac_n {o n : Nat} (h : ¬ (K n = 0 ∧ zp_top K n = some o)) : zp_ac K o (n + 1) = zp_ac K o n := by
  rw [zp_ac_s, if_neg h, List.append_nil]
theorem zp_ac_no {o a : Nat} : ∀ b, a ≤ b → (∀ e, a ≤ e → e < b → ¬ (K e = 0 ∧ zp_top K e = some o)) → zp_ac K o b = zp_ac K o a := by
  intro b
  induction b with
  | zero => intro h _; have : a = 0 := by omega
            subst this; rfl
  | succ b ih =>
    intro h hn
    rcases Nat.lt_or_ge b a with z | z
    · have : a = b + 1 := by omega
      subst this; rfl
    · rw [zp_ac_n (hn b z (by omega))]
      exact ih z (fun e h1 h2 => hn e h1 (by omega))
theorem zp_ac_lo {o : Nat} : zp_ac K o (o + 1) = [] := by
  have := zp_ac_no (K := K) (o := o) (a := 0) (o + 1) (by omega) (fun e _ h2 hz => by have := zp_top_lt hz.2; omega)
  rw [this]; rfl
theorem zp_ac_pre {o m n : Nat} (h : m ≤ n) : ∃ l, zp_ac K o n = zp_ac K o m ++ l := by
  induction n with
  | zero => have : m = 0 := by omega
            subst this; exact ⟨[], by rw [List.append_nil]⟩
  | succ n ih =>
    rcases Nat.lt_or_ge n m with z | z
    · have : m = n + 1 := by omega
      subst this; exact ⟨[], by rw [List.append_nil]⟩
    · obtain ⟨l, hl⟩ := ih z
      exact ⟨l ++ (if K n = 0 ∧ zp_top K n = some o then [n] else []), by rw [zp_ac_s, hl, List.append_assoc]⟩
theorem zp_ac_top : ∀ n o t r, zp_sk K n = (o, t) :: r → zp_ac K o n = if t = 0 then [] else [t] := by
  intro n
  induction n using Nat.strongRecOn with
  | ind n ih =>
    intro o t r h
    cases n with
    | zero => cases h
    | succ n =>
      by_cases h6 : K n = 6 ∨ K n = 7
      · rw [zp_sk6 h6] at h
        injection h with h1 h2
        injection h1 with h3 h4
        subst h3 h4
        rw [zp_ac_lo, if_pos rfl]
      · by_cases h0 : K n = 0
        · rw [zp_sk0 h0] at h
          cases hs : zp_sk K n with
          | nil => rw [hs] at h; cases h
          | cons e r1 =>
            obtain ⟨o1, t1⟩ := e
            have I := zp_st n o1 t1 r1 hs
            rw [hs] at h
            by_cases hc : K o1 = 6 ∧ t1 = 0
            · rw [zp_pop2 hc] at h
              injection h with h1 h2
              injection h1 with h3 h4
              subst h3 h4 h2
              rw [zp_ac_y ⟨h0, zp_top_c hs⟩, ih n (Nat.lt_succ_self n) o1 t1 r1 hs, if_pos hc.2, if_neg (by omega)]
              rfl
            · rw [zp_pop1 hc, I.2.2.1] at h
              have J := zp_st o1 o t r h
              rw [zp_ac_no (a := o1) (n + 1) (by omega) ?_]
              · exact ih o1 (by omega) o t r h
              · intro e h1 h2 hz
                rcases Nat.lt_or_ge o1 e with z | z
                · obtain ⟨x, s, q, hx, hxo⟩ := zp_over n o1 t1 r1 hs e z (by omega)
                  have := zp_top_c hx
                  rw [hz.2] at this
                  injection this with this
                  omega
                · have : e = o1 := by omega
                  subst this
                  rcases I.2.1 with k | k <;> rw [hz.1] at k <;> exact absurd k (by decide)
        · rw [zp_skp (by intro z; rcases z with z | z; exact h0 z; exact h6 z)] at h
          rw [zp_ac_n (fun z => h0 z.1)]
          exact ih n (Nat.lt_succ_self n) o t r h
theorem zp_cl : ∀ n o, o < n → (K o = 6 ∨ K o = 7) → (∃ t, (o, t) ∈ zp_sk K n) ∨ (K o = 7 ∧ ∃ e, zp_ac K o n = [e]) ∨ (K o = 6 ∧ ∃ t e, zp_ac K o n = [t, e]) := by
  intro n
  induction n with
  | zero => intro o h; omega
  | succ n ih =>
    intro o ho hk
    by_cases h6 : K n = 6 ∨ K n = 7
    · rcases Nat.lt_or_ge o n with z | z
      · rw [zp_ac_n (by rintro ⟨z, _⟩; rw [z] at h6; exact absurd h6 (by decide)), zp_sk6 h6]
        rcases ih o z hk with ⟨t, h⟩ | h
        · exact Or.inl ⟨t, List.mem_cons_of_mem _ h⟩
        · exact Or.inr h
      · have : o = n := by omega
        subst this
        rw [zp_sk6 h6]
        exact Or.inl ⟨0, List.mem_cons_self⟩
    · by_cases h0 : K n = 0
      · have hon : o < n := by
          rcases Nat.lt_or_ge o n with z | z
          · exact z
          · have : o = n := by omega
            subst this; exact absurd hk h6
        cases hs : zp_sk K n with
        | nil =>
          rw [zp_ac_n (by rintro ⟨_, z⟩; rw [zp_top_e hs] at z; cases z), zp_sk0 h0, hs]
          rcases ih o hon hk with ⟨t, h⟩ | h
          · rw [hs] at h; cases h
          · exact Or.inr h
        | cons e r1 =>
          obtain ⟨o1, t1⟩ := e
          have I := zp_st n o1 t1 r1 hs
          have T := zp_ac_top n o1 t1 r1 hs
          by_cases ho1 : o = o1
          · subst ho1
            rw [zp_ac_y ⟨h0, zp_top_c hs⟩, T, zp_sk0 h0, hs]
            by_cases hc : K o = 6 ∧ t1 = 0
            · rw [zp_pop2 hc]; exact Or.inl ⟨n, List.mem_cons_self⟩
            · rw [zp_pop1 hc]
              refine Or.inr ?_
              by_cases ht : t1 = 0
              · rw [if_pos ht]
                rcases hk with k | k
                · exact absurd ⟨k, ht⟩ hc
                · exact Or.inl ⟨k, n, rfl⟩
              · rw [if_neg ht]
                exact Or.inr ⟨(I.2.2.2 ht).1, t1, n, rfl⟩
          · rw [zp_ac_n (by rintro ⟨_, z⟩; rw [zp_top_c hs] at z; injection z with z; exact ho1 z.symm), zp_sk0 h0, hs]
            rcases ih o hon hk with ⟨t, h⟩ | h
            · rw [hs] at h
              have hr : (o, t) ∈ r1 := by
                rcases List.mem_cons.mp h with z | z
                · injection z with z1 z2; exact absurd z1 ho1
                · exact z
              by_cases hc : K o1 = 6 ∧ t1 = 0
              · rw [zp_pop2 hc]; exact Or.inl ⟨t, List.mem_cons_of_mem _ hr⟩
              · rw [zp_pop1 hc]; exact Or.inl ⟨t, hr⟩
            · exact Or.inr h
      · have hon : o < n := by
          rcases Nat.lt_or_ge o n with z | z
          · exact z
          · have : o = n := by omega
            subst this; exact absurd hk h6
        rw [zp_ac_n (fun z => h0 z.1), zp_skp (by intro z; rcases z with z | z; exact h0 z; exact h6 z)]
        exact ih o hon hk
/-- the search for the opener, going back with a count of ends -/
theorem zp_fd_0 {j e : Nat} (h : K j = 0) (he : 1 ≤ e) : zp_fd K (zp_sk K j) (e + 1) = zp_fd K (zp_sk K (j + 1)) e := by
  rw [zp_sk0 h]
  cases hs : zp_sk K j with
  | nil => rfl
  | cons x r =>
    obtain ⟨o, t⟩ := x
    by_cases hc : K o = 6 ∧ t = 0
    · rw [zp_pop2 hc]
      have hj : ¬ (K o = 6 ∧ j = 0) := by
        have := (zp_st j o t r hs).1
        intro z; omega
      have e2 : zp_w K o t = 2 := if_pos hc
      have e1 : zp_w K o j = 1 := if_neg hj
      show (if e + 1 ≤ zp_w K o t then some o else zp_fd K r (e + 1 - zp_w K o t)) = (if e ≤ zp_w K o j then some o else zp_fd K r (e - zp_w K o j))
      rw [e1, e2]
      by_cases h1 : e ≤ 1
      · rw [if_pos (by omega), if_pos h1]
      · rw [if_neg (by omega), if_neg h1]; rfl
    · rw [zp_pop1 hc]
      have e1 : zp_w K o t = 1 := if_neg hc
      show (if e + 1 ≤ zp_w K o t then some o else zp_fd K r (e + 1 - zp_w K o t)) = _
      rw [e1, if_neg (by omega)]; rfl
theorem zp_fd_7 {j e : Nat} (h : K j = 7) : zp_fd K (zp_sk K (j + 1)) e = if e ≤ 1 then some j else zp_fd K (zp_sk K j) (e - 1) := by
  rw [zp_sk6 (Or.inr h)]
  have e1 : zp_w K j 0 = 1 := if_neg (by rw [h]; decide)
  show (if e ≤ zp_w K j 0 then some j else zp_fd K (zp_sk K j) (e - zp_w K j 0)) = _
  rw [e1]
theorem zp_fd_6 {j e : Nat} (h : K j = 6) : zp_fd K (zp_sk K (j + 1)) e = if e ≤ 2 then some j else zp_fd K (zp_sk K j) (e - 2) := by
  rw [zp_sk6 (Or.inl h)]
  have e1 : zp_w K j 0 = 2 := if_pos ⟨h, rfl⟩
  show (if e ≤ zp_w K j 0 then some j else zp_fd K (zp_sk K j) (e - zp_w K j 0)) = _
  rw [e1]
theorem zp_w1 (o t : Nat) : 1 ≤ zp_w K o t := by
  unfold zp_w
  by_cases h : K o = 6 ∧ t = 0
  · rw [if_pos h]; omega
  · rw [if_neg h]; omega
theorem zp_fd_1 (i : Nat) : zp_fd K (zp_sk K i) 1 = zp_top K i := by
  cases hs : zp_sk K i with
  | nil => rw [zp_top_e hs]; rfl
  | cons x r =>
    obtain ⟨o, t⟩ := x
    rw [zp_top_c hs]
    exact if_pos (zp_w1 o t)
/-- what is owed grows and falls by the kinds -/
theorem zp_fi_s {n : Nat} (h : zp_fi K n = false) : zp_fi K (n + 1) = decide (K n = 0 ∧ zp_sk K n = []) := by
  show (zp_fi K n || decide (K n = 0 ∧ zp_sk K n = [])) = _
  rw [h, Bool.false_or]
theorem zp_fi_of {n : Nat} (h : zp_fi K (n + 1) = false) : zp_fi K n = false := by
  have h' : (zp_fi K n || decide (K n = 0 ∧ zp_sk K n = [])) = false := h
  exact (Bool.or_eq_false_iff.mp h').1
theorem zp_ow_f {n : Nat} (h : zp_fi K n = false) : zp_ow K n = 1 + zp_wt K (zp_sk K n) := by
  unfold zp_ow; rw [h]; rfl
theorem zp_ow_t {n : Nat} (h : zp_fi K n = true) : zp_ow K n = 0 := by
  unfold zp_ow; rw [h]; rfl
theorem zp_fi_n {n : Nat} (h : zp_fi K n = false) (hk : ¬ (K n = 0 ∧ zp_sk K n = [])) : zp_fi K (n + 1) = false := by
  rw [zp_fi_s h, decide_eq_false hk]
theorem zp_ow_6 {n : Nat} (hf : zp_fi K n = false) (h : K n = 6) : zp_ow K (n + 1) = zp_ow K n + 2 := by
  rw [zp_ow_f hf, zp_ow_f (zp_fi_n hf (by rintro ⟨z, _⟩; rw [h] at z; exact absurd z (by decide))), zp_sk6 (Or.inl h)]
  show 1 + (zp_w K n 0 + zp_wt K (zp_sk K n)) = _
  rw [show zp_w K n 0 = 2 from if_pos ⟨h, rfl⟩]; omega
theorem zp_ow_7 {n : Nat} (hf : zp_fi K n = false) (h : K n = 7) : zp_ow K (n + 1) = zp_ow K n + 1 := by
  rw [zp_ow_f hf, zp_ow_f (zp_fi_n hf (by rintro ⟨z, _⟩; rw [h] at z; exact absurd z (by decide))), zp_sk6 (Or.inr h)]
  show 1 + (zp_w K n 0 + zp_wt K (zp_sk K n)) = _
  rw [show zp_w K n 0 = 1 from if_neg (by rw [h]; decide)]; omega
theorem zp_ow_p {n : Nat} (hf : zp_fi K n = false) (h : ¬ zp_B (K n)) : zp_ow K (n + 1) = zp_ow K n := by
  rw [zp_ow_f hf, zp_ow_f (zp_fi_n hf (fun z => h (Or.inl z.1))), zp_skp h]
theorem zp_ow_0 {n : Nat} (hf : zp_fi K n = false) (h : K n = 0) : zp_ow K n = zp_ow K (n + 1) + 1 := by
  cases hs : zp_sk K n with
  | nil =>
    rw [zp_ow_f hf, hs, zp_ow_t (by rw [zp_fi_s hf, decide_eq_true ⟨h, hs⟩])]; rfl
  | cons x r =>
    obtain ⟨o, t⟩ := x
    rw [zp_ow_f hf, zp_ow_f (zp_fi_n hf (by rintro ⟨_, z⟩; rw [hs] at z; cases z)), zp_sk0 h, hs]
    by_cases hc : K o = 6 ∧ t = 0
    · rw [zp_pop2 hc]
      have hj : ¬ (K o = 6 ∧ n = 0) := by
        have := (zp_st n o t r hs).1
        intro z; omega
      show 1 + (zp_w K o t + zp_wt K r) = 1 + (zp_w K o n + zp_wt K r) + 1
      rw [show zp_w K o t = 2 from if_pos hc, show zp_w K o n = 1 from if_neg hj]; omega
    · rw [zp_pop1 hc]
      show 1 + (zp_w K o t + zp_wt K r) = 1 + zp_wt K r + 1
      rw [show zp_w K o t = 1 from if_neg hc]; omega
theorem zp_ow_pos {n : Nat} : zp_ow K n = 0 ↔ zp_fi K n = true := by
  constructor
  · intro h
    cases hf : zp_fi K n with
    | true => rfl
    | false => rw [zp_ow_f hf] at h; omega
  · exact zp_ow_t
end
end
section
/-! dominators, chains, merge views, typed items -/
def zp_dp (K : Nat → Int32) (s : Nat) : Option Nat := if K s = 0 then (zp_top K s).bind (fun o => if K o = 6 then some o else some s) else some s
def zp_dq (K : Nat → Int32) (p : Nat) : Option Nat := (zp_ls K p).bind (zp_dp K)
def zp_el (K : Nat → Int32) (s : Nat) : Option (Nat × Nat) := if K s = 0 then (zp_sk K s).head?.bind (fun e => if K e.1 = 6 ∧ e.2 ≠ 0 then some e else none) else none
def zp_mA (K : Nat → Int32) (p : Nat) : Option Nat := (zp_ls K p).bind (fun s => if K s = 7 then some s else (zp_el K s).map Prod.snd)
def zp_mB (K : Nat → Int32) (p : Nat) : Option Nat := (zp_ls K p).bind (fun s => (zp_el K s).map (fun _ => s))
def zp_jf (K : Nat → Int32) (p : Nat) : Option Nat := (zp_ls K p).bind (fun s => (zp_el K s).map Prod.fst)
def zp_og (K : Nat → Int32) (p : Nat) : Option Nat := (zp_ls K p).bind (fun s => if K s = 7 then some s else (zp_el K s).map Prod.fst)
def zp_cf (K : Nat → Int32) : Nat → Nat → List Nat
  | 0, _ => []
  | f + 1, p => zp_bk K p :: (zp_dq K p).elim [] (zp_cf K f)
def zp_ch (K : Nat → Int32) (p : Nat) : List Nat := zp_cf K (p + 1) p
def zp_ty (k : Int32) : Nat := if k = 1 ∨ k = 2 ∨ k = 3 ∨ k = 8 ∨ k = 11 then 1 else if k = 4 ∨ k = 5 ∨ k = 9 then 2 else 0
def zp_it (K : Nat → Int32) (t b n : Nat) : List Nat := (List.range n).filter (fun i => decide (zp_bk K i = b ∧ zp_ty (K i) = t))
def zp_hq (K : Nat → Int32) (n t : Nat) : Nat → Bool := fun b => decide (zp_it K t b n ≠ [])
def zp_ct (K : Nat → Int32) (n t p : Nat) : List Nat := (zp_ch K p).filter (zp_hq K n t)
section
variable {K : Nat → Int32}
theorem zp_el_some {s o t : Nat} (h : zp_el K s = some (o, t)) : K s = 0 ∧ ∃ r, zp_sk K s = (o, t) :: r ∧ K o = 6 ∧ t ≠ 0 := by
  unfold zp_el at h
  by_cases h0 : K s = 0
  · rw [if_pos h0] at h
    cases hs : zp_sk K s with
    | nil => rw [hs] at h; cases h
    | cons e r =>
      rw [hs] at h
      obtain ⟨a, b⟩ := e
      have h' : (if K a = 6 ∧ b ≠ 0 then some (a, b) else none) = some (o, t) := h
      by_cases hc : K a = 6 ∧ b ≠ 0
      · rw [if_pos hc] at h'
        injection h' with h'
        injection h' with h1 h2
        subst h1 h2
        exact ⟨h0, r, rfl, hc.1, hc.2⟩
      · rw [if_neg hc] at h'; cases h'
  · rw [if_neg h0] at h; cases h
theorem zp_el_of {s o t : Nat} {r : List (Nat × Nat)} (h0 : K s = 0) (hs : zp_sk K s = (o, t) :: r) (h6 : K o = 6) (ht : t ≠ 0) : zp_el K s = some (o, t) := by
  unfold zp_el
  rw [if_pos h0, hs]
  show (if K o = 6 ∧ t ≠ 0 then some (o, t) else none) = _
  rw [if_pos ⟨h6, ht⟩]
theorem zp_el_no {s : Nat} (h : ¬ (K s = 0 ∧ ∃ o t r, zp_sk K s = (o, t) :: r ∧ K o = 6 ∧ t ≠ 0)) : zp_el K s = none := by
  cases he : zp_el K s with
  | none => rfl
  | some e =>
    obtain ⟨o, t⟩ := e
    obtain ⟨a, r, b⟩ := zp_el_some he
    exact absurd ⟨a, o, t, r, b⟩ h
/-- the three kinds of block -/
theorem zp_cls (K : Nat → Int32) (p : Nat) : (zp_og K p = none ∧ zp_mA K p = none ∧ zp_mB K p = none ∧ zp_jf K p = none) ∨ (∃ o, zp_ls K p = some o ∧ K o = 7 ∧ zp_og K p = some o ∧ zp_mA K p = some o ∧ zp_mB K p = none ∧ zp_jf K p = none) ∨ (∃ s o t r, zp_ls K p = some s ∧ K s = 0 ∧ zp_sk K s = (o, t) :: r ∧ K o = 6 ∧ t ≠ 0 ∧ zp_og K p = some o ∧ zp_mA K p = some t ∧ zp_mB K p = some s ∧ zp_jf K p = some o) := by
  unfold zp_og zp_mA zp_mB zp_jf
  cases hl : zp_ls K p with
  | none => exact Or.inl ⟨rfl, rfl, rfl, rfl⟩
  | some s =>
    simp only [Option.bind_some]
    by_cases h7 : K s = 7
    · have he : zp_el K s = none := zp_el_no (by rintro ⟨z, _⟩; rw [h7] at z; exact absurd z (by decide))
      rw [if_pos h7, if_pos h7, he]
      exact Or.inr (Or.inl ⟨s, rfl, h7, rfl, rfl, rfl, rfl⟩)
    · rw [if_neg h7, if_neg h7]
      cases he : zp_el K s with
      | none => exact Or.inl ⟨rfl, rfl, rfl, rfl⟩
      | some e =>
        obtain ⟨o, t⟩ := e
        obtain ⟨h0, r, hs, h6, ht⟩ := zp_el_some he
        exact Or.inr (Or.inr ⟨s, o, t, r, rfl, h0, hs, h6, ht, rfl, rfl, rfl, rfl⟩)
theorem zp_dp_le {s q : Nat} (h : zp_dp K s = some q) : q ≤ s := by
  unfold zp_dp at h
  by_cases h0 : K s = 0
  · rw [if_pos h0] at h
    cases ht : zp_top K s with
    | none => rw [ht] at h; cases h
    | some o =>
      rw [ht] at h
      have h' : (if K o = 6 then some o else some s) = some q := h
      have := zp_top_lt ht
      by_cases h6 : K o = 6
      · rw [if_pos h6] at h'; injection h' with h'; omega
      · rw [if_neg h6] at h'; injection h' with h'; omega
  · rw [if_neg h0] at h; injection h with h; omega
theorem zp_dp_b {s : Nat} (h : ¬ K s = 0) : zp_dp K s = some s := by unfold zp_dp; rw [if_neg h]
theorem zp_dp_6 {s o : Nat} (h : K s = 0) (ht : zp_top K s = some o) (h6 : K o = 6) : zp_dp K s = some o := by
  unfold zp_dp; rw [if_pos h, ht]
  show (if K o = 6 then some o else some s) = _
  rw [if_pos h6]
theorem zp_dp_7 {s o : Nat} (h : K s = 0) (ht : zp_top K s = some o) (h6 : ¬ K o = 6) : zp_dp K s = some s := by
  unfold zp_dp; rw [if_pos h, ht]
  show (if K o = 6 then some o else some s) = _
  rw [if_neg h6]
theorem zp_dp_e {s : Nat} (h : K s = 0) (ht : zp_top K s = none) : zp_dp K s = none := by
  unfold zp_dp; rw [if_pos h, ht]; rfl
theorem zp_dq_s {p s : Nat} (h : zp_ls K p = some s) : zp_dq K p = zp_dp K s := by unfold zp_dq; rw [h]; rfl
theorem zp_dq_n {p : Nat} (h : zp_ls K p = none) : zp_dq K p = none := by unfold zp_dq; rw [h]; rfl
theorem zp_dq_lt {p q : Nat} (h : zp_dq K p = some q) : q < p ∧ zp_bk K q < zp_bk K p := by
  cases hl : zp_ls K p with
  | none => rw [zp_dq_n hl] at h; cases h
  | some s =>
    rw [zp_dq_s hl] at h
    have a := zp_ls_some hl
    have b := zp_dp_le h
    have c := zp_bk_mono (K := K) b
    omega
theorem zp_cf_eq : ∀ f g p, p < f → p < g → zp_cf K f p = zp_cf K g p := by
  intro f
  induction f with
  | zero => intro g p h; omega
  | succ f ih =>
    intro g p hf hg
    cases g with
    | zero => omega
    | succ g =>
      show zp_bk K p :: (zp_dq K p).elim [] (zp_cf K f) = zp_bk K p :: (zp_dq K p).elim [] (zp_cf K g)
      cases hd : zp_dq K p with
      | none => rfl
      | some q =>
        have := (zp_dq_lt hd).1
        show _ :: zp_cf K f q = _ :: zp_cf K g q
        rw [ih g q (by omega) (by omega)]
theorem zp_ch_n {p : Nat} (h : zp_dq K p = none) : zp_ch K p = [zp_bk K p] := by
  show zp_bk K p :: (zp_dq K p).elim [] (zp_cf K p) = _
  rw [h]; rfl
theorem zp_ch_s {p q : Nat} (h : zp_dq K p = some q) : zp_ch K p = zp_bk K p :: zp_ch K q := by
  show zp_bk K p :: (zp_dq K p).elim [] (zp_cf K p) = _
  rw [h]
  show _ :: zp_cf K p q = _ :: zp_cf K (q + 1) q
  rw [zp_cf_eq p (q + 1) q (zp_dq_lt h).1 (by omega)]
theorem zp_ch_hd (p : Nat) : zp_bk K p ∈ zp_ch K p := by
  cases h : zp_dq K p with
  | none => rw [zp_ch_n h]; exact List.mem_cons_self
  | some q => rw [zp_ch_s h]; exact List.mem_cons_self
theorem zp_ch_le : ∀ p b, b ∈ zp_ch K p → b ≤ zp_bk K p := by
  intro p
  induction p using Nat.strongRecOn with
  | ind p ih =>
    intro b hb
    cases h : zp_dq K p with
    | none => rw [zp_ch_n h] at hb; rw [List.mem_singleton.mp hb]; exact Nat.le_refl _
    | some q =>
      rw [zp_ch_s h] at hb
      have a := zp_dq_lt h
      rcases List.mem_cons.mp hb with z | z
      · rw [z]; exact Nat.le_refl _
      · have := ih q a.1 b z
        omega
theorem zp_ch_nd : ∀ p, (zp_ch K p).Nodup := by
  intro p
  induction p using Nat.strongRecOn with
  | ind p ih =>
    cases h : zp_dq K p with
    | none => rw [zp_ch_n h]; exact List.nodup_cons.mpr ⟨List.not_mem_nil, List.nodup_nil⟩
    | some q =>
      rw [zp_ch_s h]
      have a := zp_dq_lt h
      refine List.nodup_cons.mpr ⟨fun z => ?_, ih q a.1⟩
      have := zp_ch_le q _ z
      omega
theorem zp_ch_len : ∀ p, (zp_ch K p).length ≤ zp_bk K p + 1 := by
  intro p
  induction p using Nat.strongRecOn with
  | ind p ih =>
    cases h : zp_dq K p with
    | none => rw [zp_ch_n h]; show 1 ≤ _; omega
    | some q =>
      rw [zp_ch_s h]
      have a := zp_dq_lt h
      have b := ih q a.1
      show (zp_ch K q).length + 1 ≤ _
      omega
theorem zp_ch_p {p : Nat} (h : ¬ zp_B (K p)) : zp_ch K (p + 1) = zp_ch K p := by
  have e : zp_dq K (p + 1) = zp_dq K p := by unfold zp_dq; rw [zp_ls_n h]
  cases hd : zp_dq K p with
  | none => rw [hd] at e; rw [zp_ch_n hd, zp_ch_n e, zp_bk_n h]
  | some q => rw [hd] at e; rw [zp_ch_s hd, zp_ch_s e, zp_bk_n h]
/-- the chain of an item still to be ended ends the chain of every place under it -/
theorem zp_ch_sub : ∀ p o, zp_top K p = some o → ∃ l, zp_ch K p = l ++ zp_ch K o := by
  intro p
  induction p using Nat.strongRecOn with
  | ind p ih =>
    intro o ht
    cases p with
    | zero => obtain ⟨t, r, hs⟩ := zp_top_s ht; cases hs
    | succ p =>
      by_cases h6 : K p = 6 ∨ K p = 7
      · have hb : zp_B (K p) := Or.inr h6
        have h0 : ¬ K p = 0 := by intro z; rw [z] at h6; exact absurd h6 (by decide)
        have e := zp_top_c (zp_sk6 h6)
        rw [e] at ht
        injection ht with ht
        subst ht
        exact ⟨[zp_bk K (p + 1)], zp_ch_s (by rw [zp_dq_s (zp_ls_b hb), zp_dp_b h0])⟩
      · by_cases h0 : K p = 0
        · have hb : zp_B (K p) := Or.inl h0
          cases hs : zp_sk K p with
          | nil => rw [zp_top_e (by rw [zp_sk0 h0, hs]; rfl)] at ht; cases ht
          | cons e r1 =>
            obtain ⟨o1, t1⟩ := e
            have I := zp_st p o1 t1 r1 hs
            by_cases hc : K o1 = 6 ∧ t1 = 0
            · have e : zp_sk K (p + 1) = (o1, p) :: r1 := by rw [zp_sk0 h0, hs, zp_pop2 hc]
              rw [zp_top_c e] at ht
              injection ht with ht
              subst ht
              exact ⟨[zp_bk K (p + 1)], zp_ch_s (by rw [zp_dq_s (zp_ls_b hb), zp_dp_6 h0 (zp_top_c hs) hc.1])⟩
            · have e : zp_sk K (p + 1) = zp_sk K o1 := by rw [zp_sk0 h0, hs, zp_pop1 hc, I.2.2.1]
              have ht1 : zp_top K o1 = some o := by unfold zp_top at ht ⊢; rw [← e]; exact ht
              obtain ⟨l1, hl1⟩ := ih o1 (by omega) o ht1
              by_cases hk : K o1 = 6
              · exact ⟨zp_bk K (p + 1) :: l1, by rw [zp_ch_s (q := o1) (by rw [zp_dq_s (zp_ls_b hb), zp_dp_6 h0 (zp_top_c hs) hk]), hl1]; rfl⟩
              · obtain ⟨l2, hl2⟩ := ih p (by omega) o1 (zp_top_c hs)
                exact ⟨zp_bk K (p + 1) :: (l2 ++ l1), by rw [zp_ch_s (q := p) (by rw [zp_dq_s (zp_ls_b hb), zp_dp_7 h0 (zp_top_c hs) hk]), hl2, hl1, List.cons_append, List.append_assoc]⟩
        · have hb : ¬ zp_B (K p) := by intro z; rcases z with z | z; exact h0 z; exact h6 z
          have e : zp_top K (p + 1) = zp_top K p := by unfold zp_top; rw [zp_skp hb]
          rw [e] at ht
          rw [zp_ch_p hb]
          exact ih p (by omega) o ht
/-- items of a type in a block -/
theorem zp_it_s (t b n : Nat) : zp_it K t b (n + 1) = zp_it K t b n ++ (if zp_bk K n = b ∧ zp_ty (K n) = t then [n] else []) := by
  unfold zp_it
  rw [List.range_succ, List.filter_append, List.filter_cons, List.filter_nil]
  simp only [decide_eq_true_eq]
theorem zp_it_y {t b n : Nat} (h : zp_bk K n = b ∧ zp_ty (K n) = t) : zp_it K t b (n + 1) = zp_it K t b n ++ [n] := by rw [zp_it_s, if_pos h]
theorem zp_it_n {t b n : Nat} (h : ¬ (zp_bk K n = b ∧ zp_ty (K n) = t)) : zp_it K t b (n + 1) = zp_it K t b n := by rw [zp_it_s, if_neg h, List.append_nil]
theorem zp_it_mem {t b n v : Nat} : v ∈ zp_it K t b n ↔ v < n ∧ zp_bk K v = b ∧ zp_ty (K v) = t := by
  unfold zp_it
  rw [List.mem_filter, List.mem_range, decide_eq_true_eq]
theorem zp_it_nd (t b n : Nat) : (zp_it K t b n).Nodup := List.Nodup.sublist List.filter_sublist List.nodup_range
theorem zp_it_len (t b n : Nat) : (zp_it K t b n).length ≤ n := by
  have := List.length_filter_le (fun i => decide (zp_bk K i = b ∧ zp_ty (K i) = t)) (List.range n)
  rw [List.length_range] at this
  exact this
theorem zp_it_cut {t b v : Nat} (h : zp_bk K v = b ∧ zp_ty (K v) = t) : ∀ n, v < n → ∃ l, zp_it K t b n = zp_it K t b v ++ v :: l := by
  intro n
  induction n with
  | zero => intro h; omega
  | succ n ih =>
    intro hv
    rcases Nat.lt_or_ge v n with z | z
    · obtain ⟨l, hl⟩ := ih z
      exact ⟨l ++ (if zp_bk K n = b ∧ zp_ty (K n) = t then [n] else []), by rw [zp_it_s, hl, List.append_assoc]; rfl⟩
    · have : v = n := by omega
      subst this
      exact ⟨[], zp_it_y h⟩
theorem zp_it_at {t b v n : Nat} (h : zp_bk K v = b ∧ zp_ty (K v) = t) (hv : v < n) : (zp_it K t b n)[(zp_it K t b v).length]? = some v ∧ (zp_it K t b v).length < (zp_it K t b n).length := by
  obtain ⟨l, hl⟩ := zp_it_cut h n hv
  rw [hl]
  constructor
  · rw [List.getElem?_append_right (Nat.le_refl _), Nat.sub_self]; rfl
  · rw [List.length_append, List.length_cons]; omega
theorem zp_ct_mem {n t p b : Nat} : b ∈ zp_ct K n t p ↔ b ∈ zp_ch K p ∧ zp_it K t b n ≠ [] := by
  unfold zp_ct zp_hq
  rw [List.mem_filter, decide_eq_true_eq]
theorem zp_ct_nd (n t p : Nat) : (zp_ct K n t p).Nodup := List.Nodup.sublist List.filter_sublist (zp_ch_nd p)
theorem zp_ct_len (n t p : Nat) : (zp_ct K n t p).length ≤ zp_bk K p + 1 := Nat.le_trans (List.length_filter_le _ _) (zp_ch_len p)
theorem zp_ct_ne {n t p : Nat} : zp_ct K n t p ≠ [] ↔ ∃ v, v < n ∧ zp_ty (K v) = t ∧ zp_bk K v ∈ zp_ch K p := by
  constructor
  · intro h
    obtain ⟨b, hb⟩ := List.exists_mem_of_ne_nil _ h
    obtain ⟨h1, h2⟩ := zp_ct_mem.mp hb
    obtain ⟨v, hv⟩ := List.exists_mem_of_ne_nil _ h2
    obtain ⟨a, b', c⟩ := zp_it_mem.mp hv
    exact ⟨v, a, c, by rw [b']; exact h1⟩
  · rintro ⟨v, hv, ht, hc⟩
    exact List.ne_nil_of_mem (zp_ct_mem.mpr ⟨hc, List.ne_nil_of_mem (zp_it_mem.mpr ⟨hv, rfl, ht⟩)⟩)
theorem zp_ct_mono {n m t p : Nat} (h : n ≤ m) (hn : zp_ct K n t p ≠ []) : zp_ct K m t p ≠ [] := by
  obtain ⟨v, a, b⟩ := zp_ct_ne.mp hn
  exact zp_ct_ne.mpr ⟨v, by omega, b⟩
theorem zp_ct_up {n t p o : Nat} (ht : zp_top K p = some o) (h : zp_ct K n t o ≠ []) : zp_ct K n t p ≠ [] := by
  obtain ⟨v, a, b, c⟩ := zp_ct_ne.mp h
  obtain ⟨l, hl⟩ := zp_ch_sub p o ht
  exact zp_ct_ne.mpr ⟨v, a, b, by rw [hl]; exact List.mem_append_right _ c⟩
/-- the place of a block among those of its chain that hold the type -/
def zp_bi (K : Nat → Int32) (n t p b : Nat) : Nat := (((zp_ch K p).takeWhile (fun x => decide (x ≠ b))).filter (zp_hq K n t)).length
theorem zp_tw {b : Nat} : ∀ l : List Nat, b ∈ l → ∃ l2, l = l.takeWhile (fun x => decide (x ≠ b)) ++ b :: l2 := by
  intro l
  induction l with
  | nil => intro h; cases h
  | cons x l ih =>
    intro h
    by_cases hx : x = b
    · subst hx
      exact ⟨l, by rw [List.takeWhile_cons_of_neg (by simp)]; rfl⟩
    · obtain ⟨l2, hl⟩ := ih (by rcases List.mem_cons.mp h with z | z; exact absurd z.symm hx; exact z)
      refine ⟨l2, ?_⟩
      rw [List.takeWhile_cons_of_pos (by simpa using hx), List.cons_append, ← hl]
theorem zp_bi_at {n t p b : Nat} (h : b ∈ zp_ct K n t p) : (zp_ct K n t p)[zp_bi K n t p b]? = some b ∧ zp_bi K n t p b < (zp_ct K n t p).length := by
  obtain ⟨h1, h2⟩ := zp_ct_mem.mp h
  obtain ⟨l2, hl⟩ := zp_tw _ h1
  have hq : zp_hq K n t b = true := by unfold zp_hq; exact decide_eq_true h2
  have e : zp_ct K n t p = ((zp_ch K p).takeWhile (fun x => decide (x ≠ b))).filter (zp_hq K n t) ++ b :: l2.filter (zp_hq K n t) := by
    have e := congrArg (List.filter (zp_hq K n t)) hl
    rw [List.filter_append, List.filter_cons_of_pos hq] at e
    exact e
  have el : zp_bi K n t p b = (((zp_ch K p).takeWhile (fun x => decide (x ≠ b))).filter (zp_hq K n t)).length := rfl
  rw [el]
  rw [e]
  constructor
  · rw [List.getElem?_append_right (Nat.le_refl _), Nat.sub_self]; rfl
  · rw [List.length_append, List.length_cons]; omega
end
end
section
/-! only the items ahead of a place matter for what is read there -/
section
variable {K K' : Nat → Int32}
theorem ze_bk : ∀ p, (∀ j, j < p → K j = K' j) → zp_bk K p = zp_bk K' p := by
  intro p
  induction p with
  | zero => intro _; rfl
  | succ p ih =>
    intro h
    show zp_bk K p + (if zp_B (K p) then 1 else 0) = zp_bk K' p + (if zp_B (K' p) then 1 else 0)
    rw [ih (fun j hj => h j (by omega)), h p (by omega)]
theorem ze_ls : ∀ p, (∀ j, j < p → K j = K' j) → zp_ls K p = zp_ls K' p := by
  intro p
  induction p with
  | zero => intro _; rfl
  | succ p ih =>
    intro h
    show (if zp_B (K p) then some p else zp_ls K p) = (if zp_B (K' p) then some p else zp_ls K' p)
    rw [ih (fun j hj => h j (by omega)), h p (by omega)]
theorem ze_sk : ∀ p, (∀ j, j < p → K j = K' j) → zp_sk K p = zp_sk K' p := by
  intro p
  induction p with
  | zero => intro _; rfl
  | succ p ih =>
    intro h
    have I := ih (fun j hj => h j (by omega))
    have e : zp_pop K p (zp_sk K p) = zp_pop K' p (zp_sk K' p) := by
      rw [← I]
      cases hs : zp_sk K p with
      | nil => rfl
      | cons x r =>
        obtain ⟨o, t⟩ := x
        have := (zp_st p o t r hs).1
        show (if K o = 6 ∧ t = 0 then (o, p) :: r else r) = (if K' o = 6 ∧ t = 0 then (o, p) :: r else r)
        rw [h o (by omega)]
    show (if K p = 6 ∨ K p = 7 then (p, 0) :: zp_sk K p else if K p = 0 then zp_pop K p (zp_sk K p) else zp_sk K p) = (if K' p = 6 ∨ K' p = 7 then (p, 0) :: zp_sk K' p else if K' p = 0 then zp_pop K' p (zp_sk K' p) else zp_sk K' p)
    rw [e, I, h p (by omega)]
theorem ze_top {p : Nat} (h : ∀ j, j < p → K j = K' j) : zp_top K p = zp_top K' p := by
  unfold zp_top; rw [ze_sk p h]
theorem ze_fi : ∀ p, (∀ j, j < p → K j = K' j) → zp_fi K p = zp_fi K' p := by
  intro p
  induction p with
  | zero => intro _; rfl
  | succ p ih =>
    intro h
    have h' : ∀ j, j < p → K j = K' j := fun j hj => h j (by omega)
    show (zp_fi K p || decide (K p = 0 ∧ zp_sk K p = [])) = (zp_fi K' p || decide (K' p = 0 ∧ zp_sk K' p = []))
    rw [ih h', ze_sk p h', h p (by omega)]
theorem ze_wt : ∀ (l : List (Nat × Nat)) (p : Nat), (∀ j, j < p → K j = K' j) → (∀ o t, (o, t) ∈ l → o < p) → zp_wt K l = zp_wt K' l := by
  intro l
  induction l with
  | nil => intro _ _ _; rfl
  | cons x r ih =>
    intro p h hl
    obtain ⟨o, t⟩ := x
    show zp_w K o t + zp_wt K r = zp_w K' o t + zp_wt K' r
    unfold zp_w
    rw [ih p h (fun o t hm => hl o t (List.mem_cons_of_mem _ hm)), h o (hl o t List.mem_cons_self)]
theorem zp_sk_lt : ∀ n o t, (o, t) ∈ zp_sk K n → o < n := by
  intro n
  induction n using Nat.strongRecOn with
  | ind n ih =>
    intro o t h
    cases hs : zp_sk K n with
    | nil => rw [hs] at h; cases h
    | cons x r =>
      obtain ⟨o1, t1⟩ := x
      have I := zp_st n o1 t1 r hs
      rw [hs] at h
      rcases List.mem_cons.mp h with z | z
      · injection z with z1 z2; omega
      · rw [I.2.2.1] at z
        have := ih o1 I.1 o t z
        omega
theorem ze_ow {p : Nat} (h : ∀ j, j < p → K j = K' j) : zp_ow K p = zp_ow K' p := by
  unfold zp_ow
  rw [ze_fi p h, ← ze_sk p h, ze_wt (zp_sk K p) p h (zp_sk_lt p)]
theorem ze_ac {o : Nat} : ∀ p, (∀ j, j < p → K j = K' j) → zp_ac K o p = zp_ac K' o p := by
  intro p
  induction p with
  | zero => intro _; rfl
  | succ p ih =>
    intro h
    have h' : ∀ j, j < p → K j = K' j := fun j hj => h j (by omega)
    rw [zp_ac_s, zp_ac_s, ih h', h p (by omega), ze_top h']
theorem ze_dp {s : Nat} (h : ∀ j, j < s + 1 → K j = K' j) : zp_dp K s = zp_dp K' s := by
  have h' : ∀ j, j < s → K j = K' j := fun j hj => h j (by omega)
  unfold zp_dp
  rw [← h s (by omega), ← ze_top h']
  cases ht : zp_top K s with
  | none => rfl
  | some o =>
    have := zp_top_lt ht
    simp only [Option.bind_some]
    rw [h o (by omega)]
theorem ze_dq {p : Nat} (h : ∀ j, j < p → K j = K' j) : zp_dq K p = zp_dq K' p := by
  cases hl : zp_ls K p with
  | none => rw [zp_dq_n hl, zp_dq_n (by rw [← ze_ls p h]; exact hl)]
  | some s =>
    rw [zp_dq_s hl, zp_dq_s (s := s) (by rw [← ze_ls p h]; exact hl)]
    have := (zp_ls_some hl).1
    exact ze_dp (fun j hj => h j (by omega))
theorem ze_el {s : Nat} (h : ∀ j, j < s + 1 → K j = K' j) : zp_el K s = zp_el K' s := by
  have h' : ∀ j, j < s → K j = K' j := fun j hj => h j (by omega)
  unfold zp_el
  rw [← h s (by omega), ← ze_sk s h']
  cases hs : zp_sk K s with
  | nil => rfl
  | cons x r =>
    obtain ⟨o, t⟩ := x
    have := (zp_st s o t r hs).1
    simp only [List.head?_cons, Option.bind_some]
    rw [h o (by omega)]
theorem ze_vw {p : Nat} (h : ∀ j, j < p → K j = K' j) : zp_mA K p = zp_mA K' p ∧ zp_mB K p = zp_mB K' p ∧ zp_jf K p = zp_jf K' p ∧ zp_og K p = zp_og K' p := by
  unfold zp_mA zp_mB zp_jf zp_og
  rw [← ze_ls p h]
  cases hl : zp_ls K p with
  | none => exact ⟨rfl, rfl, rfl, rfl⟩
  | some s =>
    have := (zp_ls_some hl).1
    simp only [Option.bind_some]
    rw [ze_el (fun j hj => h j (by omega)), h s this]
    exact ⟨rfl, rfl, rfl, rfl⟩
theorem ze_mA {p : Nat} (h : ∀ j, j < p → K j = K' j) : zp_mA K p = zp_mA K' p := (ze_vw h).1
theorem ze_mB {p : Nat} (h : ∀ j, j < p → K j = K' j) : zp_mB K p = zp_mB K' p := (ze_vw h).2.1
theorem ze_jf {p : Nat} (h : ∀ j, j < p → K j = K' j) : zp_jf K p = zp_jf K' p := (ze_vw h).2.2.1
theorem ze_og {p : Nat} (h : ∀ j, j < p → K j = K' j) : zp_og K p = zp_og K' p := (ze_vw h).2.2.2
theorem ze_ch : ∀ p, (∀ j, j < p → K j = K' j) → zp_ch K p = zp_ch K' p := by
  intro p
  induction p using Nat.strongRecOn with
  | ind p ih =>
    intro h
    cases hd : zp_dq K p with
    | none => rw [zp_ch_n hd, zp_ch_n (by rw [← ze_dq h]; exact hd), ze_bk p h]
    | some q =>
      have := (zp_dq_lt hd).1
      have hd' : zp_dq K' p = some q := by rw [← ze_dq h]; exact hd
      rw [zp_ch_s hd, zp_ch_s hd', ze_bk p h, ih q this (fun j hj => h j (by omega))]
theorem ze_it {t b : Nat} : ∀ p, (∀ j, j < p → K j = K' j) → zp_it K t b p = zp_it K' t b p := by
  intro p
  induction p with
  | zero => intro _; rfl
  | succ p ih =>
    intro h
    have h' : ∀ j, j < p → K j = K' j := fun j hj => h j (by omega)
    rw [zp_it_s, zp_it_s, ih h', h p (by omega), ze_bk p h']
theorem ze_hq {n t : Nat} (h : ∀ j, j < n → K j = K' j) : zp_hq K n t = zp_hq K' n t := by
  funext b
  unfold zp_hq
  rw [ze_it n h]
theorem ze_ct {n t p : Nat} (hp : p ≤ n) (h : ∀ j, j < n → K j = K' j) : zp_ct K n t p = zp_ct K' n t p := by
  unfold zp_ct
  rw [ze_hq h, ze_ch p (fun j hj => h j (by omega))]
theorem ze_bi {n t p b : Nat} (hp : p ≤ n) (h : ∀ j, j < n → K j = K' j) : zp_bi K n t p b = zp_bi K' n t p b := by
  unfold zp_bi
  rw [ze_hq h, ze_ch p (fun j hj => h j (by omega))]
theorem ze_up {n i : Nat} {k : Int32} (h : i ≤ n) : ∀ j, j < i → upd K n k j = K j := fun _ hj => pk_un (by omega)
end
end
section
/-! what is legal, what a kind takes, the invariant of a program and its steps -/
def zp_mp (K : Nat → Int32) (n : Nat) : Bool := decide (zp_og K n ≠ none ∧ (n = 0 ∨ zp_bk K (n - 1) ≠ zp_bk K n ∨ zp_M (K (n - 1))))
def zp_vs (K : Nat → Int32) (n t p : Nat) : Bool := decide (zp_ct K n t p ≠ [])
def zp_vo (K : Nat → Int32) (n t : Nat) (q : Option Nat) (d : Bool) : Bool := q.elim d (zp_vs K n t)
def zp_lg (K : Nat → Int32) (C n : Nat) (w : Option Nat) (k : Int32) : Bool :=
  decide (zp_fi K n = false ∧ ((w ≠ none ∧ k = 10) ∨ (w = none ∧ (k = 0 ∨ (n + zp_ow K n + 1 ≤ C ∧ (k = 1 ∨ ((k = 2 ∨ k = 3 ∨ k = 4) ∧ zp_vs K n 1 n = true) ∨ (k = 5 ∧ zp_vs K n 2 n = true) ∨ (k = 6 ∧ n + zp_ow K n + 3 ≤ C ∧ (zp_sk K n).length < 3 ∧ zp_vs K n 2 n = true) ∨ (k = 7 ∧ n + zp_ow K n + 2 ≤ C ∧ (zp_sk K n).length < 3 ∧ zp_vs K n 2 n = true) ∨ (zp_M k ∧ zp_mp K n = true ∧ zp_vo K n (zp_ty k) (zp_mA K n) false = true ∧ zp_vo K n (zp_ty k) (zp_mB K n) true = true)))))))
def zp_tA (K : Nat → Int32) (n : Nat) (w : Option Nat) (k : Int32) : Nat := if k = 2 ∨ k = 3 ∨ k = 4 ∨ k = 8 then 1 else if k = 5 ∨ k = 6 ∨ k = 9 then 2 else if k = 0 then (zp_top K n).elim 0 (fun o => if K o = 7 then 2 else 0) else if k = 10 then w.elim 0 (fun m => zp_ty (K m)) else 0
def zp_tB (K : Nat → Int32) (n : Nat) (k : Int32) : Nat := if k = 2 ∨ k = 3 ∨ k = 4 then 1 else if zp_M k ∧ zp_mB K n ≠ none then zp_ty k else 0
def zp_vA (K : Nat → Int32) (n : Nat) (k : Int32) : Nat := if zp_M k then (zp_mA K n).getD n else if k = 10 then n - 1 else n
def zp_vB (K : Nat → Int32) (n : Nat) (k : Int32) : Nat := if zp_M k then (zp_mB K n).getD n else n
def zp_SN (K : Nat → Int32) (n t p : Nat) (v : Int32) : Prop := ∃ j, j < n ∧ v = nI j ∧ zp_ty (K j) = t ∧ zp_bk K j ∈ zp_ch K p
def zp_FT (K : Nat → Int32) (n : Nat) (w : Option Nat) (k x y : Int32) : Prop := (k = 1 → ∃ j, j ≤ 7 ∧ x = nI j) ∧ (zp_tA K n w k ≠ 0 → zp_SN K n (zp_tA K n w k) (zp_vA K n k) x) ∧ (zp_tB K n k ≠ 0 → zp_SN K n (zp_tB K n k) (zp_vB K n k) y)
def zp_nA (K : Nat → Int32) (n : Nat) (w : Option Nat) (k x : Int32) : Int32 := if k = 1 ∨ zp_tA K n w k ≠ 0 then x else -1
def zp_nB (K : Nat → Int32) (n : Nat) (k y : Int32) : Int32 := if zp_tB K n k ≠ 0 then y else -1
def zp_ma (K : Nat → Int32) (n i : Nat) : Option Nat := if i < n ∧ zp_M (K i) then some i else none
def zp_nw (K : Nat → Int32) (n : Nat) (k : Int32) : Option Nat := if k = 0 then (zp_top K n).elim none (fun o => if K o = 7 then zp_ma K n (o + 1) else none) else none
abbrev zp_kd (k : Int32) : Prop := k = 0 ∨ k = 1 ∨ k = 2 ∨ k = 3 ∨ k = 4 ∨ k = 5 ∨ k = 6 ∨ k = 7 ∨ k = 8 ∨ k = 9
def zp_IW (n : Nat) (w : Option Nat) (K B : Nat → Int32) : Prop :=
  (w = none → ∀ j o, j < n → zp_M (K j) → zp_og K j = some o → B j = -1 → zp_ac K o n = []) ∧
  (∀ m, w = some m → ∃ e o r, n = e + 1 ∧ K e = 0 ∧ zp_sk K e = (o, 0) :: r ∧ K o = 7 ∧ o < m ∧ m < n ∧ (∀ j, o < j → j ≤ m → zp_M (K j)) ∧
    (∀ j o', j < n → zp_M (K j) → zp_og K j = some o' → B j = -1 → zp_ac K o' n ≠ [] → o' = o ∧ m ≤ j) ∧
    (∀ j, zp_og K j = some o → j < n → m ≤ j → zp_M (K j) → B j = -1))
def zp_I (P C n : Nat) (w : Option Nat) (K A B : Nat → Int32) : Prop :=
  (P ≤ 3 ∧ 8 ≤ C ∧ C ≤ 16 ∧ P ≤ n ∧ n + zp_ow K n ≤ C ∧ (zp_sk K n).length ≤ 3) ∧
  (∀ i, i < P → K i = 11 ∧ A i = -1 ∧ B i = -1) ∧
  (∀ i, P ≤ i → i < n → zp_kd (K i)) ∧
  (∀ i, i < n → zp_fi K i = false) ∧
  (∀ j, j < n → zp_M (K j) → zp_og K j ≠ none ∧ ∀ i, i < j → zp_bk K i = zp_bk K j → zp_M (K i)) ∧
  (∀ o, o < n → K o = 7 → zp_ct K o 2 o ≠ []) ∧
  (∀ j o, j < n → zp_M (K j) → zp_og K j = some o → (K o = 7 → zp_ct K j (zp_ty (K j)) o ≠ [] ∧ (zp_ac K o n = [] → B j = -1)) ∧ (K o = 6 → B j ≠ -1)) ∧
  (∀ e, e < n → K e = 0 → (A e = -1 ↔ ∀ o, zp_top K e = some o → K o ≠ 7)) ∧
  zp_IW n w K B
section
variable {K A B : Nat → Int32} {P C n : Nat} {w : Option Nat} {k x y : Int32}
theorem zp_MB (h : zp_M k) : ¬ zp_B k := by
  rcases h with h | h <;> rw [h] <;> decide
theorem zp_lg_t (h : zp_lg K C n w k = true) : zp_fi K n = false ∧ ((w ≠ none ∧ k = 10) ∨ (w = none ∧ (k = 0 ∨ (n + zp_ow K n + 1 ≤ C ∧ (k = 1 ∨ ((k = 2 ∨ k = 3 ∨ k = 4) ∧ zp_vs K n 1 n = true) ∨ (k = 5 ∧ zp_vs K n 2 n = true) ∨ (k = 6 ∧ n + zp_ow K n + 3 ≤ C ∧ (zp_sk K n).length < 3 ∧ zp_vs K n 2 n = true) ∨ (k = 7 ∧ n + zp_ow K n + 2 ≤ C ∧ (zp_sk K n).length < 3 ∧ zp_vs K n 2 n = true) ∨ (zp_M k ∧ zp_mp K n = true ∧ zp_vo K n (zp_ty k) (zp_mA K n) false = true ∧ zp_vo K n (zp_ty k) (zp_mB K n) true = true)))))) := of_decide_eq_true h
theorem zp_vs_iff {t p : Nat} : zp_vs K n t p = true ↔ zp_ct K n t p ≠ [] := by unfold zp_vs; exact decide_eq_true_iff
theorem zp_ls_nb : ∀ p s, zp_ls K p = some s → ∀ j, s < j → j < p → ¬ zp_B (K j) := by
  intro p
  induction p with
  | zero => intro s h; cases h
  | succ p ih =>
    intro s h j h1 h2
    by_cases hb : zp_B (K p)
    · rw [zp_ls_b hb] at h
      injection h with h
      omega
    · rw [zp_ls_n hb] at h
      rcases Nat.lt_or_ge j p with z | z
      · exact ih s h j h1 z
      · have : j = p := by omega
        subst this; exact hb
theorem zp_ls_of {s : Nat} (hs : zp_B (K s)) : ∀ p, s < p → (∀ j, s < j → j < p → ¬ zp_B (K j)) → zp_ls K p = some s := by
  intro p
  induction p with
  | zero => intro h; omega
  | succ p ih =>
    intro h hn
    rcases Nat.lt_or_ge s p with z | z
    · rw [zp_ls_n (hn p z (by omega))]
      exact ih z (fun j h1 h2 => hn j h1 (by omega))
    · have : s = p := by omega
      subst this; exact zp_ls_b hs
theorem zp_og_lt {p o : Nat} (h : zp_og K p = some o) : o < p ∧ (K o = 6 ∨ K o = 7) ∧ (K o = 7 → zp_ls K p = some o) := by
  rcases zp_cls K p with c | ⟨o1, c1, c2, c3, _⟩ | ⟨s, o1, t, r, c1, c2, c3, c4, c5, c6, _⟩
  · rw [c.1] at h; cases h
  · rw [c3] at h
    injection h with h
    subst h
    exact ⟨(zp_ls_some c1).1, Or.inr c2, fun _ => c1⟩
  · rw [c6] at h
    injection h with h
    subst h
    have a := (zp_ls_some c1).1
    have b := (zp_st s o1 t r c3).1
    exact ⟨by omega, Or.inl c4, fun z => by rw [c4] at z; exact absurd z (by decide)⟩
theorem zp_hdr {o j : Nat} (h7 : K o = 7) (hj : o < j) (h : ∀ i, o < i → i < j → zp_M (K i)) : zp_og K j = some o := by
  have hl := zp_ls_of (K := K) (s := o) (by rw [h7]; decide) j hj (fun i h1 h2 => zp_MB (h i h1 h2))
  unfold zp_og
  rw [hl]
  show (if K o = 7 then some o else _) = _
  rw [if_pos h7]
theorem zp_bkeq {s j i : Nat} (h : zp_ls K j = some s) (h1 : s < i) (h2 : i ≤ j) : zp_bk K i = zp_bk K j := by
  have a := zp_ls_some h
  have b : zp_bk K s + 1 ≤ zp_bk K i := zp_bk_lt a.2.1 h1
  have c := zp_bk_mono (K := K) h2
  omega
theorem zp_tyM (h : zp_M k) : zp_ty k ≠ 0 := by rcases h with h | h <;> rw [h] <;> decide
theorem zp_ma_s {i m : Nat} (h : zp_ma K n i = some m) : m = i ∧ i < n ∧ zp_M (K i) := by
  unfold zp_ma at h
  by_cases c : i < n ∧ zp_M (K i)
  · rw [if_pos c] at h; injection h with h; exact ⟨h.symm, c⟩
  · rw [if_neg c] at h; cases h
theorem zp_ma_n {i : Nat} (h : zp_ma K n i = none) : ¬ (i < n ∧ zp_M (K i)) := by
  intro c
  unfold zp_ma at h
  rw [if_pos c] at h; cases h
theorem zp_sk_len {i : Nat} (h : ¬ (K i = 6 ∨ K i = 7)) : (zp_sk K (i + 1)).length ≤ (zp_sk K i).length := by
  by_cases h0 : K i = 0
  · rw [zp_sk0 h0]
    cases hs : zp_sk K i with
    | nil => exact Nat.le_refl _
    | cons e r =>
      obtain ⟨o, t⟩ := e
      by_cases hc : K o = 6 ∧ t = 0
      · rw [zp_pop2 hc]; exact Nat.le_refl _
      · rw [zp_pop1 hc, List.length_cons]; omega
  · rw [zp_skp (by intro z; rcases z with z | z; exact h0 z; exact h z)]; exact Nat.le_refl _
theorem zp_upn : upd K n k n = k := pk_us
theorem zp_nw_7 {o : Nat} {r : List (Nat × Nat)} {t : Nat} (hs : zp_sk K n = (o, t) :: r) (h7 : K o = 7) : zp_nw K n 0 = zp_ma K n (o + 1) := by
  unfold zp_nw
  rw [if_pos rfl, zp_top_c hs]
  show (if K o = 7 then zp_ma K n (o + 1) else none) = _
  rw [if_pos h7]
theorem zp_nw_n (h : ¬ (k = 0 ∧ ∃ o, zp_top K n = some o ∧ K o = 7)) : zp_nw K n k = none := by
  unfold zp_nw
  by_cases h0 : k = 0
  · rw [if_pos h0]
    cases ht : zp_top K n with
    | none => rfl
    | some o =>
      show (if K o = 7 then zp_ma K n (o + 1) else none) = _
      rw [if_neg (fun z => h ⟨h0, o, ht, z⟩)]
  · rw [if_neg h0]
end
end
section
/-! the invariant is kept by an appended item and by a filled merge -/
section
variable {K A B : Nat → Int32} {P C n : Nat} {w : Option Nat} {k x y : Int32}
theorem zs_kd (h : zp_lg K C n none k = true) : zp_kd k := by
  obtain ⟨_, ⟨h, _⟩ | ⟨_, h⟩⟩ := zp_lg_t h
  · exact absurd rfl h
  · unfold zp_M at h
    rcases h with h | ⟨_, h | ⟨h | h | h, _⟩ | ⟨h, _⟩ | ⟨h, _⟩ | ⟨h, _⟩ | ⟨h | h, _⟩⟩ <;> simp only [zp_kd, h] <;> decide
theorem zs_ow (hf : zp_fi K n = false) (h : zp_lg K C n none k = true) (hC : n + zp_ow K n ≤ C) : n + 1 + zp_ow (upd K n k) (n + 1) ≤ C := by
  have E : ∀ j, j < n → upd K n k j = K j := ze_up (Nat.le_refl _)
  have f' : zp_fi (upd K n k) n = false := by rw [ze_fi n E]; exact hf
  have o' : zp_ow (upd K n k) n = zp_ow K n := ze_ow E
  have kn : upd K n k n = k := pk_us
  by_cases h0 : k = 0
  · have := zp_ow_0 f' (by rw [kn]; exact h0)
    omega
  · obtain ⟨_, ⟨z, _⟩ | ⟨_, z⟩⟩ := zp_lg_t h
    · exact absurd rfl z
    · rcases z with z | ⟨a, z⟩
      · exact absurd z h0
      · by_cases h6 : k = 6
        · have b := zp_ow_6 f' (by rw [kn]; exact h6)
          have c : n + zp_ow K n + 3 ≤ C := by
            rw [h6] at z
            rcases z with z | ⟨z, _⟩ | ⟨z, _⟩ | ⟨_, z, _⟩ | ⟨z, _⟩ | ⟨z, _⟩
            · exact absurd z (by decide)
            · exact absurd z (by decide)
            · exact absurd z (by decide)
            · exact z
            · exact absurd z (by decide)
            · exact absurd z (by decide)
          omega
        · by_cases h7 : k = 7
          · have b := zp_ow_7 f' (by rw [kn]; exact h7)
            have c : n + zp_ow K n + 2 ≤ C := by
              rw [h7] at z
              rcases z with z | ⟨z, _⟩ | ⟨z, _⟩ | ⟨z, _⟩ | ⟨_, z, _⟩ | ⟨z, _⟩
              · exact absurd z (by decide)
              · exact absurd z (by decide)
              · exact absurd z (by decide)
              · exact absurd z (by decide)
              · exact z
              · exact absurd z (by decide)
            omega
          · have b := zp_ow_p f' (by rw [kn]; intro z; rcases z with z | z | z; exact h0 z; exact h6 z; exact h7 z)
            omega
theorem zs_len (h : zp_lg K C n none k = true) (hl : (zp_sk K n).length ≤ 3) : (zp_sk (upd K n k) (n + 1)).length ≤ 3 := by
  have E : ∀ j, j < n → upd K n k j = K j := ze_up (Nat.le_refl _)
  have kn : upd K n k n = k := pk_us
  by_cases h6 : k = 6 ∨ k = 7
  · rw [zp_sk6 (by rw [kn]; exact h6), ze_sk n E, List.length_cons]
    obtain ⟨_, ⟨z, _⟩ | ⟨_, z⟩⟩ := zp_lg_t h
    · exact absurd rfl z
    · rcases h6 with h6 | h6
      · rw [h6] at z
        rcases z with z | ⟨_, z | ⟨z, _⟩ | ⟨z, _⟩ | ⟨_, _, z, _⟩ | ⟨z, _⟩ | ⟨z, _⟩⟩
        · exact absurd z (by decide)
        · exact absurd z (by decide)
        · exact absurd z (by decide)
        · exact absurd z (by decide)
        · omega
        · exact absurd z (by decide)
        · exact absurd z (by decide)
      · rw [h6] at z
        rcases z with z | ⟨_, z | ⟨z, _⟩ | ⟨z, _⟩ | ⟨z, _⟩ | ⟨_, _, z, _⟩ | ⟨z, _⟩⟩
        · exact absurd z (by decide)
        · exact absurd z (by decide)
        · exact absurd z (by decide)
        · exact absurd z (by decide)
        · exact absurd z (by decide)
        · omega
        · exact absurd z (by decide)
  · have a := zp_sk_len (K := upd K n k) (i := n) (by rw [kn]; exact h6)
    rw [ze_sk n E] at a
    omega
theorem zs_M (h : zp_lg K C n none k = true) (hk : zp_M k) : zp_mp K n = true ∧ zp_vo K n (zp_ty k) (zp_mA K n) false = true ∧ zp_vo K n (zp_ty k) (zp_mB K n) true = true := by
  obtain ⟨_, ⟨z, _⟩ | ⟨_, z⟩⟩ := zp_lg_t h
  · exact absurd rfl z
  · rcases z with z | ⟨_, z | ⟨z, _⟩ | ⟨z, _⟩ | ⟨z, _⟩ | ⟨z, _⟩ | ⟨_, z⟩⟩
    · rcases hk with hk | hk <;> rw [hk] at z <;> exact absurd z (by decide)
    · rcases hk with hk | hk <;> rw [hk] at z <;> exact absurd z (by decide)
    · rcases hk with hk | hk <;> rw [hk] at z <;> exact absurd z (by decide)
    · rcases hk with hk | hk <;> rw [hk] at z <;> exact absurd z (by decide)
    · rcases hk with hk | hk <;> rw [hk] at z <;> exact absurd z (by decide)
    · rcases hk with hk | hk <;> rw [hk] at z <;> exact absurd z (by decide)
    · exact z
theorem zs_7 (h : zp_lg K C n none 7 = true) : zp_ct K n 2 n ≠ [] := by
  obtain ⟨_, ⟨z, _⟩ | ⟨_, z⟩⟩ := zp_lg_t h
  · exact absurd rfl z
  · rcases z with z | ⟨_, z | ⟨z, _⟩ | ⟨z, _⟩ | ⟨z, _⟩ | ⟨_, _, _, z⟩ | ⟨z, _⟩⟩
    · exact absurd z (by decide)
    · exact absurd z (by decide)
    · exact absurd z (by decide)
    · exact absurd z (by decide)
    · exact absurd z (by decide)
    · exact zp_vs_iff.mp z
    · exact absurd z (by decide)
theorem zs_nB7 {o : Nat} (hk : zp_M k) (ho : zp_og K n = some o) (h7 : K o = 7) : zp_nB K n k y = -1 := by
  have hb : zp_mB K n = none := by
    rcases zp_cls K n with c | ⟨o1, c1, c2, c3, c4, c5, _⟩ | ⟨s, o1, t, r, c1, c2, c3, c4, c5, c6, _⟩
    · exact c.2.2.1
    · exact c5
    · rw [c6] at ho
      injection ho with ho
      subst ho
      rw [c4] at h7; exact absurd h7 (by decide)
  have : zp_tB K n k = 0 := by
    unfold zp_tB
    rw [if_neg (by rcases hk with hk | hk <;> rw [hk] <;> decide), if_neg (fun z => z.2 hb)]
  unfold zp_nB
  rw [if_neg (by rw [this]; exact fun z => z rfl)]
theorem zs_tB6 {o : Nat} (hk : zp_M k) (ho : zp_og K n = some o) (h6 : K o = 6) : zp_tB K n k ≠ 0 := by
  have hb : zp_mB K n ≠ none := by
    rcases zp_cls K n with c | ⟨o1, c1, c2, c3, c4, c5, _⟩ | ⟨s, o1, t, r, c1, c2, c3, c4, c5, c6, c7, c8, _⟩
    · rw [c.1] at ho; cases ho
    · rw [c3] at ho
      injection ho with ho
      subst ho
      rw [c2] at h6; exact absurd h6 (by decide)
    · rw [c8]; exact fun z => by cases z
  unfold zp_tB
  rw [if_neg (by rcases hk with hk | hk <;> rw [hk] <;> decide), if_pos ⟨hk, hb⟩]
  exact zp_tyM hk
theorem zs_SN {t p : Nat} {v : Int32} (hn : n ≤ 16) (h : zp_SN K n t p v) : v ≠ -1 := by
  obtain ⟨j, hj, hv, _⟩ := h
  rw [hv]
  exact zp_nm1 (by omega)
theorem zs_app (I : zp_I P C n none K A B) (hl : zp_lg K C n none k = true) (hF : zp_FT K n none k x y) :
    zp_I P C (n + 1) (zp_nw K n k) (upd K n k) (upd A n (zp_nA K n none k x)) (upd B n (zp_nB K n k y)) := by
  obtain ⟨⟨i1, i2, i3, i4, i5, i6⟩, iP, iK, iF, iM, iL, iB, iA, iW⟩ := I
  have E : ∀ j, j < n → upd K n k j = K j := ze_up (Nat.le_refl _)
  have E' : ∀ i, i ≤ n → ∀ j, j < i → upd K n k j = K j := fun i hi => ze_up hi
  have kn : upd K n k n = k := pk_us
  have hf := (zp_lg_t hl).1
  have n16 : n < 16 := by
    have := (zp_ow_pos (K := K) (n := n)).mp
    have : zp_ow K n ≠ 0 := fun z => by rw [this z] at hf; cases hf
    omega
  have W0 := iW.1 rfl
  refine ⟨⟨i1, i2, i3, by omega, zs_ow hf hl i5, zs_len hl i6⟩, ?_, ?_, ?_, ?_, ?_, ?_, ?_, ?_⟩
  · intro i hi
    rw [pk_un (by omega), pk_un (by omega), pk_un (by omega)]
    exact iP i hi
  · intro i h1 h2
    rcases Nat.lt_or_ge i n with z | z
    · rw [E i z]; exact iK i h1 z
    · have : i = n := by omega
      subst this
      rw [kn]; exact zs_kd hl
  · intro i hi
    rw [ze_fi i (E' i (by omega))]
    rcases Nat.lt_or_ge i n with z | z
    · exact iF i z
    · have : i = n := by omega
      subst this
      exact hf
  · intro j hj hm
    rw [ze_og (E' j (by omega)), ze_bk j (E' j (by omega))]
    rcases Nat.lt_or_ge j n with z | z
    · rw [E j z] at hm
      refine ⟨(iM j z hm).1, fun i hi hb => ?_⟩
      rw [ze_bk i (E' i (by omega))] at hb
      rw [E i (by omega)]
      exact (iM j z hm).2 i hi hb
    · have : j = n := by omega
      subst this
      rw [kn] at hm
      have hp := of_decide_eq_true (zs_M hl hm).1
      refine ⟨hp.1, fun i hi hb => ?_⟩
      rw [ze_bk i (E' i (by omega))] at hb
      rw [E i hi]
      have b1 := zp_bk_mono (K := K) (i := i) (j := j - 1) (by omega)
      have b2 := zp_bk_mono (K := K) (i := j - 1) (j := j) (by omega)
      rcases hp.2 with z | z | z
      · omega
      · omega
      · rcases Nat.lt_or_ge i (j - 1) with q | q
        · exact (iM (j - 1) (by omega) z).2 i q (by omega)
        · have : i = j - 1 := by omega
          rw [this]; exact z
  · intro o ho h7
    rw [ze_ct (Nat.le_refl _) (E' o (by omega))]
    rcases Nat.lt_or_ge o n with z | z
    · rw [E o z] at h7; exact iL o z h7
    · have : o = n := by omega
      subst this
      rw [kn] at h7
      subst h7
      exact zs_7 hl
  · intro j o hj hm ho
    rw [ze_og (E' j (by omega))] at ho
    have hoj := (zp_og_lt ho).1
    rw [E o (by omega)]
    rcases Nat.lt_or_ge j n with z | z
    · rw [E j z] at hm ⊢
      rw [pk_un (by omega), ze_ct (by omega) (E' j (by omega))]
      refine ⟨fun h7 => ⟨((iB j o z hm ho).1 h7).1, fun ha => ((iB j o z hm ho).1 h7).2 ?_⟩, (iB j o z hm ho).2⟩
      rw [zp_ac_s, ze_ac n E] at ha
      exact (List.append_eq_nil_iff.mp ha).1
    · have : j = n := by omega
      subst this
      rw [kn] at hm ⊢
      rw [pk_us]
      refine ⟨fun h7 => ⟨?_, fun _ => zs_nB7 hm ho h7⟩, fun h6 => ?_⟩
      · rw [ze_ct (by omega) E]
        have v := (zs_M hl hm).2.1
        have ha : zp_mA K j = some o := by
          rcases zp_cls K j with c | ⟨o1, c1, c2, c3, c4, c5, _⟩ | ⟨s, o1, t, r, c1, c2, c3, c4, c5, c6, _⟩
          · rw [c.1] at ho; cases ho
          · rw [c3] at ho; rw [c4]; exact ho
          · rw [c6] at ho
            injection ho with ho
            subst ho
            rw [c4] at h7; exact absurd h7 (by decide)
        rw [ha] at v
        exact zp_vs_iff.mp v
      · have t0 := zs_tB6 hm ho h6
        unfold zp_nB
        rw [if_pos t0]
        exact zs_SN (by omega) (hF.2.2 t0)
  · intro e he h0
    rw [ze_top (E' e (by omega))]
    rcases Nat.lt_or_ge e n with z | z
    · rw [E e z] at h0
      rw [pk_un (by omega), iA e z h0]
      constructor
      · intro h o ho
        rw [E o (by have := zp_top_lt ho; omega)]; exact h o ho
      · intro h o ho
        have := h o ho
        rw [E o (by have := zp_top_lt ho; omega)] at this; exact this
    · have : e = n := by omega
      subst this
      rw [kn] at h0
      subst h0
      rw [pk_us]
      cases ht : zp_top K e with
      | none =>
        have t0 : zp_tA K e none 0 = 0 := by
          unfold zp_tA
          rw [if_neg (by decide), if_neg (by decide), if_pos rfl, ht]; rfl
        unfold zp_nA
        rw [if_neg (by rw [t0]; decide)]
        exact ⟨fun _ o ho => (by cases ho), fun _ => rfl⟩
      | some o =>
        have t0 : zp_tA K e none 0 = if K o = 7 then 2 else 0 := by
          unfold zp_tA
          rw [if_neg (by decide), if_neg (by decide), if_pos rfl, ht]; rfl
        have hoe := zp_top_lt ht
        by_cases h7 : K o = 7
        · rw [if_pos h7] at t0
          have q : zp_tA K e none 0 ≠ 0 := by rw [t0]; decide
          unfold zp_nA
          rw [if_pos (Or.inr q)]
          constructor
          · intro z; exact absurd z (zs_SN (by omega) (hF.2.1 q))
          · intro z; exact absurd (by rw [E o hoe]; exact h7) (z o rfl)
        · rw [if_neg h7] at t0
          unfold zp_nA
          rw [if_neg (by rw [t0]; decide)]
          refine ⟨fun _ o' ho' => ?_, fun _ => rfl⟩
          injection ho' with ho'
          subst ho'
          rw [E o hoe]; exact h7
  · have acn : ∀ o', zp_ac (upd K n k) o' (n + 1) = zp_ac K o' n ++ (if k = 0 ∧ zp_top K n = some o' then [n] else []) := by
      intro o'
      rw [zp_ac_s, ze_ac n E, kn, ze_top E]
    have dn : ∀ j o', j < n + 1 → zp_M (upd K n k j) → zp_og (upd K n k) j = some o' → upd B n (zp_nB K n k y) j = -1 → zp_ac K o' n = [] := by
      intro j o' hj hm ho hb
      rw [ze_og (E' j (by omega))] at ho
      rcases Nat.lt_or_ge j n with z | z
      · rw [E j z] at hm
        rw [pk_un (by omega)] at hb
        exact W0 j o' z hm ho hb
      · have : j = n := by omega
        subst this
        rw [kn] at hm
        rw [pk_us] at hb
        have q := zp_og_lt ho
        rcases q.2.1 with h6 | h7
        · have t0 := zs_tB6 hm ho h6
          unfold zp_nB at hb
          rw [if_pos t0] at hb
          exact absurd hb (zs_SN (by omega) (hF.2.2 t0))
        · rw [zp_ac_no (a := o' + 1) j q.1 (fun e h1 h2 z => zp_ls_nb j o' (q.2.2 h7) e h1 h2 (Or.inl z.1)), zp_ac_lo]
    by_cases hc : k = 0 ∧ ∃ o, zp_top K n = some o ∧ K o = 7
    · obtain ⟨h0, o, ht, h7⟩ := hc
      subst h0
      obtain ⟨t, r, hs⟩ := zp_top_s ht
      have S := zp_st n o t r hs
      have t0 : t = 0 := by
        rcases Nat.eq_zero_or_pos t with z | z
        · exact z
        · have := (S.2.2.2 (by omega)).1
          rw [h7] at this; exact absurd this (by decide)
      subst t0
      rw [zp_nw_7 hs h7]
      have ac0 : zp_ac K o n = [] := by rw [zp_ac_top n o 0 r hs]; rfl
      constructor
      · intro hw j o' hj hm ho hb
        rw [acn, dn j o' hj hm ho hb]
        by_cases ho' : o' = o
        · subst ho'
          exfalso
          rw [ze_og (E' j (by omega))] at ho
          have hjn : j < n := by
            rcases Nat.lt_or_ge j n with z | z
            · exact z
            · have : j = n := by omega
              subst this
              rw [kn] at hm; exact absurd hm (by decide)
          rw [E j hjn] at hm
          have q := zp_og_lt ho
          have hl := q.2.2 h7
          refine zp_ma_n hw ⟨by omega, ?_⟩
          rcases Nat.lt_or_ge (o' + 1) j with z | z
          · exact (iM j hjn hm).2 (o' + 1) z (zp_bkeq hl (by omega) (by omega))
          · have : j = o' + 1 := by omega
            rw [← this]; exact hm
        · rw [if_neg (fun z => ho' (by rw [ht] at z; injection z.2 with z; exact z.symm))]; rfl
      · intro m hm
        obtain ⟨rfl, m1, m2⟩ := zp_ma_s hm
        refine ⟨n, o, r, rfl, kn, by rw [ze_sk n E]; exact hs, by rw [E o S.1]; exact h7, by omega, by omega, ?_, ?_, ?_⟩
        · intro j h1 h2
          have : j = o + 1 := by omega
          subst this
          rw [E (o + 1) m1]; exact m2
        · intro j o' hj hmj ho hb ha
          rw [acn, dn j o' hj hmj ho hb] at ha
          by_cases ho' : o' = o
          · refine ⟨ho', ?_⟩
            have := (zp_og_lt ho).1
            omega
          · rw [if_neg (fun z => ho' (by rw [ht] at z; injection z.2 with z; exact z.symm))] at ha
            exact absurd rfl ha
        · intro j ho hj _ hmj
          rw [ze_og (E' j (by omega))] at ho
          have hjn : j < n := by
            rcases Nat.lt_or_ge j n with z | z
            · exact z
            · have : j = n := by omega
              subst this
              rw [kn] at hmj; exact absurd hmj (by decide)
          rw [E j hjn] at hmj
          rw [pk_un (by omega)]
          exact ((iB j o hjn hmj ho).1 h7).2 ac0
    · rw [zp_nw_n hc]
      refine ⟨fun _ j o' hj hm ho hb => ?_, fun m hm => by cases hm⟩
      rw [acn, dn j o' hj hm ho hb]
      by_cases hz : k = 0 ∧ zp_top K n = some o'
      · exfalso
        obtain ⟨h0, ht⟩ := hz
        subst h0
        rw [ze_og (E' j (by omega))] at ho
        have q := zp_og_lt ho
        have hjn : j < n := by
          rcases Nat.lt_or_ge j n with z | z
          · exact z
          · have : j = n := by omega
            subst this
            rw [kn] at hm; exact absurd hm (by decide)
        rw [E j hjn] at hm
        rw [pk_un (by omega)] at hb
        rcases q.2.1 with h6 | h7
        · exact (iB j o' hjn hm ho).2 h6 hb
        · exact hc ⟨rfl, o', ht, h7⟩
      · rw [if_neg hz]; rfl
theorem zs_nxt {m : Nat} (I : zp_I P C n (some m) K A B) (hx : x ≠ -1) : zp_I P C n (zp_ma K n (m + 1)) K A (upd B m x) := by
  obtain ⟨i1, iP, iK, iF, iM, iL, iB, iA, iW⟩ := I
  obtain ⟨e, o, r, w1, w2, w3, w4, w5, w6, w7, w8, w9⟩ := iW.2 m rfl
  have ogm : ∀ j, o < j → j ≤ m → zp_og K j = some o := fun j h1 h2 => zp_hdr w4 h1 (fun i a b => w7 i a (by omega))
  have aco : zp_ac K o n ≠ [] := by
    rw [w1, zp_ac_y ⟨w2, zp_top_c w3⟩]
    exact fun z => by have := (List.append_eq_nil_iff.mp z).2; cases this
  refine ⟨i1, ?_, iK, iF, iM, iL, ?_, iA, ?_⟩
  · intro i hi
    have hne : i ≠ m := by
      intro z
      subst z
      have a := w7 i w5 (Nat.le_refl _)
      rw [(iP i hi).1] at a
      exact absurd a (by decide)
    rw [pk_un hne]
    exact iP i hi
  · intro j o' hj hm ho
    by_cases hjm : j = m
    · subst hjm
      rw [ogm j w5 (Nat.le_refl _)] at ho
      injection ho with ho
      subst ho
      exact ⟨fun _ => ⟨((iB j o hj hm (ogm j w5 (Nat.le_refl _))).1 w4).1, fun z => absurd z aco⟩, fun z => by rw [w4] at z; exact absurd z (by decide)⟩
    · rw [pk_un hjm]; exact iB j o' hj hm ho
  · constructor
    · intro hw j o' hj hm ho hb
      by_cases hjm : j = m
      · subst hjm
        rw [pk_us] at hb; exact absurd hb hx
      · rw [pk_un hjm] at hb
        apply Classical.byContradiction
        intro hne
        obtain ⟨rfl, hmj⟩ := w8 j o' hj hm ho hb hne
        have q := zp_og_lt ho
        have hl := q.2.2 w4
        refine zp_ma_n hw ⟨by omega, ?_⟩
        rcases Nat.lt_or_ge (m + 1) j with z | z
        · exact (iM j hj hm).2 (m + 1) z (zp_bkeq hl (by omega) (by omega))
        · have : j = m + 1 := by omega
          rw [← this]; exact hm
    · intro m' hm'
      obtain ⟨rfl, m1, m2⟩ := zp_ma_s hm'
      refine ⟨e, o, r, w1, w2, w3, w4, by omega, m1, ?_, ?_, ?_⟩
      · intro j h1 h2
        rcases Nat.lt_or_ge m j with z | z
        · have : j = m + 1 := by omega
          subst this; exact m2
        · exact w7 j h1 z
      · intro j o' hj hm ho hb ha
        by_cases hjm : j = m
        · subst hjm
          rw [pk_us] at hb; exact absurd hb hx
        · rw [pk_un hjm] at hb
          obtain ⟨a, b⟩ := w8 j o' hj hm ho hb ha
          exact ⟨a, by omega⟩
      · intro j ho hj hmj hm
        rw [pk_un (by omega)]
        exact w9 j ho hj (by omega) hm
/-- a new program holds the parameters alone -/
theorem zs_par (hK : ∀ i, i < P → K i = 11) : ∀ n, n ≤ P → zp_bk K n = 0 ∧ zp_ls K n = none ∧ zp_sk K n = [] ∧ zp_fi K n = false := by
  intro n
  induction n with
  | zero => intro _; exact ⟨rfl, rfl, rfl, rfl⟩
  | succ n ih =>
    intro h
    obtain ⟨a, b, c, d⟩ := ih (by omega)
    have nb : ¬ zp_B (K n) := by rw [hK n (by omega)]; decide
    rw [zp_bk_n nb, zp_ls_n nb, zp_skp nb, zp_fi_n d (fun z => nb (Or.inl z.1))]
    exact ⟨a, b, c, rfl⟩
theorem zs_new (hP : P ≤ 3) (h8 : 8 ≤ C) (h16 : C ≤ 16) (hK : ∀ i, i < P → K i = 11 ∧ A i = -1 ∧ B i = -1) : zp_I P C P none K A B := by
  have H := zs_par (K := K) (P := P) (fun i hi => (hK i hi).1)
  have nm : ∀ j, j < P → ¬ zp_M (K j) := fun j hj => by rw [(hK j hj).1]; decide
  refine ⟨⟨hP, h8, h16, Nat.le_refl _, ?_, ?_⟩, hK, fun i h1 h2 => absurd h1 (by omega), fun i hi => (H i (by omega)).2.2.2, fun j hj hm => absurd hm (nm j hj), ?_, fun j o hj hm => absurd hm (nm j hj), ?_, fun _ j o hj hm => absurd hm (nm j hj), fun m hm => by cases hm⟩
  · rw [zp_ow_f (H P (Nat.le_refl _)).2.2.2, (H P (Nat.le_refl _)).2.2.1]
    show P + (1 + 0) ≤ C
    omega
  · rw [(H P (Nat.le_refl _)).2.2.1]; exact Nat.zero_le _
  · intro o ho h7
    rw [(hK o ho).1] at h7; exact absurd h7 (by decide)
  · intro e he h0
    rw [(hK e he).1] at h0; exact absurd h0 (by decide)
end
end
section
/-! laws of loops over an abstract walk W -/
theorem zl_cut {p : Nat → Bool} {i : Nat} (hi : p i = true) : ∀ n, i < n → ∃ l, (List.range n).filter p = (List.range i).filter p ++ i :: l := by
  intro n
  induction n with
  | zero => intro h; omega
  | succ n ih =>
    intro h
    rw [List.range_succ, List.filter_append]
    rcases Nat.lt_or_ge i n with z | z
    · obtain ⟨l, hl⟩ := ih z
      exact ⟨l ++ [n].filter p, by rw [hl, List.append_assoc]; rfl⟩
    · have : i = n := by omega
      subst this
      exact ⟨[], by rw [List.filter_cons_of_pos hi, List.filter_nil]⟩
theorem zl_rt {p : Nat → Bool} {i : Nat} (h : p i = true) : ((List.range (i + 1)).filter p).length = ((List.range i).filter p).length + 1 := by
  rw [List.range_succ, List.filter_append, List.filter_cons_of_pos h, List.filter_nil, List.length_append]; rfl
theorem zl_rf {p : Nat → Bool} {i : Nat} (h : p i = false) : ((List.range (i + 1)).filter p).length = ((List.range i).filter p).length := by
  rw [List.range_succ, List.filter_append, List.filter_cons_of_neg (by rw [h]; decide), List.filter_nil, List.append_nil]
/-- the first place that is hit -/
theorem ll_f {W : Nat → Int32 → Prop} {n : Nat} {hit : Nat → Prop} {R : Option Nat → Prop}
    (hx : ∀ d, R none → W (d + 1) (nI n))
    (hh : ∀ d i, i < n → hit i → R (some i) → W (d + 1) (nI i))
    (hm : ∀ d i, i < n → ¬ hit i → W d (nI (i + 1)) → W (d + 1) (nI i))
    (r : Option Nat) (hs : ∀ s, r = some s → s < n ∧ hit s ∧ ∀ j, j < s → ¬ hit j) (hn : r = none → ∀ j, j < n → ¬ hit j) (hR : R r) : W (n + 1) (nI 0) := by
  have key : ∀ d i, i + d = n → (∀ s, r = some s → i ≤ s) → W (d + 1) (nI i) := by
    intro d
    induction d with
    | zero =>
      intro i hi hle
      have : i = n := by omega
      subst this
      cases r with
      | none => exact hx 0 hR
      | some s => have a := hs s rfl; have b := hle s rfl; omega
    | succ d ih =>
      intro i hi hle
      cases r with
      | none => exact hm _ i (by omega) (hn rfl i (by omega)) (ih (i + 1) (by omega) (fun s z => by cases z))
      | some s =>
        have a := hs s rfl
        have b := hle s rfl
        by_cases e : i = s
        · subst e
          exact hh _ i a.1 a.2.1 hR
        · exact hm _ i (by omega) (a.2.2 i (by omega)) (ih (i + 1) (by omega) (fun s' z => by injection z with z; omega))
  exact key n 0 (by omega) (fun _ _ => Nat.zero_le _)
/-- a count -/
theorem ll_c {W : Nat → Int32 → Int32 → Prop} {n : Nat} {p : Nat → Bool} {R : Nat → Prop}
    (hx : ∀ d c, R c → W (d + 1) (nI c) (nI n))
    (ht : ∀ d c i, i < n → p i = true → W d (nI (c + 1)) (nI (i + 1)) → W (d + 1) (nI c) (nI i))
    (hf : ∀ d c i, i < n → p i = false → W d (nI c) (nI (i + 1)) → W (d + 1) (nI c) (nI i))
    (hR : R ((List.range n).filter p).length) : W (n + 1) (nI 0) (nI 0) := by
  have key : ∀ d i, i + d = n → W (d + 1) (nI ((List.range i).filter p).length) (nI i) := by
    intro d
    induction d with
    | zero =>
      intro i hi
      have : i = n := by omega
      subst this
      exact hx 0 _ hR
    | succ d ih =>
      intro i hi
      have I := ih (i + 1) (by omega)
      cases hp : p i with
      | true => rw [zl_rt hp] at I; exact ht _ _ i (by omega) hp I
      | false => rw [zl_rf hp] at I; exact hf _ _ i (by omega) hp I
  exact key n 0 (by omega)
/-- the place with a given number among those that fit -/
theorem ll_s {W : Nat → Int32 → Int32 → Prop} {n : Nat} {p : Nat → Bool} {R : Option Nat → Prop} (c0 i0 : Nat) (hi0 : ∀ j, j < i0 → p j = false) (h0n : i0 ≤ n)
    (hx : ∀ d c, R none → W (d + 1) (nI c) (nI n))
    (h0 : ∀ d i, i < n → p i = true → R (some i) → W (d + 1) (nI 0) (nI i))
    (ht : ∀ d c i, c + 1 ≤ c0 → i < n → p i = true → W d (nI c) (nI (i + 1)) → W (d + 1) (nI (c + 1)) (nI i))
    (hf : ∀ d c i, c ≤ c0 → i < n → p i = false → W d (nI c) (nI (i + 1)) → W (d + 1) (nI c) (nI i))
    (hR : R (((List.range n).filter p)[c0]?)) : W (n - i0 + 1) (nI c0) (nI i0) := by
  have key : ∀ d i c', i + d = n → ((List.range i).filter p).length + c' = c0 → W (d + 1) (nI c') (nI i) := by
    intro d
    induction d with
    | zero =>
      intro i c' hi hc
      have : i = n := by omega
      subst this
      rw [List.getElem?_eq_none (by omega)] at hR
      exact hx 0 _ hR
    | succ d ih =>
      intro i c' hi hc
      cases hp : p i with
      | true =>
        cases c' with
        | zero =>
          obtain ⟨l, hl⟩ := zl_cut hp n (by omega)
          rw [hl, List.getElem?_append_right (by omega), show c0 - ((List.range i).filter p).length = 0 from by omega] at hR
          exact h0 _ i (by omega) hp hR
        | succ c' => exact ht _ c' i (by omega) (by omega) hp (ih (i + 1) c' (by omega) (by rw [zl_rt hp]; omega))
      | false => exact hf _ c' i (by omega) (by omega) hp (ih (i + 1) c' (by omega) (by rw [zl_rf hp]; omega))
  have e0 : (List.range i0).filter p = [] := List.filter_eq_nil_iff.mpr (fun j hj => by rw [hi0 j (List.mem_range.mp hj)]; decide)
  exact key (n - i0) i0 c0 (by omega) (by rw [e0]; exact Nat.zero_add _)
section
variable {K : Nat → Int32}
/-- what stands behind a block on its chain -/
def zp_nx (K : Nat → Int32) (p : Nat) : Int32 := oI ((zp_dq K p).map (zp_bk K))
theorem zp_nx_n {p : Nat} (h : zp_dq K p = none) : zp_nx K p = -1 := by unfold zp_nx; rw [h]; rfl
theorem zp_nx_s {p q : Nat} (h : zp_dq K p = some q) : zp_nx K p = nI (zp_bk K q) := by unfold zp_nx; rw [h]; rfl
/-- counts along a chain as long as pr holds -/
theorem ll_cw {W : Nat → Int32 → Int32 → Int32 → Prop} {M N : Nat} {pr q : Nat → Bool} {R : Nat → Prop}
    (hx : ∀ d c st, st ≤ M → R c → W (d + 1) (nI c) (-1) (nI st))
    (hs : ∀ d c p st, p ≤ N → st < M → pr (zp_bk K p) = false → R c → W (d + 1) (nI c) (nI (zp_bk K p)) (nI st))
    (ht : ∀ d c p st, p ≤ N → st < M → pr (zp_bk K p) = true → q (zp_bk K p) = true → W d (nI (c + 1)) (zp_nx K p) (nI (st + 1)) → W (d + 1) (nI c) (nI (zp_bk K p)) (nI st))
    (hf : ∀ d c p st, p ≤ N → st < M → pr (zp_bk K p) = true → q (zp_bk K p) = false → W d (nI c) (zp_nx K p) (nI (st + 1)) → W (d + 1) (nI c) (nI (zp_bk K p)) (nI st)) :
    ∀ p d c st, p + 1 < d → p ≤ N → st + (zp_ch K p).length ≤ M → R (c + (((zp_ch K p).takeWhile pr).filter q).length) → W d (nI c) (nI (zp_bk K p)) (nI st) := by
  intro p
  induction p using Nat.strongRecOn with
  | ind p ih =>
    intro d c st hd hp hst hR
    obtain ⟨d, rfl⟩ : ∃ d', d = d' + 1 := ⟨d - 1, by omega⟩
    cases hq : zp_dq K p with
    | none =>
      obtain ⟨d, rfl⟩ : ∃ d', d = d' + 1 := ⟨d - 1, by omega⟩
      rw [zp_ch_n hq] at hst hR
      rw [List.length_singleton] at hst
      cases hpr : pr (zp_bk K p) with
      | false =>
        rw [List.takeWhile_cons_of_neg (by rw [hpr]; decide)] at hR
        exact hs _ c p st hp (by omega) hpr hR
      | true =>
        rw [List.takeWhile_cons_of_pos hpr, List.takeWhile_nil] at hR
        cases hqq : q (zp_bk K p) with
        | true =>
          rw [List.filter_cons_of_pos hqq, List.filter_nil] at hR
          exact ht _ c p st hp (by omega) hpr hqq (by rw [zp_nx_n hq]; exact hx _ _ _ (by omega) hR)
        | false =>
          rw [List.filter_cons_of_neg (by rw [hqq]; decide), List.filter_nil] at hR
          exact hf _ c p st hp (by omega) hpr hqq (by rw [zp_nx_n hq]; exact hx _ _ _ (by omega) hR)
    | some p' =>
      have a := (zp_dq_lt hq).1
      rw [zp_ch_s hq] at hst hR
      rw [List.length_cons] at hst
      cases hpr : pr (zp_bk K p) with
      | false =>
        rw [List.takeWhile_cons_of_neg (by rw [hpr]; decide)] at hR
        exact hs _ c p st hp (by omega) hpr hR
      | true =>
        rw [List.takeWhile_cons_of_pos hpr] at hR
        cases hqq : q (zp_bk K p) with
        | true =>
          rw [List.filter_cons_of_pos hqq, List.length_cons] at hR
          exact ht _ c p st hp (by omega) hpr hqq (by rw [zp_nx_s hq]; exact ih p' a d (c + 1) (st + 1) (by omega) (by omega) (by omega) (by rw [Nat.add_assoc, Nat.add_comm 1]; exact hR))
        | false =>
          rw [List.filter_cons_of_neg (by rw [hqq]; decide)] at hR
          exact hf _ c p st hp (by omega) hpr hqq (by rw [zp_nx_s hq]; exact ih p' a d c (st + 1) (by omega) (by omega) (by omega) hR)
theorem zl_tw (l : List Nat) : l.takeWhile (fun _ => true) = l := by
  induction l with
  | nil => rfl
  | cons x l ih => rw [List.takeWhile_cons_of_pos rfl, ih]
/-- the block with a given number along a chain -/
theorem ll_cs {W : Nat → Int32 → Int32 → Int32 → Prop} {M N : Nat} {q : Nat → Bool} {R : Option Nat → Prop} (c0 : Nat)
    (hx : ∀ d c st, st ≤ M → R none → W (d + 1) (nI c) (-1) (nI st))
    (h0 : ∀ d p st, p ≤ N → st < M → q (zp_bk K p) = true → R (some (zp_bk K p)) → W (d + 1) (nI 0) (nI (zp_bk K p)) (nI st))
    (ht : ∀ d c p st, c + 1 ≤ c0 → p ≤ N → st < M → q (zp_bk K p) = true → W d (nI c) (zp_nx K p) (nI (st + 1)) → W (d + 1) (nI (c + 1)) (nI (zp_bk K p)) (nI st))
    (hf : ∀ d c p st, p ≤ N → st < M → q (zp_bk K p) = false → W d (nI c) (zp_nx K p) (nI (st + 1)) → W (d + 1) (nI c) (nI (zp_bk K p)) (nI st)) :
    ∀ p d c st, c ≤ c0 → p + 1 < d → p ≤ N → st + (zp_ch K p).length ≤ M → R (((zp_ch K p).filter q)[c]?) → W d (nI c) (nI (zp_bk K p)) (nI st) := by
  intro p
  induction p using Nat.strongRecOn with
  | ind p ih =>
    intro d c st hc0 hd hp hst hR
    obtain ⟨d, rfl⟩ : ∃ d', d = d' + 1 := ⟨d - 1, by omega⟩
    cases hq : zp_dq K p with
    | none =>
      obtain ⟨d, rfl⟩ : ∃ d', d = d' + 1 := ⟨d - 1, by omega⟩
      rw [zp_ch_n hq] at hst hR
      rw [List.length_singleton] at hst
      cases hqq : q (zp_bk K p) with
      | true =>
        rw [List.filter_cons_of_pos hqq, List.filter_nil] at hR
        cases c with
        | zero => exact h0 _ p st hp (by omega) hqq hR
        | succ c => exact ht _ c p st (by omega) hp (by omega) hqq (by rw [zp_nx_n hq]; exact hx _ _ _ (by omega) hR)
      | false =>
        rw [List.filter_cons_of_neg (by rw [hqq]; decide), List.filter_nil] at hR
        exact hf _ c p st hp (by omega) hqq (by rw [zp_nx_n hq]; exact hx _ _ _ (by omega) hR)
    | some p' =>
      have a := (zp_dq_lt hq).1
      rw [zp_ch_s hq] at hst hR
      rw [List.length_cons] at hst
      cases hqq : q (zp_bk K p) with
      | true =>
        rw [List.filter_cons_of_pos hqq] at hR
        cases c with
        | zero => exact h0 _ p st hp (by omega) hqq hR
        | succ c => exact ht _ c p st (by omega) hp (by omega) hqq (by rw [zp_nx_s hq]; exact ih p' a d c (st + 1) (by omega) (by omega) (by omega) (by omega) hR)
      | false =>
        rw [List.filter_cons_of_neg (by rw [hqq]; decide)] at hR
        exact hf _ c p st hp (by omega) hqq (by rw [zp_nx_s hq]; exact ih p' a d c (st + 1) (by omega) (by omega) (by omega) (by omega) hR)
/-- is a block on the chain? -/
theorem ll_cf {W : Nat → Int32 → Int32 → Prop} {M N b : Nat} {R1 R0 : Prop}
    (hx : ∀ d st, st ≤ M → R0 → W (d + 1) (-1) (nI st))
    (hh : ∀ d p st, p ≤ N → st < M → zp_bk K p = b → R1 → W (d + 1) (nI (zp_bk K p)) (nI st))
    (hm : ∀ d p st, p ≤ N → st < M → zp_bk K p ≠ b → W d (zp_nx K p) (nI (st + 1)) → W (d + 1) (nI (zp_bk K p)) (nI st)) :
    ∀ p d st, p + 1 < d → p ≤ N → st + (zp_ch K p).length ≤ M → (b ∈ zp_ch K p → R1) → (b ∉ zp_ch K p → R0) → W d (nI (zp_bk K p)) (nI st) := by
  intro p
  induction p using Nat.strongRecOn with
  | ind p ih =>
    intro d st hd hp hst h1 h0
    obtain ⟨d, rfl⟩ : ∃ d', d = d' + 1 := ⟨d - 1, by omega⟩
    cases hq : zp_dq K p with
    | none =>
      obtain ⟨d, rfl⟩ : ∃ d', d = d' + 1 := ⟨d - 1, by omega⟩
      rw [zp_ch_n hq] at hst h1 h0
      rw [List.length_singleton] at hst
      by_cases e : zp_bk K p = b
      · exact hh _ p st hp (by omega) e (h1 (by rw [e]; exact List.mem_cons_self))
      · exact hm _ p st hp (by omega) e (by rw [zp_nx_n hq]; exact hx _ _ (by omega) (h0 (fun z => e (List.mem_singleton.mp z).symm)))
    | some p' =>
      have a := (zp_dq_lt hq).1
      rw [zp_ch_s hq] at hst h1 h0
      rw [List.length_cons] at hst
      by_cases e : zp_bk K p = b
      · exact hh _ p st hp (by omega) e (h1 (by rw [e]; exact List.mem_cons_self))
      · exact hm _ p st hp (by omega) e (by rw [zp_nx_s hq]; exact ih p' a d (st + 1) (by omega) (by omega) (by omega) (fun z => h1 (List.mem_cons_of_mem _ z)) (fun z => h0 (fun y => (List.mem_cons.mp y).elim (fun u => e u.symm) z)))
end
end
section
/-! the reference: what each search finds -/
def zp_yt (t : Nat) : Int32 := nI t - 1
theorem zp_yt_eq {s t : Nat} (hs : s ≤ 2) (ht : t ≤ 2) : zp_yt s = zp_yt t ↔ s = t := by
  constructor
  · intro h
    have : s = 0 ∨ s = 1 ∨ s = 2 := by omega
    have : t = 0 ∨ t = 1 ∨ t = 2 := by omega
    rcases ‹s = 0 ∨ s = 1 ∨ s = 2› with rfl | rfl | rfl <;> rcases ‹t = 0 ∨ t = 1 ∨ t = 2› with rfl | rfl | rfl <;> first | rfl | exact absurd h (by decide)
  · intro h; rw [h]
theorem zp_ty2 (k : Int32) : zp_ty k ≤ 2 := by
  unfold zp_ty
  by_cases h : k = 1 ∨ k = 2 ∨ k = 3 ∨ k = 8 ∨ k = 11
  · rw [if_pos h]; omega
  · rw [if_neg h]
    by_cases h' : k = 4 ∨ k = 5 ∨ k = 9
    · rw [if_pos h']; omega
    · rw [if_neg h']; omega
theorem zp_m1s (x : Int32) : x + (-1) = x - 1 := by rw [Int32.sub_eq_add_neg]
section
variable {fP fC fS nb ps : Int32} {K A B va oK oA oB ro fr bf we : Nat → Int32} {n : Nat} {post : Int32 → Prop}
theorem y_kind {i : Nat} (hn : n ≤ 16) (hi : i < n) (h : post (K i)) : wpY_kind post (fP, fC, fS, nI n, nb, ps, K, A, B, va, oK, oA, oB, ro, fr, bf, we) (nI i) := by
  refine br_f (nI_pos (by omega)) (br_t (nI_lt hi (by omega)) ⟨vp_in_nI (by omega) (by omega), ?_⟩)
  rw [nI_clamp (by omega)]; exact h
theorem y_kindN (h : post (-1)) : wpY_kind post (fP, fC, fS, nI n, nb, ps, K, A, B, va, oK, oA, oB, ro, fr, bf, we) (-1) := br_t (by decide) h
theorem y_kindO (hn : n ≤ 16) {o : Option Nat} (ho : ∀ i, o = some i → i < n) (h : post (o.elim (-1) K)) : wpY_kind post (fP, fC, fS, nI n, nb, ps, K, A, B, va, oK, oA, oB, ro, fr, bf, we) (oI o) := by
  cases o with
  | none => exact y_kindN h
  | some i => exact y_kind hn (ho i rfl) h
theorem y_isM_t {k : Int32} (hk : zp_M k) (h : post 1) : wpY_isMerge post (fP, fC, fS, nI n, nb, ps, K, A, B, va, oK, oA, oB, ro, fr, bf, we) k :=
  br_c (fun _ => h) (fun a => br_c (fun _ => h) (fun b => absurd hk (fun z => z.elim a b)))
theorem y_isM_f {k : Int32} (hk : ¬ zp_M k) (h : post 0) : wpY_isMerge post (fP, fC, fS, nI n, nb, ps, K, A, B, va, oK, oA, oB, ro, fr, bf, we) k :=
  br_f (fun z => hk (Or.inl z)) (br_f (fun z => hk (Or.inr z)) h)
theorem y_bord_t {k : Int32} (hk : zp_B k) (h : post 1) : wpY_border post (fP, fC, fS, nI n, nb, ps, K, A, B, va, oK, oA, oB, ro, fr, bf, we) k :=
  br_c (fun _ => h) (fun a => br_c (fun _ => h) (fun b => br_c (fun _ => h) (fun c => absurd hk (fun z => z.elim a (fun z => z.elim b c)))))
theorem y_bord_f {k : Int32} (hk : ¬ zp_B k) (h : post 0) : wpY_border post (fP, fC, fS, nI n, nb, ps, K, A, B, va, oK, oA, oB, ro, fr, bf, we) k :=
  br_f (fun z => hk (Or.inl z)) (br_f (fun z => hk (Or.inr (Or.inl z))) (br_f (fun z => hk (Or.inr (Or.inr z))) h))
theorem y_tyc {k : Int32} (h : post (zp_yt (zp_ty k))) : (((k = 4 → (post 1)) ∧ (¬ k = 4 → (((k = 5 → (post 1)) ∧ (¬ k = 5 → (((k = 9 → (post 1)) ∧ (¬ k = 9 → (((k = 1 → (post 0)) ∧ (¬ k = 1 → (((k = 2 → (post 0)) ∧ (¬ k = 2 → (((k = 3 → (post 0)) ∧ (¬ k = 3 → (((k = 8 → (post 0)) ∧ (¬ k = 8 → (((k = 11 → (post 0)) ∧ (¬ k = 11 → (post (-1)))))))))))))))))))))))))) := by
  have e4 : zp_yt (zp_ty 4) = 1 := by decide
  have e5 : zp_yt (zp_ty 5) = 1 := by decide
  have e9 : zp_yt (zp_ty 9) = 1 := by decide
  have e1 : zp_yt (zp_ty 1) = 0 := by decide
  have e2 : zp_yt (zp_ty 2) = 0 := by decide
  have e3 : zp_yt (zp_ty 3) = 0 := by decide
  have e8 : zp_yt (zp_ty 8) = 0 := by decide
  have e11 : zp_yt (zp_ty 11) = 0 := by decide
  refine br_c (fun z => ?_) (fun n4 => br_c (fun z => ?_) (fun n5 => br_c (fun z => ?_) (fun n9 => br_c (fun z => ?_) (fun n1 => br_c (fun z => ?_) (fun n2 => br_c (fun z => ?_) (fun n3 => br_c (fun z => ?_) (fun n8 => br_c (fun z => ?_) (fun n11 => ?_))))))))
  · rw [z, e4] at h; exact h
  · rw [z, e5] at h; exact h
  · rw [z, e9] at h; exact h
  · rw [z, e1] at h; exact h
  · rw [z, e2] at h; exact h
  · rw [z, e3] at h; exact h
  · rw [z, e8] at h; exact h
  · rw [z, e11] at h; exact h
  · have e : zp_ty k = 0 := by
      unfold zp_ty
      rw [if_neg (by rintro (z | z | z | z | z); exact n1 z; exact n2 z; exact n3 z; exact n8 z; exact n11 z), if_neg (by rintro (z | z | z); exact n4 z; exact n5 z; exact n9 z)]
    rw [e] at h; exact h
theorem y_typ {i : Nat} (hn : n ≤ 16) (hi : i < n) (h : post (zp_yt (zp_ty (K i)))) : wpY_typ post (fP, fC, fS, nI n, nb, ps, K, A, B, va, oK, oA, oB, ro, fr, bf, we) (nI i) := by
  unfold wpY_typ
  dsimp only
  exact y_kind hn hi (y_tyc h)
theorem y_typN (h : post (-1)) : wpY_typ post (fP, fC, fS, nI n, nb, ps, K, A, B, va, oK, oA, oB, ro, fr, bf, we) (-1) := by
  unfold wpY_typ
  dsimp only
  refine y_kindN (y_tyc ?_)
  rw [show zp_yt (zp_ty (-1)) = -1 from by decide]; exact h
theorem y_blockOf {i : Nat} (hn : n ≤ 16) (hi : i ≤ n) (h : post (nI (zp_bk K i))) : wpY_blockOf post (fP, fC, fS, nI n, nb, ps, K, A, B, va, oK, oA, oB, ro, fr, bf, we) (nI i) := by
  have key : ∀ d j, j + d = i → wY_blockOf_4 post (nI i) fP fC fS (nI n) nb ps K A B va oK oA oB ro fr bf we (d + 1) (nI (zp_bk K j)) (nI j) := by
    intro d
    induction d with
    | zero =>
      intro j hj
      have : j = i := by omega
      subst this
      exact br_t (nI_le (Nat.le_refl _) (by omega)) h
    | succ d ih =>
      intro j hj
      have I := ih (j + 1) (by omega)
      refine br_f (nI_ge (by omega) (by omega)) (br_f (nI_ge (by omega) (by omega)) ⟨vp_in_nI (by omega) (by omega), ?_⟩)
      rw [nI_clamp (by omega)]
      by_cases hb : zp_B (K j)
      · rw [zp_bk_b hb] at I
        exact y_bord_t hb (br_f (by decide) (nm_r (nI_1 _) (nm_r (nI_1 _) I)))
      · rw [zp_bk_n hb] at I
        exact y_bord_f hb (br_t rfl (nm_r (nI_1 _) I))
  exact Exists.intro (i + 1) (key i 0 (by omega))
theorem y_owed (hn : n ≤ 16) (hf : ∀ i, i < n → zp_fi K i = false) (h : post (nI (zp_ow K n))) : wpY_owed post (fP, fC, fS, nI n, nb, ps, K, A, B, va, oK, oA, oB, ro, fr, bf, we) := by
  have key : ∀ d j, j + d = n → wY_owed_4 post fP fC fS (nI n) nb ps K A B va oK oA oB ro fr bf we (d + 1) (nI (zp_ow K j)) (nI j) := by
    intro d
    induction d with
    | zero =>
      intro j hj
      have : j = n := by omega
      subst this
      exact br_t (nI_le (Nat.le_refl _) (by omega)) h
    | succ d ih =>
      intro j hj
      have I := ih (j + 1) (by omega)
      have F := hf j (by omega)
      have V : vp_in (nI j) 16 := vp_in_nI (by omega) (by omega)
      refine br_f (nI_ge (by omega) (by omega)) ⟨V, ?_⟩
      rw [nI_clamp (by omega)]
      by_cases h6 : K j = 6
      · rw [zp_ow_6 F h6] at I
        exact br_t h6 (nm_r (nI_add _ 2) (nm_r (nI_1 _) I))
      · refine br_f h6 ⟨V, ?_⟩
        by_cases h7 : K j = 7
        · rw [zp_ow_7 F h7] at I
          exact br_t h7 (nm_r (nI_1 _) (nm_r (nI_1 _) I))
        · refine br_f h7 ⟨V, ?_⟩
          by_cases h0 : K j = 0
          · rw [zp_ow_0 F h0]
            exact br_t h0 (nm_r (pk_m1 _) (nm_r (nI_1 _) I))
          · rw [zp_ow_p F (by rintro (z | z | z); exact h0 z; exact h6 z; exact h7 z)] at I
            exact br_f h0 (nm_r (Int32.add_zero _) (nm_r (nI_1 _) I))
  have e : zp_ow K 0 = 1 := rfl
  have k0 := key n 0 (by omega)
  rw [e] at k0
  exact Exists.intro (n + 1) k0
theorem y_opl (hn : n ≤ 16) : ∀ j e, j ≤ n → 1 ≤ e → e + j ≤ 100 → post (oI (zp_fd K (zp_sk K j) e)) → wY_opener_6 post fP fC fS (nI n) nb ps K A B va oK oA oB ro fr bf we (j + 1) (nI e) (nI j - 1) := by
  intro j
  induction j with
  | zero => intro e _ _ _ h; exact br_t (by decide) h
  | succ j ih =>
    intro e hj he hb h
    have V : vp_in (nI j) 16 := vp_in_nI (by omega) (by omega)
    rw [nI_pred]
    refine br_f (nI_pos (by omega)) ⟨V, ?_⟩
    rw [nI_clamp (by omega)]
    by_cases h0 : K j = 0
    · rw [← zp_fd_0 h0 he] at h
      refine br_t h0 (nm_r (nI_1 e) (br_t (nI_lt (a := 0) (by omega) (by omega)) (nm_r (zp_m1s _) ?_)))
      exact ih (e + 1) (by omega) (by omega) (by omega) h
    · refine br_f h0 ⟨V, ?_⟩
      by_cases h7 : K j = 7
      · rw [zp_fd_7 h7] at h
        by_cases e1 : e ≤ 1
        · rw [if_pos e1] at h
          have : e = 1 := by omega
          subst this
          exact br_t h7 (nm_r (pk_m1 0) (br_f (nI_nlt (a := 0) (b := 0) (Nat.le_refl _) (by omega)) h))
        · rw [if_neg e1] at h
          obtain ⟨e', rfl⟩ : ∃ e', e = e' + 1 := ⟨e - 1, by omega⟩
          refine br_t h7 (nm_r (pk_m1 e') (br_t (nI_lt (a := 0) (by omega) (by omega)) (nm_r (zp_m1s _) ?_)))
          exact ih e' (by omega) (by omega) (by omega) h
      · refine br_f h7 ⟨V, ?_⟩
        by_cases h6 : K j = 6
        · rw [zp_fd_6 h6] at h
          by_cases e1 : e ≤ 2
          · rw [if_pos e1] at h
            have : e = 1 ∨ e = 2 := by omega
            rcases this with rfl | rfl
            · exact br_t h6 (nm_r (show nI 1 + (-2) = -1 from by decide) (br_f (by decide) h))
            · exact br_t h6 (nm_r (show nI 2 + (-2) = 0 from by decide) (br_f (by decide) h))
          · rw [if_neg e1] at h
            obtain ⟨e', rfl⟩ : ∃ e', e = e' + 2 := ⟨e - 2, by omega⟩
            have ee : nI (e' + 2) + (-2) = nI e' := by
              rw [← nI_add, Int32.add_assoc, show nI 2 + (-2) = 0 from by decide, Int32.add_zero]
            refine br_t h6 (nm_r ee (br_t (nI_lt (a := 0) (by omega) (by omega)) (nm_r (zp_m1s _) ?_)))
            exact ih e' (by omega) (by omega) (by omega) h
        · rw [zp_skp (by rintro (z | z | z); exact h0 z; exact h6 z; exact h7 z)] at h
          refine br_f h6 (nm_r (Int32.add_zero _) (br_t (nI_lt (a := 0) (by omega) (by omega)) (nm_r (zp_m1s _) ?_)))
          exact ih e (by omega) he (by omega) h
theorem y_opener {i : Nat} (hn : n ≤ 16) (hi : i ≤ n) (h : post (oI (zp_top K i))) : wpY_opener post (fP, fC, fS, nI n, nb, ps, K, A, B, va, oK, oA, oB, ro, fr, bf, we) (nI i) := by
  refine nm_e ⟨i + 1, ?_⟩
  exact y_opl hn i 1 hi (Nat.le_refl _) (by omega) (by rw [zp_fd_1]; exact h)
end
end
section
/-! the reference: ends, starters, origins, dominators, chains -/
theorem zp_oIeq {o : Option Nat} {x : Nat} (ho : ∀ i, o = some i → i < 2 ^ 31) (hx : x < 2 ^ 31) : oI o = nI x ↔ o = some x := by
  cases o with
  | none => exact ⟨fun h => absurd h (zp_nm1' hx), fun h => by cases h⟩
  | some i =>
    rw [oI_s, nI_eq (ho i rfl) hx]
    exact ⟨fun h => by rw [h], fun h => by injection h⟩
theorem zp_oIm1 {o : Option Nat} (ho : ∀ i, o = some i → i < 2 ^ 31) : oI o = -1 ↔ o = none := by
  cases o with
  | none => exact ⟨fun _ => rfl, fun _ => rfl⟩
  | some i => exact ⟨fun h => absurd h (zp_nm1 (ho i rfl)), fun h => by cases h⟩
theorem zp_sk_le {K : Nat → Int32} : ∀ p, (zp_sk K p).length ≤ p := by
  intro p
  induction p with
  | zero => exact Nat.le_refl _
  | succ p ih =>
    by_cases h : K p = 6 ∨ K p = 7
    · rw [zp_sk6 h, List.length_cons]; omega
    · have := zp_sk_len (K := K) (i := p) h
      omega
section
variable {fP fC fS nb ps : Int32} {K A B va oK oA oB ro fr bf we : Nat → Int32} {n : Nat} {post : Int32 → Prop}
theorem y_endOf {o q : Nat} (hn : n ≤ 16) (ho : o < n) (hq : q < 100) (h : post (oI ((zp_ac K o n)[q]?))) : wpY_endOf post (fP, fC, fS, nI n, nb, ps, K, A, B, va, oK, oA, oB, ro, fr, bf, we) (nI o) (nI (q + 1)) := by
  refine nm_r (nI_1 o) ⟨n - (o + 1) + 1, ?_⟩
  have ot : ∀ i, i < n → (oI (zp_top K i) = nI o ↔ zp_top K i = some o) := fun i hi => zp_oIeq (fun j hj => by have := zp_top_lt hj; omega) (by omega)
  rw [← nI_1 q]
  refine ll_s (W := fun d c i => wY_endOf_7 post (nI o) fP fC fS (nI n) nb ps K A B va oK oA oB ro fr bf we d (c + 1) i) (p := fun e => decide (K e = 0 ∧ zp_top K e = some o)) (R := fun r => post (oI r)) q (o + 1) ?_ (by omega) ?_ ?_ ?_ ?_ h
  · intro j hj
    exact decide_eq_false (fun z => by have := zp_top_lt z.2; omega)
  · intro d c hr
    exact br_t (nI_le (Nat.le_refl _) (by omega)) hr
  · intro d i hi hp hr
    have hp := of_decide_eq_true hp
    refine br_f (nI_ge hi (by omega)) ⟨vp_in_nI (by omega) (by omega), ?_⟩
    rw [nI_clamp (by omega)]
    refine br_t hp.1 (y_opener hn (by omega) (br_t ((ot i hi).mpr hp.2) (nm_r (show nI 0 + 1 + (-1) = 0 from by decide) ?_)))
    exact br_t rfl hr
  · intro d c i hc hi hp hr
    have hp := of_decide_eq_true hp
    refine br_f (nI_ge hi (by omega)) ⟨vp_in_nI (by omega) (by omega), ?_⟩
    rw [nI_clamp (by omega)]
    refine br_t hp.1 (y_opener hn (by omega) (br_t ((ot i hi).mpr hp.2) (nm_r (e' := nI c + 1) (by rw [nI_1, nI_1, pk_m1]) ?_)))
    exact br_f (by rw [nI_1]; exact nI_ne0 (by omega) (by omega)) (nm_r (nI_1 i) hr)
  · intro d c i hc hi hp hr
    have hp := of_decide_eq_false hp
    refine br_f (nI_ge hi (by omega)) ⟨vp_in_nI (by omega) (by omega), ?_⟩
    rw [nI_clamp (by omega)]
    have T : wY_endOf_39 post (wY_endOf_7 post (nI o) fP fC fS (nI n) nb ps K A B va oK oA oB ro fr bf we d) (nI o) (nI c + 1) (nI i) fP fC fS (nI n) nb ps K A B va oK oA oB ro fr bf we := br_f (by rw [nI_1]; exact nI_ne0 (by omega) (by omega)) (nm_r (nI_1 i) hr)
    by_cases h0 : K i = 0
    · exact br_t h0 (y_opener hn (by omega) (br_f (fun z => hp ⟨h0, (ot i hi).mp z⟩) T))
    · exact br_f h0 T
theorem y_depthL (hn : n ≤ 16) : ∀ p d c st, p + 1 < d → p ≤ n → st + (zp_sk K p).length ≤ n + 1 → c ≤ st → post (nI (c + (zp_sk K p).length)) → wY_depth_13 post fP fC fS (nI n) nb ps K A B va oK oA oB ro fr bf we d (nI c) (oI (zp_top K p)) (nI st) := by
  intro p
  induction p using Nat.strongRecOn with
  | ind p ih =>
    intro d c st hd hp hst hc h
    obtain ⟨d, rfl⟩ : ∃ d', d = d' + 1 := ⟨d - 1, by omega⟩
    cases hs : zp_sk K p with
    | nil =>
      rw [zp_top_e hs]
      rw [hs] at h
      exact br_c (fun _ => h) (fun _ => br_t rfl h)
    | cons e r =>
      obtain ⟨o, t⟩ := e
      have S := zp_st p o t r hs
      rw [zp_top_c hs]
      rw [hs, List.length_cons] at h hst
      rw [S.2.2.1] at h hst
      refine br_f (nI_nlt (by omega) (by omega)) (br_f (zp_nm1 (by omega)) (nm_r (nI_1 c) ?_))
      refine y_opener hn (by omega) (nm_r (nI_1 st) ?_)
      exact ih o S.1 d (c + 1) (st + 1) (by omega) (by omega) (by omega) (by omega) (by rw [Nat.add_assoc, Nat.add_comm 1]; exact h)
theorem y_depth (hn : n ≤ 16) (h : post (nI (zp_sk K n).length)) : wpY_depth post (fP, fC, fS, nI n, nb, ps, K, A, B, va, oK, oA, oB, ro, fr, bf, we) := by
  unfold wpY_depth
  dsimp only
  refine y_opener hn (Nat.le_refl _) ⟨n + 2, ?_⟩
  exact y_depthL hn n (n + 2) 0 0 (by omega) (Nat.le_refl _) (by have := zp_sk_le (K := K) n; omega) (Nat.le_refl _) (by rw [Nat.zero_add]; exact h)
theorem y_starterG {x : Int32} (hn : n ≤ 16) (r : Option Nat) (hs : ∀ s, r = some s → s < n ∧ (zp_B (K s) ∧ nI (zp_bk K s) + 1 = x) ∧ ∀ j, j < s → ¬ (zp_B (K j) ∧ nI (zp_bk K j) + 1 = x)) (hr : r = none → ∀ j, j < n → ¬ (zp_B (K j) ∧ nI (zp_bk K j) + 1 = x)) (h : post (oI r)) : wpY_starter post (fP, fC, fS, nI n, nb, ps, K, A, B, va, oK, oA, oB, ro, fr, bf, we) x := by
  refine Exists.intro (n + 1) ?_
  refine ll_f (W := fun d i => wY_starter_2 post x fP fC fS (nI n) nb ps K A B va oK oA oB ro fr bf we d i) (hit := fun j => zp_B (K j) ∧ nI (zp_bk K j) + 1 = x) (R := fun r => post (oI r)) ?_ ?_ ?_ r hs hr h
  · intro d hr
    exact br_t (nI_le (Nat.le_refl _) (by omega)) hr
  · intro d i hi hh hr
    refine br_f (nI_ge hi (by omega)) ⟨vp_in_nI (by omega) (by omega), ?_⟩
    rw [nI_clamp (by omega)]
    exact y_bord_t hh.1 (br_f (by decide) (y_blockOf hn (by omega) (br_t hh.2 hr)))
  · intro d i hi hh hr
    refine br_f (nI_ge hi (by omega)) ⟨vp_in_nI (by omega) (by omega), ?_⟩
    rw [nI_clamp (by omega)]
    by_cases hb : zp_B (K i)
    · exact y_bord_t hb (br_f (by decide) (y_blockOf hn (by omega) (br_f (fun z => hh ⟨hb, z⟩) (nm_r (nI_1 i) hr))))
    · exact y_bord_f hb (br_t rfl (nm_r (nI_1 i) hr))
theorem y_starter {p : Nat} (hn : n ≤ 16) (hp : p ≤ n) (h : post (oI (zp_ls K p))) : wpY_starter post (fP, fC, fS, nI n, nb, ps, K, A, B, va, oK, oA, oB, ro, fr, bf, we) (nI (zp_bk K p)) := by
  have bb : ∀ j, zp_bk K j ≤ j := zp_bk_le
  have eq : ∀ j, j ≤ n → (nI (zp_bk K j) + 1 = nI (zp_bk K p) ↔ zp_bk K j + 1 = zp_bk K p) := fun j hj => by
    rw [nI_1, nI_eq (by have := bb j; omega) (by have := bb p; omega)]
  refine y_starterG hn (zp_ls K p) ?_ ?_ h
  · intro s hs
    have a := zp_ls_some hs
    refine ⟨by omega, ⟨a.2.1, (eq s (by omega)).mpr a.2.2.symm⟩, fun j hj hz => ?_⟩
    have b := zp_bk_lt hz.1 hj
    have c := (eq j (by omega)).mp hz.2
    omega
  · intro hl j hj hz
    have a := zp_ls_none hl
    have c := (eq j (by omega)).mp hz.2
    omega
theorem y_origin {p : Nat} (hn : n ≤ 16) (hp : p ≤ n) (h : post (oI (zp_og K p))) : wpY_origin post (fP, fC, fS, nI n, nb, ps, K, A, B, va, oK, oA, oB, ro, fr, bf, we) (nI p) := by
  unfold wpY_origin
  dsimp only
  refine y_blockOf hn hp (y_starter hn hp ?_)
  cases hl : zp_ls K p with
  | none =>
    have e : zp_og K p = none := by unfold zp_og; rw [hl]; rfl
    rw [e] at h
    exact y_kindN (br_f (by decide) (y_kindN (br_f (by decide) h)))
  | some s =>
    have a := zp_ls_some hl
    have e : zp_og K p = if K s = 7 then some s else (zp_el K s).map Prod.fst := by unfold zp_og; rw [hl]; rfl
    rw [e] at h
    refine y_kind hn (by omega) ?_
    by_cases h7 : K s = 7
    · rw [if_pos h7] at h
      exact br_t h7 h
    · rw [if_neg h7] at h
      refine br_f h7 (y_kind hn (by omega) ?_)
      by_cases h0 : K s = 0
      · refine br_t h0 (y_opener hn (by omega) ?_)
        cases hs : zp_sk K s with
        | nil =>
          rw [zp_el_no (by rintro ⟨_, o, t, r, z, _⟩; rw [hs] at z; cases z)] at h
          rw [zp_top_e hs]
          exact y_kindN (br_f (by decide) h)
        | cons x r =>
          obtain ⟨o, t⟩ := x
          have S := zp_st s o t r hs
          have T := zp_ac_top s o t r hs
          have U := zp_ac_y (K := K) (o := o) (n := s) ⟨h0, zp_top_c hs⟩
          obtain ⟨l, hl2⟩ := zp_ac_pre (K := K) (o := o) (m := s + 1) (n := n) (by omega)
          rw [zp_top_c hs]
          refine y_kind hn (by omega) ?_
          by_cases h6 : K o = 6
          · refine br_t h6 (y_endOf (q := 1) hn (by omega) (by omega) ?_)
            by_cases ht : t = 0
            · rw [zp_el_no (by rintro ⟨_, o', t', r', z, _, z2⟩; rw [hs] at z; injection z with z1 _; injection z1 with _ z1; exact z2 (by rw [← z1]; exact ht))] at h
              refine br_f ?_ h
              rw [oI_s, zp_oIeq (x := s) ?_ (by omega)]
              · rw [hl2, U, T, if_pos ht]
                intro z
                have nd : (zp_ac K o n).Nodup := List.Nodup.sublist List.filter_sublist List.nodup_range
                have i0 : (zp_ac K o n)[0]? = some s := by rw [hl2, U, T, if_pos ht]; rfl
                have i1 : (zp_ac K o n)[1]? = some s := by rw [hl2, U, T, if_pos ht]; exact z
                have l0 : 0 < (zp_ac K o n).length := by rw [hl2, U, T, if_pos ht]; exact Nat.succ_pos _
                have := (List.getElem?_inj l0 nd).mp (i0.trans i1.symm)
                omega
              · intro i hi
                have := List.mem_of_getElem? hi
                have := List.mem_range.mp (List.mem_filter.mp this).1
                omega
            · rw [zp_el_of h0 hs h6 ht] at h
              refine br_t ?_ h
              rw [hl2, U, T, if_neg ht]; rfl
          · rw [zp_el_no (by rintro ⟨_, o', t', r', z, z2, _⟩; rw [hs] at z; injection z with z1 _; injection z1 with z1 _; exact h6 (by rw [z1]; exact z2))] at h
            exact br_f h6 h
      · rw [zp_el_no (fun z => h0 z.1)] at h
        exact br_f h0 h
theorem y_dom {p : Nat} (hn : n ≤ 16) (hp : p ≤ n) (h : post (zp_nx K p)) : wpY_dominator post (fP, fC, fS, nI n, nb, ps, K, A, B, va, oK, oA, oB, ro, fr, bf, we) (nI (zp_bk K p)) := by
  unfold wpY_dominator
  dsimp only
  refine y_starter hn hp ?_
  cases hl : zp_ls K p with
  | none =>
    rw [zp_nx_n (zp_dq_n hl)] at h
    exact br_t rfl h
  | some s =>
    have a := zp_ls_some hl
    refine br_f (zp_nm1 (by omega)) ⟨vp_in_nI (by omega) (by omega), ?_⟩
    rw [oI_s, nI_clamp (by omega)]
    by_cases h0 : K s = 0
    · refine br_t h0 (y_opener hn (by omega) ?_)
      cases ht : zp_top K s with
      | none =>
        rw [zp_nx_n (by rw [zp_dq_s hl, zp_dp_e h0 ht])] at h
        exact br_t rfl h
      | some o =>
        have b := zp_top_lt ht
        refine br_f (zp_nm1 (by omega)) ⟨vp_in_nI (by omega) (by omega), ?_⟩
        rw [oI_s, nI_clamp (by omega)]
        by_cases h6 : K o = 6
        · rw [zp_nx_s (q := o) (by rw [zp_dq_s hl, zp_dp_6 h0 ht h6])] at h
          exact br_t h6 (y_blockOf hn (by omega) h)
        · rw [zp_nx_s (q := s) (by rw [zp_dq_s hl, zp_dp_7 h0 ht h6])] at h
          exact br_f h6 (y_blockOf hn (by omega) h)
    · rw [zp_nx_s (q := s) (by rw [zp_dq_s hl, zp_dp_b h0])] at h
      exact br_f h0 (y_blockOf hn (by omega) h)
theorem y_held {t b : Nat} (hn : n ≤ 16) (ht : t ≤ 2) (hb : b < 2 ^ 31) (h : post (nI (zp_it K t b n).length)) : wpY_held post (fP, fC, fS, nI n, nb, ps, K, A, B, va, oK, oA, oB, ro, fr, bf, we) (zp_yt t) (nI b) := by
  refine Exists.intro (n + 1) ?_
  refine ll_c (W := fun d c i => wY_held_5 post (zp_yt t) (nI b) fP fC fS (nI n) nb ps K A B va oK oA oB ro fr bf we d c i) (p := fun i => decide (zp_bk K i = b ∧ zp_ty (K i) = t)) (R := fun c => post (nI c)) ?_ ?_ ?_ h
  · intro d c hr
    exact br_t (nI_le (Nat.le_refl _) (by omega)) hr
  · intro d c i hi hp hr
    have hp := of_decide_eq_true hp
    refine br_f (nI_ge hi (by omega)) (y_typ hn hi (br_t (by rw [hp.2]) (y_blockOf hn (by omega) (br_t (by rw [hp.1]) ?_))))
    exact nm_r (nI_1 c) (nm_r (nI_1 i) hr)
  · intro d c i hi hp hr
    have hp := of_decide_eq_false hp
    refine br_f (nI_ge hi (by omega)) (y_typ hn hi ?_)
    by_cases h1 : zp_ty (K i) = t
    · refine br_t (by rw [h1]) (y_blockOf hn (by omega) (br_f ?_ (nm_r (nI_1 i) hr)))
      rw [nI_eq (by have := zp_bk_le (K := K) i; omega) hb]
      exact fun z => hp ⟨z, h1⟩
    · refine br_f ?_ (nm_r (nI_1 i) hr)
      rw [zp_yt_eq (zp_ty2 _) ht]; exact h1
theorem y_item {t b c : Nat} (hn : n ≤ 16) (ht : t ≤ 2) (hb : b < 2 ^ 31) (hc : c < 100) (h : post (oI ((zp_it K t b n)[c]?))) : wpY_item post (fP, fC, fS, nI n, nb, ps, K, A, B, va, oK, oA, oB, ro, fr, bf, we) (zp_yt t) (nI b) (nI c) := by
  refine Exists.intro (n - 0 + 1) ?_
  refine ll_s (W := fun d c i => wY_item_6 post (zp_yt t) (nI b) fP fC fS (nI n) nb ps K A B va oK oA oB ro fr bf we d c i) (p := fun i => decide (zp_bk K i = b ∧ zp_ty (K i) = t)) (R := fun r => post (oI r)) c 0 (fun j hj => by omega) (by omega) ?_ ?_ ?_ ?_ h
  · intro d c hr
    exact br_t (nI_le (Nat.le_refl _) (by omega)) hr
  · intro d i hi hp hr
    have hp := of_decide_eq_true hp
    refine br_f (nI_ge hi (by omega)) (y_typ hn hi (br_t (by rw [hp.2]) (y_blockOf hn (by omega) (br_t (by rw [hp.1]) ?_))))
    exact br_t rfl hr
  · intro d c i hc' hi hp hr
    have hp := of_decide_eq_true hp
    refine br_f (nI_ge hi (by omega)) (y_typ hn hi (br_t (by rw [hp.2]) (y_blockOf hn (by omega) (br_t (by rw [hp.1]) ?_))))
    exact br_f (nI_ne0 (by omega) (by omega)) (nm_r (pk_m1 c) (nm_r (nI_1 i) hr))
  · intro d c i _ hi hp hr
    have hp := of_decide_eq_false hp
    refine br_f (nI_ge hi (by omega)) (y_typ hn hi ?_)
    by_cases h1 : zp_ty (K i) = t
    · refine br_t (by rw [h1]) (y_blockOf hn (by omega) (br_f ?_ (nm_r (nI_1 i) hr)))
      rw [nI_eq (by have := zp_bk_le (K := K) i; omega) hb]
      exact fun z => hp ⟨z, h1⟩
    · refine br_f ?_ (nm_r (nI_1 i) hr)
      rw [zp_yt_eq (zp_ty2 _) ht]; exact h1
theorem zp_hq_t {t b : Nat} (h : zp_hq K n t b = true) : ¬ nI (zp_it K t b n).length ≤ 0 ∨ 2 ^ 31 ≤ n := by
  rcases Nat.lt_or_ge n (2 ^ 31) with z | z
  · refine Or.inl (nI_nle ?_ ?_)
    · exact List.length_pos_iff.mpr (of_decide_eq_true h)
    · have := zp_it_len (K := K) t b n
      omega
  · exact Or.inr z
theorem zp_hq_f {t b : Nat} (h : zp_hq K n t b = false) : nI (zp_it K t b n).length ≤ 0 := by
  have e : zp_it K t b n = [] := Decidable.of_not_not (of_decide_eq_false h)
  rw [e]; decide
theorem y_blocks {t p : Nat} (hn : n ≤ 16) (ht : t ≤ 2) (hp : p ≤ n) (h : post (nI (zp_ct K n t p).length)) : wpY_blocks post (fP, fC, fS, nI n, nb, ps, K, A, B, va, oK, oA, oB, ro, fr, bf, we) (zp_yt t) (nI (zp_bk K p)) := by
  refine Exists.intro (p + 2) ?_
  have L : ∀ q, q ≤ n → zp_bk K q < 2 ^ 31 := fun q hq => by have := zp_bk_le (K := K) q; omega
  refine ll_cw (K := K) (W := fun d c b s => wY_blocks_8 post (zp_yt t) fP fC fS (nI n) nb ps K A B va oK oA oB ro fr bf we d c b s) (M := n + 1) (N := n) (pr := fun _ => true) (q := zp_hq K n t) (R := fun c => post (nI c)) ?_ ?_ ?_ ?_ p (p + 2) 0 0 (by omega) hp (by have := zp_ch_len (K := K) p; have := zp_bk_le (K := K) p; omega) (by rw [zl_tw, Nat.zero_add]; exact h)
  · intro d c st _ hr
    exact br_c (fun _ => hr) (fun _ => br_t rfl hr)
  · intro d c q st _ _ hz; cases hz
  · intro d c q st hq hst _ hqq hr
    refine br_f (nI_nlt (by omega) (by omega)) (br_f (zp_nm1 (L q hq)) (y_held hn ht (L q hq) (br_f ((zp_hq_t hqq).resolve_right (by omega)) (nm_r (nI_1 c) ?_))))
    exact y_dom hn hq (nm_r (nI_1 st) hr)
  · intro d c q st hq hst _ hqq hr
    refine br_f (nI_nlt (by omega) (by omega)) (br_f (zp_nm1 (L q hq)) (y_held hn ht (L q hq) (br_t (zp_hq_f hqq) ?_)))
    exact y_dom hn hq (nm_r (nI_1 st) hr)
theorem y_nth {t p c : Nat} (hn : n ≤ 16) (ht : t ≤ 2) (hp : p ≤ n) (hc : c < 100) (h : post (oI ((zp_ct K n t p)[c]?))) : wpY_nth post (fP, fC, fS, nI n, nb, ps, K, A, B, va, oK, oA, oB, ro, fr, bf, we) (zp_yt t) (nI (zp_bk K p)) (nI c) := by
  refine Exists.intro (p + 2) ?_
  have L : ∀ q, q ≤ n → zp_bk K q < 2 ^ 31 := fun q hq => by have := zp_bk_le (K := K) q; omega
  refine ll_cs (K := K) (W := fun d c b s => wY_nth_9 post (zp_yt t) fP fC fS (nI n) nb ps K A B va oK oA oB ro fr bf we d c b s) (M := n + 1) (N := n) (q := zp_hq K n t) (R := fun r => post (oI r)) c ?_ ?_ ?_ ?_ p (p + 2) c 0 (Nat.le_refl _) (by omega) hp (by have := zp_ch_len (K := K) p; have := zp_bk_le (K := K) p; omega) h
  · intro d c st _ hr
    exact br_c (fun _ => hr) (fun _ => br_t rfl hr)
  · intro d q st hq hst hqq hr
    refine br_f (nI_nlt (by omega) (by omega)) (br_f (zp_nm1 (L q hq)) (y_held hn ht (L q hq) (br_f ((zp_hq_t hqq).resolve_right (by omega)) ?_)))
    exact br_t rfl hr
  · intro d c q st hc' hq hst hqq hr
    refine br_f (nI_nlt (by omega) (by omega)) (br_f (zp_nm1 (L q hq)) (y_held hn ht (L q hq) (br_f ((zp_hq_t hqq).resolve_right (by omega)) ?_)))
    exact br_f (nI_ne0 (by omega) (by omega)) (nm_r (pk_m1 c) (y_dom hn hq (nm_r (nI_1 st) hr)))
  · intro d c q st hq hst hqq hr
    refine br_f (nI_nlt (by omega) (by omega)) (br_f (zp_nm1 (L q hq)) (y_held hn ht (L q hq) (br_t (zp_hq_f hqq) ?_)))
    exact y_dom hn hq (nm_r (nI_1 st) hr)
theorem y_kindX {v : Int32} (hn : n ≤ 16) (hv : v < 0 ∨ nI n ≤ v) (h : post (-1)) : wpY_kind post (fP, fC, fS, nI n, nb, ps, K, A, B, va, oK, oA, oB, ro, fr, bf, we) v := by
  rcases hv with hv | hv
  · exact br_t hv h
  · have nl : ¬ v < nI n := by rw [Int32.not_lt]; exact hv
    have nn : ¬ v < 0 := fun z => nl (Int32.lt_of_lt_of_le z (nI_pos' (by omega)))
    exact br_f nn (br_f nl h)
theorem y_typX {v : Int32} (hn : n ≤ 16) (hv : v < 0 ∨ nI n ≤ v) (h : post (-1)) : wpY_typ post (fP, fC, fS, nI n, nb, ps, K, A, B, va, oK, oA, oB, ro, fr, bf, we) v := by
  unfold wpY_typ
  dsimp only
  refine y_kindX hn hv (y_tyc ?_)
  rw [show zp_yt (zp_ty (-1)) = -1 from by decide]; exact h
theorem y_vis {t p : Nat} {v : Int32} (hn : n ≤ 16) (ht : t ≤ 2) (ht0 : t ≠ 0) (hp : p ≤ n) (h1 : zp_SN K n t p v → post 1) (h0 : ¬ zp_SN K n t p v → post 0) : wpY_visible post (fP, fC, fS, nI n, nb, ps, K, A, B, va, oK, oA, oB, ro, fr, bf, we) v (zp_yt t) (nI (zp_bk K p)) := by
  unfold wpY_visible
  dsimp only
  have L : ∀ q, q ≤ n → zp_bk K q < 2 ^ 31 := fun q hq => by have := zp_bk_le (K := K) q; omega
  have no : ¬ -1 = zp_yt t := by
    rw [show (-1 : Int32) = zp_yt 0 from by decide, zp_yt_eq (by omega) ht]; exact fun z => ht0 z.symm
  rcases pk_ix v (n := n) (by omega) with hv | hv | ⟨j, hj, rfl⟩
  · have ns : ¬ zp_SN K n t p v := by
      rintro ⟨j, hj, e, _⟩
      rw [e] at hv; exact nI_pos (by omega) hv
    exact y_typX hn (Or.inl hv) (br_f no (h0 ns))
  · have ns : ¬ zp_SN K n t p v := by
      rintro ⟨j, hj, e, _⟩
      rw [e, nI_leI (by omega) (by omega)] at hv; omega
    exact y_typX hn (Or.inr hv) (br_f no (h0 ns))
  · refine y_typ hn hj ?_
    by_cases hk : zp_ty (K j) = t
    · refine br_t (by rw [hk]) (y_blockOf hn (by omega) ⟨p + 2, ?_⟩)
      refine ll_cf (K := K) (W := fun d b s => wY_visible_24 post (nI (zp_bk K j)) fP fC fS (nI n) nb ps K A B va oK oA oB ro fr bf we d b s) (M := n + 1) (N := n) (b := zp_bk K j) (R1 := post 1) (R0 := post 0) ?_ ?_ ?_ p (p + 2) 0 (by omega) hp (by have := zp_ch_len (K := K) p; have := zp_bk_le (K := K) p; omega) (fun z => h1 ⟨j, hj, rfl, hk, z⟩) (fun z => h0 ?_)
      · intro d st _ hr
        exact br_c (fun _ => hr) (fun _ => br_t rfl hr)
      · intro d q st hq hst e hr
        exact br_f (nI_nlt (by omega) (by omega)) (br_f (zp_nm1 (L q hq)) (br_t (by rw [e]) hr))
      · intro d q st hq hst e hr
        refine br_f (nI_nlt (by omega) (by omega)) (br_f (zp_nm1 (L q hq)) (br_f (by rw [nI_eq (L q hq) (L j (by omega))]; exact e) ?_))
        exact y_dom hn hq (nm_r (nI_1 st) hr)
      · rintro ⟨j', hj', e, _, z'⟩
        rw [nI_eq (by omega) (by omega)] at e
        subst e
        exact z z'
    · refine br_f (by rw [zp_yt_eq (zp_ty2 _) ht]; exact hk) (h0 ?_)
      rintro ⟨j', hj', e, z, _⟩
      rw [nI_eq (by omega) (by omega)] at e
      subst e
      exact hk z
end
end
section
/-! the reference: what a kind takes, what is legal -/
theorem zl_first (hit : Nat → Prop) : ∀ n, ∃ r : Option Nat, (∀ s, r = some s → s < n ∧ hit s ∧ ∀ j, j < s → ¬ hit j) ∧ (r = none → ∀ j, j < n → ¬ hit j) := by
  intro n
  induction n with
  | zero => exact ⟨none, fun s h => (by cases h), fun _ j h => by omega⟩
  | succ n ih =>
    obtain ⟨r, h1, h2⟩ := ih
    cases r with
    | some s => exact ⟨some s, fun s' h => by have := h1 s' h; exact ⟨by omega, this.2⟩, fun h => by cases h⟩
    | none =>
      by_cases hn : hit n
      · exact ⟨some n, fun s h => by injection h with h; subst h; exact ⟨by omega, hn, h2 rfl⟩, fun h => by cases h⟩
      · refine ⟨none, fun s h => (by cases h), fun _ j hj => ?_⟩
        rcases Nat.lt_or_ge j n with z | z
        · exact h2 rfl j z
        · have : j = n := by omega
          subst this; exact hn
theorem zp_k9 {k : Int32} (h0 : ¬ k = 0) (h1 : ¬ k < 1) (h9 : k ≤ 9) : k = 1 ∨ k = 2 ∨ k = 3 ∨ k = 4 ∨ k = 5 ∨ k = 6 ∨ k = 7 ∨ k = 8 ∨ k = 9 := by
  obtain ⟨j, hj, rfl⟩ := nI_of2 (M := 9) (n := 9) (by decide) (fun z => h1 (Int32.lt_trans z (by decide))) h9
  have : j = 0 ∨ j = 1 ∨ j = 2 ∨ j = 3 ∨ j = 4 ∨ j = 5 ∨ j = 6 ∨ j = 7 ∨ j = 8 ∨ j = 9 := by omega
  rcases this with rfl | rfl | rfl | rfl | rfl | rfl | rfl | rfl | rfl | rfl
  · exact absurd rfl h0
  all_goals decide
section
variable {K A B : Nat → Int32} {n : Nat} {w : Option Nat} {k : Int32}
theorem zt_A1 (h : k = 2 ∨ k = 3 ∨ k = 4 ∨ k = 8) : zp_tA K n w k = 1 := if_pos h
theorem zt_A2 (h : k = 5 ∨ k = 6 ∨ k = 9) : zp_tA K n w k = 2 := by
  unfold zp_tA
  rw [if_neg (by rcases h with h | h | h <;> rw [h] <;> decide), if_pos h]
theorem zt_A0 : zp_tA K n w 0 = (zp_top K n).elim 0 (fun o => if K o = 7 then 2 else 0) := by
  unfold zp_tA
  rw [if_neg (by decide), if_neg (by decide), if_pos rfl]
theorem zt_A10 : zp_tA K n w 10 = w.elim 0 (fun m => zp_ty (K m)) := by
  unfold zp_tA
  rw [if_neg (by decide), if_neg (by decide), if_neg (by decide), if_pos rfl]
theorem zt_Ae (h1 : ¬ (k = 2 ∨ k = 3 ∨ k = 4 ∨ k = 8)) (h2 : ¬ (k = 5 ∨ k = 6 ∨ k = 9)) (h3 : ¬ k = 0) (h4 : ¬ k = 10) : zp_tA K n w k = 0 := by
  unfold zp_tA
  rw [if_neg h1, if_neg h2, if_neg h3, if_neg h4]
theorem zt_B1 (h : k = 2 ∨ k = 3 ∨ k = 4) : zp_tB K n k = 1 := if_pos h
theorem zt_Be (h : ¬ (k = 2 ∨ k = 3 ∨ k = 4)) (hm : ¬ (zp_M k ∧ zp_mB K n ≠ none)) : zp_tB K n k = 0 := by
  unfold zp_tB; rw [if_neg h, if_neg hm]
theorem zt_BM (hk : zp_M k) (hm : zp_mB K n ≠ none) : zp_tB K n k = zp_ty k := by
  unfold zp_tB; rw [if_neg (by rcases hk with h | h <;> rw [h] <;> decide), if_pos ⟨hk, hm⟩]
theorem zt_AM (hk : zp_M k) : zp_tA K n w k = zp_ty k := by
  rcases hk with h | h
  · rw [zt_A1 (by rw [h]; decide), h]; decide
  · rw [zt_A2 (by rw [h]; decide), h]; decide
theorem zt_A3 (k : Int32) : zp_tA K n w k ≤ 2 := by
  by_cases h1 : k = 2 ∨ k = 3 ∨ k = 4 ∨ k = 8
  · rw [zt_A1 h1]; omega
  · by_cases h2 : k = 5 ∨ k = 6 ∨ k = 9
    · rw [zt_A2 h2]; omega
    · by_cases h3 : k = 0
      · subst h3
        rw [zt_A0]
        cases zp_top K n with
        | none => exact Nat.zero_le _
        | some o =>
          show (if K o = 7 then 2 else 0) ≤ 2
          by_cases h7 : K o = 7
          · rw [if_pos h7]; omega
          · rw [if_neg h7]; omega
      · by_cases h4 : k = 10
        · subst h4
          rw [zt_A10]
          cases w with
          | none => exact Nat.zero_le _
          | some m => exact zp_ty2 _
        · rw [zt_Ae h1 h2 h3 h4]; omega
theorem zt_B3 (k : Int32) : zp_tB K n k ≤ 2 := by
  unfold zp_tB
  by_cases h : k = 2 ∨ k = 3 ∨ k = 4
  · rw [if_pos h]; omega
  · rw [if_neg h]
    by_cases hm : zp_M k ∧ zp_mB K n ≠ none
    · rw [if_pos hm]; exact zp_ty2 _
    · rw [if_neg hm]; omega
theorem zt_mle {p q : Nat} : (zp_mA K p = some q → q < p) ∧ (zp_mB K p = some q → q < p) := by
  rcases zp_cls K p with c | ⟨o1, c1, c2, c3, c4, c5, _⟩ | ⟨s, o1, t, r, c1, c2, c3, c4, c5, c6, c7, c8, _⟩
  · rw [c.2.1, c.2.2.1]; exact ⟨fun h => (by cases h), fun h => by cases h⟩
  · rw [c4, c5]
    exact ⟨fun h => by injection h with h; have := (zp_ls_some c1).1; omega, fun h => by cases h⟩
  · rw [c7, c8]
    have a := (zp_ls_some c1).1
    have b := ((zp_st s o1 t r c3).2.2.2 c5).2.2.1
    exact ⟨fun h => by injection h with h; omega, fun h => by injection h with h; omega⟩
theorem zt_vA (k : Int32) : zp_vA K n k ≤ n := by
  unfold zp_vA
  by_cases h : zp_M k
  · rw [if_pos h]
    cases ha : zp_mA K n with
    | none => exact Nat.le_refl _
    | some q => have := zt_mle.1 ha; exact Nat.le_of_lt this
  · rw [if_neg h]
    by_cases h2 : k = 10
    · rw [if_pos h2]; omega
    · rw [if_neg h2]; exact Nat.le_refl _
theorem zt_vB (k : Int32) : zp_vB K n k ≤ n := by
  unfold zp_vB
  by_cases h : zp_M k
  · rw [if_pos h]
    cases ha : zp_mB K n with
    | none => exact Nat.le_refl _
    | some q => have := zt_mle.2 ha; exact Nat.le_of_lt this
  · rw [if_neg h]; exact Nat.le_refl _
theorem zp_yt0 {t : Nat} (ht : t ≤ 2) : zp_yt t = -1 ↔ t = 0 := by
  rw [show (-1 : Int32) = zp_yt 0 from by decide, zp_yt_eq ht (by omega)]
end
section
variable {fP fS nb ps : Int32} {K A B va oK oA oB ro fr bf we : Nat → Int32} {P C n : Nat} {w : Option Nat} {post : Int32 → Prop} {k x y : Int32}
theorem zi_16 (I : zp_I P C n w K A B) : n ≤ 16 := by have := I.1; omega
theorem zi_og {m : Nat} (I : zp_I P C n (some m) K A B) : ∃ o, zp_og K m = some o ∧ m < n ∧ o < n ∧ zp_M (K m) ∧ B m = -1 ∧ zp_ac K o n = [n - 1] ∧ 1 ≤ n ∧ zp_top K (n - 1) = some o ∧ K o = 7 := by
  obtain ⟨e, o, r, w1, w2, w3, w4, w5, w6, w7, w8, w9⟩ := I.2.2.2.2.2.2.2.2.2 m rfl
  have og : zp_og K m = some o := zp_hdr w4 w5 (fun i a b => w7 i a (by omega))
  refine ⟨o, og, w6, by omega, w7 m w5 (Nat.le_refl _), w9 m og w6 (Nat.le_refl _) (w7 m w5 (Nat.le_refl _)), ?_, by omega, ?_, w4⟩
  · subst w1
    rw [zp_ac_y ⟨w2, zp_top_c w3⟩, zp_ac_top e o 0 r w3]; rfl
  · subst w1
    exact zp_top_c w3
theorem y_awaited (I : zp_I P C n w K A B) (h : post (oI w)) : wpY_awaited post (fP, nI C, fS, nI n, nb, ps, K, A, B, va, oK, oA, oB, ro, fr, bf, we) := by
  have hn := zi_16 I
  refine Exists.intro (n + 1) ?_
  refine ll_f (W := fun d i => wY_awaited_2 post fP (nI C) fS (nI n) nb ps K A B va oK oA oB ro fr bf we d i) (hit := fun m => zp_M (K m) ∧ B m = -1 ∧ ∃ o, zp_og K m = some o ∧ zp_ac K o n ≠ []) (R := fun r => post (oI r)) ?_ ?_ ?_ w ?_ ?_ h
  · intro d hr
    exact br_t (nI_le (Nat.le_refl _) (by omega)) hr
  · intro d i hi hh hr
    obtain ⟨hM, hB, o, ho, ha⟩ := hh
    have V : vp_in (nI i) 16 := vp_in_nI (by omega) (by omega)
    have q := zp_og_lt ho
    refine br_f (nI_ge hi (by omega)) ⟨V, ?_⟩
    rw [nI_clamp (by omega)]
    refine y_isM_t hM (br_f (by decide) ⟨V, br_t hB (y_origin hn (by omega) ?_)⟩)
    rw [ho]
    refine y_endOf (q := 0) hn (by omega) (by omega) (br_f ?_ hr)
    obtain ⟨e, l, hl⟩ := List.exists_cons_of_ne_nil ha
    have he : e ∈ zp_ac K o n := by rw [hl]; exact List.mem_cons_self
    have := List.mem_range.mp (List.mem_filter.mp he).1
    rw [hl]
    exact zp_nm1 (by omega)
  · intro d i hi hh hr
    have V : vp_in (nI i) 16 := vp_in_nI (by omega) (by omega)
    refine br_f (nI_ge hi (by omega)) ⟨V, ?_⟩
    rw [nI_clamp (by omega)]
    by_cases hM : zp_M (K i)
    · refine y_isM_t hM (br_f (by decide) ⟨V, ?_⟩)
      by_cases hB : B i = -1
      · refine br_t hB (y_origin hn (by omega) ?_)
        cases ho : zp_og K i with
        | none => exact absurd ho (I.2.2.2.2.1 i hi hM).1
        | some o =>
          have q := zp_og_lt ho
          have ha : zp_ac K o n = [] := Classical.byContradiction (fun z => hh ⟨hM, hB, o, ho, z⟩)
          refine y_endOf (q := 0) hn (by omega) (by omega) (br_t ?_ (nm_r (nI_1 i) hr))
          rw [ha]; rfl
      · exact br_f hB (nm_r (nI_1 i) hr)
    · exact y_isM_f hM (br_t rfl (nm_r (nI_1 i) hr))
  · intro m hm
    subst hm
    obtain ⟨o, a1, a2, a3, a4, a5, a6, _⟩ := zi_og I
    obtain ⟨e, o2, r, w1, w2, w3, w4, w5, w6, w7, w8, w9⟩ := I.2.2.2.2.2.2.2.2.2 m rfl
    refine ⟨a2, ⟨a4, a5, o, a1, by rw [a6]; exact fun z => by cases z⟩, ?_⟩
    rintro j hj ⟨b1, b2, o', b3, b4⟩
    have := (w8 j o' (by omega) b1 b3 b2 b4).2
    omega
  · rintro hw j hj ⟨b1, b2, o', b3, b4⟩
    exact b4 (I.2.2.2.2.2.2.2.2.1 hw j o' hj b1 b3 b2)
theorem y_dem0 (I : zp_I P C n w K A B) (h : post (zp_yt (zp_tA K n w k))) : wpY_demand post (fP, nI C, fS, nI n, nb, ps, K, A, B, va, oK, oA, oB, ro, fr, bf, we) k 0 := by
  have hn := zi_16 I
  by_cases k2 : k = 2
  · rw [zt_A1 (Or.inl k2)] at h; exact br_t k2 h
  by_cases k3 : k = 3
  · rw [zt_A1 (Or.inr (Or.inl k3))] at h; exact br_f k2 (br_t k3 h)
  by_cases k4 : k = 4
  · rw [zt_A1 (Or.inr (Or.inr (Or.inl k4)))] at h; exact br_f k2 (br_f k3 (br_t k4 h))
  refine br_f k2 (br_f k3 (br_f k4 ?_))
  by_cases k0 : k = 0
  · subst k0
    refine br_t rfl (y_opener hn (Nat.le_refl _) ?_)
    refine y_isM_f (by decide) (br_t rfl (br_f (by decide) (br_f (by decide) (br_f (by decide) (br_t rfl ?_)))))
    rw [zt_A0] at h
    cases ht : zp_top K n with
    | none =>
      rw [ht] at h
      exact y_kindN (br_f (by decide) h)
    | some o =>
      have := zp_top_lt ht
      rw [ht] at h
      refine y_kind hn this ?_
      by_cases h7 : K o = 7
      · have h' : post (zp_yt (if K o = 7 then 2 else 0)) := h
        rw [if_pos h7] at h'; exact br_t h7 h'
      · have h' : post (zp_yt (if K o = 7 then 2 else 0)) := h
        rw [if_neg h7] at h'; exact br_f h7 h'
  · refine br_f k0 (y_origin hn (Nat.le_refl _) ?_)
    by_cases hM : zp_M k
    · rw [zt_AM hM] at h
      refine y_isM_t hM (br_f (by decide) (br_f (by decide) ?_))
      rcases hM with e | e
      · subst e; exact br_t rfl h
      · subst e; exact br_f (by decide) h
    · refine y_isM_f hM (br_t rfl (br_f (by decide) ?_))
      by_cases k5 : k = 5
      · rw [zt_A2 (Or.inl k5)] at h; exact br_t k5 h
      · by_cases k6 : k = 6
        · rw [zt_A2 (Or.inr (Or.inl k6))] at h; exact br_f k5 (br_t k6 h)
        · refine br_f k5 (br_f k6 (br_f k0 ?_))
          by_cases k10 : k = 10
          · subst k10
            refine br_t rfl (y_awaited I ?_)
            rw [zt_A10] at h
            cases w with
            | none => exact y_typN h
            | some m =>
              obtain ⟨o, a1, a2, _⟩ := zi_og I
              exact y_typ hn a2 h
          · rw [zt_Ae (by rintro (z | z | z | z); exact k2 z; exact k3 z; exact k4 z; exact hM (Or.inl z)) (by rintro (z | z | z); exact k5 z; exact k6 z; exact hM (Or.inr z)) k0 k10] at h
            exact br_f k10 h
theorem y_dem1 (I : zp_I P C n w K A B) (h : post (zp_yt (zp_tB K n k))) : wpY_demand post (fP, nI C, fS, nI n, nb, ps, K, A, B, va, oK, oA, oB, ro, fr, bf, we) k 1 := by
  have hn := zi_16 I
  by_cases k2 : k = 2
  · rw [zt_B1 (Or.inl k2)] at h; exact br_t k2 h
  by_cases k3 : k = 3
  · rw [zt_B1 (Or.inr (Or.inl k3))] at h; exact br_f k2 (br_t k3 h)
  by_cases k4 : k = 4
  · rw [zt_B1 (Or.inr (Or.inr k4))] at h; exact br_f k2 (br_f k3 (br_t k4 h))
  have kn : ¬ (k = 2 ∨ k = 3 ∨ k = 4) := by rintro (z | z | z); exact k2 z; exact k3 z; exact k4 z
  refine br_f k2 (br_f k3 (br_f k4 ?_))
  by_cases k0 : k = 0
  · subst k0
    rw [zt_Be kn (fun z => absurd z.1 (by decide))] at h
    exact br_t rfl (y_opener hn (Nat.le_refl _) (y_isM_f (by decide) (br_t rfl (br_t rfl h))))
  · refine br_f k0 (y_origin hn (Nat.le_refl _) ?_)
    by_cases hM : zp_M k
    · refine y_isM_t hM (br_f (by decide) (br_t rfl ?_))
      have D : ∀ {J : Prop}, post (zp_yt (zp_ty k)) → wY_demand_68 post k fP (nI C) fS (nI n) nb ps K A B va oK oA oB ro fr bf we := by
        intro J h
        rcases hM with e | e
        · subst e; exact br_t rfl h
        · subst e; exact br_f (by decide) h
      rcases zp_cls K n with c | ⟨o1, c1, c2, c3, c4, c5, _⟩ | ⟨s, o1, t, r, c1, c2, c3, c4, c5, c6, c7, c8, _⟩
      · rw [zt_Be kn (fun z => z.2 c.2.2.1)] at h
        rw [c.1]
        exact y_kindN (br_f (by decide) h)
      · rw [zt_Be kn (fun z => z.2 c5)] at h
        rw [c3]
        have := (zp_ls_some c1).1
        exact y_kind hn this (br_f (by rw [c2]; decide) h)
      · rw [zt_BM hM (by rw [c8]; exact fun z => by cases z)] at h
        rw [c6]
        have := (zp_ls_some c1).1
        have := (zp_st s o1 t r c3).1
        exact y_kind hn (by omega) (br_t c4 (D (J := True) h))
    · rw [zt_Be kn (fun z => hM z.1)] at h
      exact y_isM_f hM (br_t rfl (br_t rfl h))
theorem y_v80 {i : Nat} (hn : n ≤ 16) (hi : i ≤ n) (h : post (nI (zp_bk K i))) : wY_view_80 post (nI i) fP (nI C) fS (nI n) nb ps K A B va oK oA oB ro fr bf we := y_blockOf hn hi h
theorem y_vw10 {z : Int32} {m : Nat} (I : zp_I P C n (some m) K A B) (h : post (nI (zp_bk K (n - 1)))) : wpY_view post (fP, nI C, fS, nI n, nb, ps, K, A, B, va, oK, oA, oB, ro, fr, bf, we) 10 z := by
  have hn := zi_16 I
  obtain ⟨o, a1, a2, a3, a4, a5, a6, a7, _⟩ := zi_og I
  refine br_t rfl (y_awaited I (y_origin hn (by omega) ?_))
  rw [a1]
  refine y_endOf (q := 0) hn a3 (by omega) ?_
  rw [a6]
  exact y_v80 hn (by omega) h
theorem y_vw0 (I : zp_I P C n w K A B) (hM : zp_M k → zp_og K n ≠ none) (h10 : k = 10 → w ≠ none) (h : post (nI (zp_bk K (zp_vA K n k)))) : wpY_view post (fP, nI C, fS, nI n, nb, ps, K, A, B, va, oK, oA, oB, ro, fr, bf, we) k 0 := by
  have hn := zi_16 I
  by_cases k10 : k = 10
  · subst k10
    cases w with
    | none => exact absurd rfl (h10 rfl)
    | some m => exact y_vw10 I h
  · refine br_f k10 ?_
    by_cases hm : zp_M k
    · refine y_isM_t hm (br_f (by decide) (y_origin hn (Nat.le_refl _) ?_))
      have e : zp_vA K n k = (zp_mA K n).getD n := if_pos hm
      rw [e] at h
      rcases zp_cls K n with c | ⟨o1, c1, c2, c3, c4, c5, _⟩ | ⟨s, o1, t, r, c1, c2, c3, c4, c5, c6, c7, c8, _⟩
      · exact absurd c.1 (hM hm)
      · rw [c4] at h
        rw [c3]
        have := (zp_ls_some c1).1
        exact y_kind hn this (br_f (by rw [c2]; decide) (y_v80 hn (by omega) h))
      · rw [c7] at h
        rw [c6]
        have a := (zp_ls_some c1).1
        have S := zp_st s o1 t r c3
        have b := (S.2.2.2 c5).2.2.1
        refine y_kind hn (by omega) (br_t c4 (y_endOf (q := 0) hn (by omega) (by omega) ?_))
        obtain ⟨l, hl⟩ := zp_ac_pre (K := K) (o := o1) (m := s + 1) (n := n) (by omega)
        rw [hl, zp_ac_y ⟨c2, zp_top_c c3⟩, zp_ac_top s o1 t r c3, if_neg c5]
        exact y_v80 (i := t) hn (by omega) h
    · have e : zp_vA K n k = n := by unfold zp_vA; rw [if_neg hm, if_neg k10]
      rw [e] at h
      exact y_isM_f hm (br_t rfl (y_v80 hn (Nat.le_refl _) h))
theorem y_vw1 (I : zp_I P C n w K A B) (hM : zp_M k → zp_og K n ≠ none) (h10 : k = 10 → w ≠ none) (h : ∀ q, (zp_tB K n k ≠ 0 → q = zp_vB K n k) → post (nI (zp_bk K q))) : wpY_view post (fP, nI C, fS, nI n, nb, ps, K, A, B, va, oK, oA, oB, ro, fr, bf, we) k 1 := by
  have hn := zi_16 I
  by_cases k10 : k = 10
  · subst k10
    cases w with
    | none => exact absurd rfl (h10 rfl)
    | some m => exact y_vw10 I (h (n - 1) (fun z => absurd (zt_Be (by decide) (fun z => absurd z.1 (by decide))) z))
  · refine br_f k10 ?_
    by_cases hm : zp_M k
    · refine y_isM_t hm (br_f (by decide) (y_origin hn (Nat.le_refl _) ?_))
      have e : zp_vB K n k = (zp_mB K n).getD n := if_pos hm
      have kn : ¬ (k = 2 ∨ k = 3 ∨ k = 4) := by rcases hm with e | e <;> rw [e] <;> decide
      rcases zp_cls K n with c | ⟨o1, c1, c2, c3, c4, c5, _⟩ | ⟨s, o1, t, r, c1, c2, c3, c4, c5, c6, c7, c8, _⟩
      · exact absurd c.1 (hM hm)
      · rw [c3]
        have := (zp_ls_some c1).1
        exact y_kind hn this (br_f (by rw [c2]; decide) (y_v80 hn (by omega) (h o1 (fun z => absurd (zt_Be kn (fun z => z.2 c5)) z))))
      · rw [c6]
        have a := (zp_ls_some c1).1
        have S := zp_st s o1 t r c3
        refine y_kind hn (by omega) (br_t c4 (y_endOf (q := 1) hn (by omega) (by omega) ?_))
        obtain ⟨l, hl⟩ := zp_ac_pre (K := K) (o := o1) (m := s + 1) (n := n) (by omega)
        rw [hl, zp_ac_y ⟨c2, zp_top_c c3⟩, zp_ac_top s o1 t r c3, if_neg c5]
        exact y_v80 (i := s) hn (by omega) (h s (fun _ => by rw [e, c8]; rfl))
    · have e : zp_vB K n k = n := by unfold zp_vB; rw [if_neg hm]
      exact y_isM_f hm (br_t rfl (y_v80 hn (Nat.le_refl _) (h n (fun _ => e.symm))))
theorem y_mplace (I : zp_I P C n w K A B) (h1 : zp_mp K n = true → post 1) (h0 : zp_mp K n = false → post 0) : wpY_mergePlace post (fP, nI C, fS, nI n, nb, ps, K, A, B, va, oK, oA, oB, ro, fr, bf, we) := by
  have hn := zi_16 I
  unfold wpY_mergePlace
  dsimp only
  refine y_blockOf hn (Nat.le_refl _) (y_origin hn (Nat.le_refl _) ?_)
  cases ho : zp_og K n with
  | none => exact br_t rfl (h0 (decide_eq_false (fun z => z.1 ho)))
  | some o =>
    have q := zp_og_lt ho
    refine br_f (zp_nm1 (by omega)) ⟨n + 1, ?_⟩
    have eqb : ∀ i, i < n → (nI (zp_bk K i) = nI (zp_bk K n) ↔ zp_bk K i = zp_bk K n) := fun i hi => nI_eq (by have := zp_bk_le (K := K) i; omega) (by have := zp_bk_le (K := K) n; omega)
    obtain ⟨r, r1, r2⟩ := zl_first (fun i => zp_bk K i = zp_bk K n ∧ ¬ zp_M (K i)) n
    refine ll_f (W := fun d i => wY_mergePlace_25 post (nI (zp_bk K n)) fP (nI C) fS (nI n) nb ps K A B va oK oA oB ro fr bf we d i) (hit := fun i => zp_bk K i = zp_bk K n ∧ ¬ zp_M (K i)) (R := fun r => post (r.elim 1 (fun _ => 0))) ?_ ?_ ?_ r r1 r2 ?_
    · intro d hr
      exact br_t (nI_le (Nat.le_refl _) (by omega)) hr
    · intro d i hi hh hr
      refine br_f (nI_ge hi (by omega)) (y_blockOf hn (by omega) (br_t ((eqb i hi).mpr hh.1) ⟨vp_in_nI (by omega) (by omega), ?_⟩))
      rw [nI_clamp (by omega)]
      exact y_isM_f hh.2 (br_t rfl hr)
    · intro d i hi hh hr
      refine br_f (nI_ge hi (by omega)) (y_blockOf hn (by omega) ?_)
      by_cases hb : zp_bk K i = zp_bk K n
      · refine br_t ((eqb i hi).mpr hb) ⟨vp_in_nI (by omega) (by omega), ?_⟩
        rw [nI_clamp (by omega)]
        have hM : zp_M (K i) := Decidable.of_not_not (fun z => hh ⟨hb, z⟩)
        exact y_isM_t hM (br_f (by decide) (nm_r (nI_1 i) hr))
      · exact br_f (fun z => hb ((eqb i hi).mp z)) (nm_r (nI_1 i) hr)
    · cases r with
      | none =>
        refine h1 (decide_eq_true ⟨by rw [ho]; exact fun z => (by cases z), ?_⟩)
        rcases Nat.eq_zero_or_pos n with z | z
        · exact Or.inl z
        · by_cases hb : zp_bk K (n - 1) = zp_bk K n
          · exact Or.inr (Or.inr (Decidable.of_not_not (fun y => r2 rfl (n - 1) (by omega) ⟨hb, y⟩)))
          · exact Or.inr (Or.inl hb)
      | some i =>
        obtain ⟨a, b, _⟩ := r1 i rfl
        refine h0 (decide_eq_false (fun z => ?_))
        have b1 := zp_bk_mono (K := K) (i := i) (j := n - 1) (by omega)
        have b2 := zp_bk_mono (K := K) (i := n - 1) (j := n) (by omega)
        rcases z.2 with z | z | z
        · omega
        · have := b.1; omega
        · rcases Nat.lt_or_ge i (n - 1) with y | y
          · exact b.2 ((I.2.2.2.2.1 (n - 1) (by omega) z).2 i y (by have := b.1; omega))
          · have : i = n - 1 := by omega
            rw [this] at b; exact b.2 z
end
end
section
/-! the reference: legal and add -/
section
variable {K : Nat → Int32} {C n : Nat} {k : Int32}
theorem zg_1 : zp_lg K C n none 1 = true ↔ zp_fi K n = false ∧ n + zp_ow K n + 1 ≤ C := by
  unfold zp_lg zp_M
  rw [decide_eq_true_iff]
  simp
theorem zg_2 (h : k = 2 ∨ k = 3 ∨ k = 4) : zp_lg K C n none k = true ↔ zp_fi K n = false ∧ n + zp_ow K n + 1 ≤ C ∧ zp_vs K n 1 n = true := by
  unfold zp_lg zp_M
  rw [decide_eq_true_iff]
  rcases h with rfl | rfl | rfl <;> simp
theorem zg_5 : zp_lg K C n none 5 = true ↔ zp_fi K n = false ∧ n + zp_ow K n + 1 ≤ C ∧ zp_vs K n 2 n = true := by
  unfold zp_lg zp_M
  rw [decide_eq_true_iff]
  simp
theorem zg_6 : zp_lg K C n none 6 = true ↔ zp_fi K n = false ∧ n + zp_ow K n + 3 ≤ C ∧ (zp_sk K n).length < 3 ∧ zp_vs K n 2 n = true := by
  unfold zp_lg zp_M
  rw [decide_eq_true_iff]
  simp
  omega
theorem zg_7 : zp_lg K C n none 7 = true ↔ zp_fi K n = false ∧ n + zp_ow K n + 2 ≤ C ∧ (zp_sk K n).length < 3 ∧ zp_vs K n 2 n = true := by
  unfold zp_lg zp_M
  rw [decide_eq_true_iff]
  simp
  omega
theorem zg_M (h : zp_M k) : zp_lg K C n none k = true ↔ zp_fi K n = false ∧ n + zp_ow K n + 1 ≤ C ∧ zp_mp K n = true ∧ zp_vo K n (zp_ty k) (zp_mA K n) false = true ∧ zp_vo K n (zp_ty k) (zp_mB K n) true = true := by
  unfold zp_lg
  rw [decide_eq_true_iff]
  rcases h with rfl | rfl <;> simp [zp_M]
theorem zg_0 : zp_lg K C n none 0 = true ↔ zp_fi K n = false := by
  unfold zp_lg
  rw [decide_eq_true_iff]
  simp
theorem zg_s {m : Nat} : zp_lg K C n (some m) k = true ↔ zp_fi K n = false ∧ k = 10 := by
  unfold zp_lg
  rw [decide_eq_true_iff]
  simp
theorem zg_no {m : Option Nat} (h : zp_fi K n = true) : zp_lg K C n m k = false := by
  unfold zp_lg
  rw [h]
  exact decide_eq_false (fun z => by cases z.1)
theorem zg_f {p : Prop} {b : Bool} (h : b = true ↔ p) (hn : ¬ p) : b = false := by
  cases b with
  | true => exact absurd (h.mp rfl) hn
  | false => rfl
end
section
variable {fP fS nb ps : Int32} {K A B va oK oA oB ro fr bf we : Nat → Int32} {P C n : Nat} {w : Option Nat} {post : Int32 → Prop} {k x y : Int32}
theorem y_l155 (I : zp_I P C n w K A B) (hM : zp_M k → zp_og K n ≠ none) (h10 : k ≠ 10) (h1 : (zp_tA K n w k ≠ 0 → zp_ct K n (zp_tA K n w k) (zp_vA K n k) ≠ []) → (zp_tB K n k ≠ 0 → zp_ct K n (zp_tB K n k) (zp_vB K n k) ≠ []) → post 1) (h0 : ¬ ((zp_tA K n w k ≠ 0 → zp_ct K n (zp_tA K n w k) (zp_vA K n k) ≠ []) ∧ (zp_tB K n k ≠ 0 → zp_ct K n (zp_tB K n k) (zp_vB K n k) ≠ [])) → post 0) : ∃ d, wY_legal_155 post k fP (nI C) fS (nI n) nb ps K A B va oK oA oB ro fr bf we d 0 := by
  have hn := zi_16 I
  have L : ∀ t p, p ≤ n → (zp_ct K n t p).length < 2 ^ 31 := fun t p hp => by have := zp_ct_len (K := K) n t p; have := zp_bk_le (K := K) p; omega
  have S1 : (zp_tA K n w k ≠ 0 → zp_ct K n (zp_tA K n w k) (zp_vA K n k) ≠ []) → wY_legal_155 post k fP (nI C) fS (nI n) nb ps K A B va oK oA oB ro fr bf we 2 1 := by
    intro hA
    have E : (zp_tB K n k ≠ 0 → zp_ct K n (zp_tB K n k) (zp_vB K n k) ≠ []) → wY_legal_155 post k fP (nI C) fS (nI n) nb ps K A B va oK oA oB ro fr bf we 1 2 := fun hB => br_t (by decide) (h1 hA hB)
    refine br_f (by decide) (y_dem1 I (y_vw1 I hM (fun z => absurd z h10) (fun q hq => ?_)))
    by_cases t0 : zp_tB K n k = 0
    · exact br_t ((zp_yt0 (zt_B3 k)).mpr t0) (nm_r (show (1 : Int32) + 1 = 2 from by decide) (E (fun z => absurd t0 z)))
    · rw [hq t0]
      refine br_f (fun z => t0 ((zp_yt0 (zt_B3 k)).mp z)) (y_blocks hn (zt_B3 k) (zt_vB k) ?_)
      by_cases hc : zp_ct K n (zp_tB K n k) (zp_vB K n k) = []
      · refine br_t (by rw [hc]; rfl) (h0 (fun z => z.2 t0 hc))
      · exact br_f (nI_ne0 (List.length_pos_iff.mpr hc) (L _ _ (zt_vB k))) (nm_r (show (1 : Int32) + 1 = 2 from by decide) (E (fun _ => hc)))
  refine ⟨3, br_f (by decide) (y_dem0 I (y_vw0 I hM (fun z => absurd z h10) ?_))⟩
  by_cases t0 : zp_tA K n w k = 0
  · exact br_t ((zp_yt0 (zt_A3 k)).mpr t0) (nm_r (show (0 : Int32) + 1 = 1 from by decide) (S1 (fun z => absurd t0 z)))
  · refine br_f (fun z => t0 ((zp_yt0 (zt_A3 k)).mp z)) (y_blocks hn (zt_A3 k) (zt_vA k) ?_)
    by_cases hc : zp_ct K n (zp_tA K n w k) (zp_vA K n k) = []
    · refine br_t (by rw [hc]; rfl) (h0 (fun z => z.1 t0 hc))
    · exact br_f (nI_ne0 (List.length_pos_iff.mpr hc) (L _ _ (zt_vA k))) (nm_r (show (0 : Int32) + 1 = 1 from by decide) (S1 (fun _ => hc)))
theorem y_l69 (I : zp_I P C n w K A B) (z : Nat) (hz : z ≤ 3) (h1 : n + zp_ow K n + z ≤ C → (z ≤ 1 ∨ (zp_sk K n).length < 3) → wY_legal_105 post k fP (nI C) fS (nI n) nb ps K A B va oK oA oB ro fr bf we) (h2 : ¬ n + zp_ow K n + z ≤ C → post 0) (h3 : ¬ z ≤ 1 → ¬ (zp_sk K n).length < 3 → post 0) : wY_legal_69 post k (nI z) fP (nI C) fS (nI n) nb ps K A B va oK oA oB ro fr bf we := by
  have hn := zi_16 I
  obtain ⟨i1, i2, i3, i4, i5, i6⟩ := I.1
  have e : nI C - nI n - nI (zp_ow K n) = nI (C - n - zp_ow K n) := by rw [pk_sub (by omega), pk_sub (by omega)]
  refine y_owed hn I.2.2.2.1 ?_
  rw [e]
  refine pk_le z (C - n - zp_ow K n) (fun hr => ?_) (fun hr => h2 (by omega)) rfl rfl (by omega) (by omega)
  refine pk_le z 1 (fun hr2 => h1 (by omega) (Or.inl hr2)) (fun hr2 => ?_) rfl rfl (by omega) (by omega)
  refine y_depth hn ?_
  exact pk_lt (zp_sk K n).length 3 (fun hd => h1 (by omega) (Or.inr hd)) (fun hd => h3 (by omega) (by omega)) rfl rfl (by omega) (by omega)
theorem y_l122 (I : zp_I P C n none K A B) (hM : zp_M k → zp_og K n ≠ none) (h10 : k ≠ 10) (h7 : k ≠ 7) (h1 : (zp_tA K n none k ≠ 0 → zp_ct K n (zp_tA K n none k) (zp_vA K n k) ≠ []) → (zp_tB K n k ≠ 0 → zp_ct K n (zp_tB K n k) (zp_vB K n k) ≠ []) → post 1) (h0 : ¬ ((zp_tA K n none k ≠ 0 → zp_ct K n (zp_tA K n none k) (zp_vA K n k) ≠ []) ∧ (zp_tB K n k ≠ 0 → zp_ct K n (zp_tB K n k) (zp_vB K n k) ≠ [])) → post 0) : wY_legal_122 post k fP (nI C) fS (nI n) nb ps K A B va oK oA oB ro fr bf we := by
  have hn := zi_16 I
  unfold wY_legal_122
  exact y_blockOf hn (Nat.le_refl _) (br_f h7 (y_l155 I hM h10 h1 h0))
theorem y_l105 (I : zp_I P C n none K A B) (hk : ¬ zp_M k) (h : wY_legal_122 post k fP (nI C) fS (nI n) nb ps K A B va oK oA oB ro fr bf we) : wY_legal_105 post k fP (nI C) fS (nI n) nb ps K A B va oK oA oB ro fr bf we := by
  unfold wY_legal_105
  exact y_isM_f hk (br_t rfl h)
theorem zt_vA' (hk : ¬ zp_M k) (h10 : ¬ k = 10) : zp_vA K n k = n := by unfold zp_vA; rw [if_neg hk, if_neg h10]
theorem zt_vB' (hk : ¬ zp_M k) : zp_vB K n k = n := by unfold zp_vB; rw [if_neg hk]
theorem y_legal (I : zp_I P C n w K A B) (h1 : zp_lg K C n w k = true → post 1) (h0 : zp_lg K C n w k = false → post 0) : wpY_legal post (fP, nI C, fS, nI n, nb, ps, K, A, B, va, oK, oA, oB, ro, fr, bf, we) k := by
  have hn := zi_16 I
  obtain ⟨i1, i2, i3, i4, i5, i6⟩ := I.1
  unfold wpY_legal
  dsimp only
  refine y_owed hn I.2.2.2.1 ?_
  cases hf : zp_fi K n with
  | true =>
    rw [zp_ow_t hf]
    exact br_t rfl (h0 (zg_no hf))
  | false =>
    have ow1 : 1 ≤ zp_ow K n := by rw [zp_ow_f hf]; omega
    refine br_f (nI_ne0 (by omega) (by omega)) (y_awaited I ?_)
    cases w with
    | some m =>
      obtain ⟨o, a1, a2, _⟩ := zi_og I
      refine br_f (zp_nm1 (by omega)) (br_c (fun z => h1 (zg_s.mpr ⟨hf, z⟩)) (fun z => h0 (zg_f zg_s (fun y => z y.2))))
    | none =>
      refine br_t rfl ?_
      by_cases k0 : k = 0
      · subst k0
        exact br_t rfl (h1 (zg_0.mpr hf))
      refine br_f k0 ?_
      by_cases k1 : k < 1
      · refine br_t k1 (h0 ?_)
        cases hl : zp_lg K C n none k with
        | false => rfl
        | true =>
          have := zs_kd hl
          rcases this with z | z | z | z | z | z | z | z | z | z <;> rw [z] at k1 k0 <;> first | exact absurd rfl k0 | exact absurd k1 (by decide)
      refine br_f k1 ?_
      by_cases k9 : k ≤ 9
      · refine br_t k9 ?_
        have vn : zp_vs K n 2 n = true ↔ zp_ct K n 2 n ≠ [] := zp_vs_iff
        have vn1 : zp_vs K n 1 n = true ↔ zp_ct K n 1 n ≠ [] := zp_vs_iff
        have k234 : (k = 2 ∨ k = 3 ∨ k = 4) → wY_legal_69 post k 1 fP (nI C) fS (nI n) nb ps K A B va oK oA oB ro fr bf we := by
          intro hk
          have nm : ¬ zp_M k := by rcases hk with z | z | z <;> rw [z] <;> decide
          have n10 : k ≠ 10 := by rcases hk with z | z | z <;> rw [z] <;> decide
          have n7 : k ≠ 7 := by rcases hk with z | z | z <;> rw [z] <;> decide
          have eA : zp_tA K n none k = 1 := zt_A1 (by rcases hk with z | z | z <;> rw [z] <;> decide)
          have eB : zp_tB K n k = 1 := zt_B1 hk
          refine y_l69 I 1 (by omega) (fun hr _ => ?_) (fun hr => h0 (zg_f (zg_2 hk) (fun z => hr z.2.1))) (fun z => absurd (by omega) z)
          refine y_l105 I nm (y_l122 I (fun z => absurd z nm) n10 n7 (fun a _ => ?_) (fun a => ?_))
          · rw [eA, zt_vA' nm n10] at a
            exact h1 ((zg_2 hk).mpr ⟨hf, hr, vn1.mpr (a (by decide))⟩)
          · refine h0 (zg_f (zg_2 hk) (fun z => a ?_))
            rw [eA, eB, zt_vA' nm n10, zt_vB' nm]
            exact ⟨fun _ => vn1.mp z.2.2, fun _ => vn1.mp z.2.2⟩
        have kM : zp_M k → wY_legal_69 post k 1 fP (nI C) fS (nI n) nb ps K A B va oK oA oB ro fr bf we := by
          intro hk
          have n10 : k ≠ 10 := by rcases hk with z | z <;> rw [z] <;> decide
          have n7 : k ≠ 7 := by rcases hk with z | z <;> rw [z] <;> decide
          have eA : zp_tA K n none k = zp_ty k := zt_AM hk
          have eVA : zp_vA K n k = (zp_mA K n).getD n := if_pos hk
          have eVB : zp_vB K n k = (zp_mB K n).getD n := if_pos hk
          refine y_l69 I 1 (by omega) (fun hr _ => ?_) (fun hr => h0 (zg_f (zg_M hk) (fun z => hr z.2.1))) (fun z => absurd (by omega) z)
          unfold wY_legal_105
          refine y_isM_t hk (br_f (by decide) (y_mplace I (fun mp => ?_) (fun mp => ?_)))
          · have og : zp_og K n ≠ none := (of_decide_eq_true mp).1
            have key : ((zp_tA K n none k ≠ 0 → zp_ct K n (zp_tA K n none k) (zp_vA K n k) ≠ []) ∧ (zp_tB K n k ≠ 0 → zp_ct K n (zp_tB K n k) (zp_vB K n k) ≠ [])) ↔ (zp_vo K n (zp_ty k) (zp_mA K n) false = true ∧ zp_vo K n (zp_ty k) (zp_mB K n) true = true) := by
              rw [eA, eVA, eVB]
              have t0 := zp_tyM hk
              have kn : ¬ (k = 2 ∨ k = 3 ∨ k = 4) := by rcases hk with e | e <;> rw [e] <;> decide
              rcases zp_cls K n with c | ⟨o1, c1, c2, c3, c4, c5, _⟩ | ⟨s, o1, t, r, c1, c2, c3, c4, c5, c6, c7, c8, _⟩
              · exact absurd c.1 og
              · rw [zt_Be kn (fun z => z.2 c5), c4, c5]
                exact ⟨fun z => ⟨zp_vs_iff.mpr (z.1 t0), rfl⟩, fun z => ⟨fun _ => zp_vs_iff.mp z.1, fun y => absurd rfl y⟩⟩
              · rw [zt_BM hk (by rw [c8]; exact fun z => by cases z), c7, c8]
                exact ⟨fun z => ⟨zp_vs_iff.mpr (z.1 t0), zp_vs_iff.mpr (z.2 t0)⟩, fun z => ⟨fun _ => zp_vs_iff.mp z.1, fun _ => zp_vs_iff.mp z.2⟩⟩
            refine br_f (by decide) (y_l122 I (fun _ => og) n10 n7 (fun a b => ?_) (fun a => ?_))
            · exact h1 ((zg_M hk).mpr ⟨hf, hr, mp, key.mp ⟨a, b⟩⟩)
            · exact h0 (zg_f (zg_M hk) (fun z => a (key.mpr z.2.2.2)))
          · exact br_t rfl (h0 (zg_f (zg_M hk) (fun z => by rw [mp] at z; cases z.2.2.1)))
        rcases zp_k9 k0 k1 k9 with e | e | e | e | e | e | e | e | e
        · subst e
          refine br_f (by decide) (br_f (by decide) (y_l69 I 1 (by omega) (fun hr _ => ?_) (fun hr => h0 (zg_f zg_1 (fun z => hr z.2))) (fun z => absurd (by omega) z)))
          have eA : zp_tA K n none 1 = 0 := zt_Ae (by decide) (by decide) (by decide) (by decide)
          have eB : zp_tB K n 1 = 0 := zt_Be (by decide) (fun z => absurd z.1 (by decide))
          exact y_l105 I (by decide) (y_l122 I (fun z => absurd z (by decide)) (by decide) (by decide) (fun _ _ => h1 (zg_1.mpr ⟨hf, hr⟩)) (fun a => absurd ⟨fun z => absurd eA z, fun z => absurd eB z⟩ a))
        · exact br_f (by rw [e]; decide) (br_f (by rw [e]; decide) (k234 (Or.inl e)))
        · exact br_f (by rw [e]; decide) (br_f (by rw [e]; decide) (k234 (Or.inr (Or.inl e))))
        · exact br_f (by rw [e]; decide) (br_f (by rw [e]; decide) (k234 (Or.inr (Or.inr e))))
        · subst e
          refine br_f (by decide) (br_f (by decide) (y_l69 I 1 (by omega) (fun hr _ => ?_) (fun hr => h0 (zg_f zg_5 (fun z => hr z.2.1))) (fun z => absurd (by omega) z)))
          have eA : zp_tA K n none 5 = 2 := zt_A2 (by decide)
          have eB : zp_tB K n 5 = 0 := zt_Be (by decide) (fun z => absurd z.1 (by decide))
          refine y_l105 I (by decide) (y_l122 I (fun z => absurd z (by decide)) (by decide) (by decide) (fun a _ => ?_) (fun a => ?_))
          · rw [eA, zt_vA' (by decide) (by decide)] at a
            exact h1 (zg_5.mpr ⟨hf, hr, vn.mpr (a (by decide))⟩)
          · refine h0 (zg_f zg_5 (fun z => a ?_))
            rw [eA, zt_vA' (by decide) (by decide)]
            exact ⟨fun _ => vn.mp z.2.2, fun y => absurd eB y⟩
        · subst e
          refine br_t rfl (y_l69 I 3 (by omega) (fun hr hd => ?_) (fun hr => h0 (zg_f zg_6 (fun z => hr z.2.1))) (fun _ hd => h0 (zg_f zg_6 (fun z => hd z.2.2.1))))
          have eA : zp_tA K n none 6 = 2 := zt_A2 (by decide)
          have eB : zp_tB K n 6 = 0 := zt_Be (by decide) (fun z => absurd z.1 (by decide))
          have hd : (zp_sk K n).length < 3 := hd.resolve_left (by omega)
          refine y_l105 I (by decide) (y_l122 I (fun z => absurd z (by decide)) (by decide) (by decide) (fun a _ => ?_) (fun a => ?_))
          · rw [eA, zt_vA' (by decide) (by decide)] at a
            exact h1 (zg_6.mpr ⟨hf, hr, hd, vn.mpr (a (by decide))⟩)
          · refine h0 (zg_f zg_6 (fun z => a ?_))
            rw [eA, zt_vA' (by decide) (by decide)]
            exact ⟨fun _ => vn.mp z.2.2.2, fun y => absurd eB y⟩
        · subst e
          refine br_f (by decide) (br_t rfl (y_l69 I 2 (by omega) (fun hr hd => ?_) (fun hr => h0 (zg_f zg_7 (fun z => hr z.2.1))) (fun _ hd => h0 (zg_f zg_7 (fun z => hd z.2.2.1)))))
          have hd : (zp_sk K n).length < 3 := hd.resolve_left (by omega)
          refine y_l105 I (by decide) ?_
          unfold wY_legal_122
          refine y_blockOf hn (Nat.le_refl _) (br_t rfl ?_)
          have T := y_blocks (fP := fP) (fC := nI C) (fS := fS) (nb := nb) (ps := ps) (K := K) (A := A) (B := B) (va := va) (oK := oK) (oA := oA) (oB := oB) (ro := ro) (fr := fr) (bf := bf) (we := we) (n := n) (t := 2) (p := n) (post := fun r_161 => (((r_161 ≤ 0 → (post 0)) ∧ (¬ r_161 ≤ 0 → (post 1))))) hn (by omega) (Nat.le_refl _) ?_
          · rw [show zp_yt 2 = 1 from by decide] at T
            exact T
          · by_cases hc : zp_ct K n 2 n = []
            · exact br_t (by rw [hc]; decide) (h0 (zg_f zg_7 (fun z => vn.mp z.2.2.2 hc)))
            · have := zp_ct_len (K := K) n 2 n
              have := zp_bk_le (K := K) n
              exact br_f (nI_nle (List.length_pos_iff.mpr hc) (by omega)) (h1 (zg_7.mpr ⟨hf, hr, hd, vn.mpr hc⟩))
        · exact br_f (by rw [e]; decide) (br_f (by rw [e]; decide) (kM (Or.inl e)))
        · exact br_f (by rw [e]; decide) (br_f (by rw [e]; decide) (kM (Or.inr e)))
      · refine br_f k9 (h0 ?_)
        cases hl : zp_lg K C n none k with
        | false => rfl
        | true =>
          have := zs_kd hl
          rcases this with z | z | z | z | z | z | z | z | z | z <;> rw [z] at k9 <;> exact absurd (by decide) k9
end
end
section
/-! the reference: add -/
section
variable {fP fS nb ps : Int32} {K A B va oK oA oB ro fr bf we : Nat → Int32} {P C n : Nat} {w : Option Nat} {post : Int32 → SY → Prop} {k x y : Int32}
theorem y_a185 {z : Int32} (hn : n < 16) (h : post (nI n) (fP, nI C, fS, nI (n + 1), nb, ps, K, A, upd B n z, va, oK, oA, oB, ro, fr, bf, we)) : wY_add_185 post z (nI n) fP (nI C) fS (nI n) nb ps K A B va oK oA oB ro fr bf we := by
  refine And.intro (vp_in_nI hn (by omega)) ?_
  rw [nI_clamp (by omega)]
  refine nm_e (nm_r (nI_1 n) ?_)
  rw [nI_pred]; exact h
theorem y_a165 {z : Int32} {t : Nat} (ht : t ≤ 2) (hn : n < 16) (h : post (nI n) (fP, nI C, fS, nI (n + 1), nb, ps, K, upd A n z, upd B n (if t ≠ 0 then y else -1), va, oK, oA, oB, ro, fr, bf, we)) : wY_add_165 post y (zp_yt t) z (nI n) fP (nI C) fS (nI n) nb ps K A B va oK oA oB ro fr bf we := by
  refine And.intro (vp_in_nI hn (by omega)) ?_
  rw [nI_clamp (by omega)]
  refine nm_e ?_
  by_cases t0 : t = 0
  · rw [if_neg (fun z => z t0)] at h
    exact br_t ((zp_yt0 ht).mpr t0) (y_a185 hn h)
  · rw [if_pos t0] at h
    exact br_f (fun z => t0 ((zp_yt0 ht).mp z)) (y_a185 hn h)
theorem y_a102 {tA tB : Nat} (I : zp_I P C n w K A B) (hA : tA ≤ 2) (hB : tB ≤ 2) (hw : k = 10 → w ≠ none) (hn : k ≠ 10 → n < 16)
    (h10 : ∀ m, w = some m → k = 10 → post (nI m) (fP, nI C, fS, nI n, nb, ps, K, A, upd B m x, va, oK, oA, oB, ro, fr, bf, we))
    (h : k ≠ 10 → post (nI n) (fP, nI C, fS, nI (n + 1), nb, ps, upd K n k, upd A n (if k = 1 ∨ tA ≠ 0 then x else -1), upd B n (if tB ≠ 0 then y else -1), va, oK, oA, oB, ro, fr, bf, we)) : wY_add_102 post k x y (zp_yt tA) (zp_yt tB) fP (nI C) fS (nI n) nb ps K A B va oK oA oB ro fr bf we := by
  by_cases k10 : k = 10
  · refine br_t k10 (y_awaited I ?_)
    cases w with
    | none => exact absurd rfl (hw k10)
    | some m =>
      obtain ⟨o, a1, a2, _⟩ := zi_og I
      have n16 := zi_16 I
      refine br_f (zp_nm1 (by omega)) ⟨vp_in_nI (by omega) (by omega), ?_⟩
      rw [oI_s, nI_clamp (by omega)]
      exact nm_e (h10 m rfl k10)
  · have hn := hn k10
    have h := h k10
    refine br_f k10 ⟨vp_in_nI hn (by omega), ?_⟩
    rw [nI_clamp (by omega)]
    refine nm_e ?_
    by_cases t0 : tA = 0
    · refine br_t ((zp_yt0 hA).mpr t0) ?_
      by_cases k1 : k = 1
      · rw [if_pos (Or.inl k1)] at h
        exact br_t k1 (y_a165 hB hn h)
      · rw [if_neg (fun z => z.elim k1 (fun z => z t0))] at h
        exact br_f k1 (y_a165 hB hn h)
    · rw [if_pos (Or.inr t0)] at h
      exact br_f (fun z => t0 ((zp_yt0 hA).mp z)) (y_a165 hB hn h)
theorem zi_lt (I : zp_I P C n w K A B) (hf : zp_fi K n = false) : n < 16 := by
  have := I.1
  have : 1 ≤ zp_ow K n := by rw [zp_ow_f hf]; omega
  omega
theorem zi_lw (hl : zp_lg K C n w k = true) : (k = 10 ↔ w ≠ none) := by
  obtain ⟨_, ⟨a, b⟩ | ⟨a, b⟩⟩ := zp_lg_t hl
  · exact ⟨fun _ => a, fun _ => b⟩
  · subst a
    have := zs_kd hl
    constructor
    · intro z
      subst z
      exact absurd this (by decide)
    · intro z; exact absurd rfl z
theorem zi_lM (hl : zp_lg K C n w k = true) (hk : zp_M k) : zp_og K n ≠ none := by
  have e : w = none := by
    cases w with
    | none => rfl
    | some m =>
      have := (zg_s.mp hl).2
      subst this
      exact absurd hk (by decide)
  subst e
  exact (of_decide_eq_true (zs_M hl hk).1).1
theorem y_add (I : zp_I P C n w K A B)
    (h1 : zp_lg K C n w k = false → post (-1) (fP, nI C, fS, nI n, nb, ps, K, A, B, va, oK, oA, oB, ro, fr, bf, we))
    (h2 : zp_lg K C n w k = true → ¬ zp_FT K n w k x y → post (-2) (fP, nI C, fS, nI n, nb, ps, K, A, B, va, oK, oA, oB, ro, fr, bf, we))
    (h3 : ∀ m, zp_lg K C n w k = true → zp_FT K n w k x y → w = some m → k = 10 → post (nI m) (fP, nI C, fS, nI n, nb, ps, K, A, upd B m x, va, oK, oA, oB, ro, fr, bf, we))
    (h4 : zp_lg K C n w k = true → zp_FT K n w k x y → k ≠ 10 → post (nI n) (fP, nI C, fS, nI (n + 1), nb, ps, upd K n k, upd A n (zp_nA K n w k x), upd B n (zp_nB K n k y), va, oK, oA, oB, ro, fr, bf, we)) : wpY_add post (fP, nI C, fS, nI n, nb, ps, K, A, B, va, oK, oA, oB, ro, fr, bf, we) k x y := by
  have hn := zi_16 I
  unfold wpY_add
  dsimp only
  refine y_legal I (fun hl => br_f (by decide) ?_) (fun hl => br_t rfl (h1 hl))
  have hw := zi_lw hl
  have hM := zi_lM hl
  have hf := (zp_lg_t hl).1
  have A81 : (k = 1 → ∃ j, j ≤ 7 ∧ x = nI j) → (zp_tA K n w k ≠ 0 → zp_SN K n (zp_tA K n w k) (zp_vA K n k) x) → ∀ q, (zp_tB K n k ≠ 0 → q = zp_vB K n k) → wY_add_81 post k x y (zp_yt (zp_tA K n w k)) (zp_yt (zp_tB K n k)) (nI (zp_bk K q)) fP (nI C) fS (nI n) nb ps K A B va oK oA oB ro fr bf we := by
    intro f1 f2 q hq
    have A102 : (zp_tB K n k ≠ 0 → zp_SN K n (zp_tB K n k) (zp_vB K n k) y) → wY_add_102 post k x y (zp_yt (zp_tA K n w k)) (zp_yt (zp_tB K n k)) fP (nI C) fS (nI n) nb ps K A B va oK oA oB ro fr bf we := fun f3 => y_a102 I (zt_A3 k) (zt_B3 k) hw.mp (fun _ => zi_lt I hf) (fun m e1 e2 => h3 m hl ⟨f1, f2, f3⟩ e1 e2) (fun e => h4 hl ⟨f1, f2, f3⟩ e)
    by_cases t0 : zp_tB K n k = 0
    · exact br_t ((zp_yt0 (zt_B3 k)).mpr t0) (A102 (fun z => absurd t0 z))
    · rw [hq t0]
      exact br_f (fun z => t0 ((zp_yt0 (zt_B3 k)).mp z)) (y_vis hn (zt_B3 k) t0 (zt_vB k) (fun s => br_f (by decide) (A102 (fun _ => s))) (fun s => br_t rfl (h2 hl (fun z => s (z.2.2 t0)))))
  have A28 : (k = 1 → ∃ j, j ≤ 7 ∧ x = nI j) → wY_add_28 post k x y fP (nI C) fS (nI n) nb ps K A B va oK oA oB ro fr bf we := by
    intro f1
    unfold wY_add_28
    refine y_dem0 I (y_dem1 I (y_vw0 I hM hw.mp (y_vw1 I hM hw.mp (fun q hq => ?_))))
    by_cases t0 : zp_tA K n w k = 0
    · exact br_t ((zp_yt0 (zt_A3 k)).mpr t0) (A81 f1 (fun z => absurd t0 z) q hq)
    · exact br_f (fun z => t0 ((zp_yt0 (zt_A3 k)).mp z)) (y_vis hn (zt_A3 k) t0 (zt_vA k) (fun s => br_f (by decide) (A81 f1 (fun _ => s) q hq)) (fun s => br_t rfl (h2 hl (fun z => s (z.2.1 t0)))))
  by_cases k1 : k = 1
  · refine br_t k1 ?_
    by_cases x0 : x < 0
    · refine br_t x0 (h2 hl (fun z => ?_))
      obtain ⟨j, hj, e⟩ := z.1 k1
      rw [e] at x0
      exact nI_pos (by omega) x0
    · by_cases x7 : x ≤ 7
      · obtain ⟨j, hj, e⟩ := nI_of2 (M := 7) (n := 7) (by decide) x0 x7
        exact br_f x0 (br_t x7 (A28 (fun _ => ⟨j, hj, e⟩)))
      · refine br_f x0 (br_f x7 (h2 hl (fun z => ?_)))
        obtain ⟨j, hj, e⟩ := z.1 k1
        rw [e] at x7
        exact x7 (nI_le (b := 7) hj (by decide))
  · exact br_f k1 (A28 (fun z => absurd z k1))
end
end
section
/-! the component: what each search finds -/
def zx_op (op : Nat → Int32) : List (Nat × Nat) → Prop
  | [] => True
  | (o, _) :: r => op r.length = nI o ∧ zx_op op r
def zx_lk (K : Nat → Int32) (n i : Nat) : Int32 := if K i = 6 then oI ((zp_ac K i n)[0]?) else if K i = 0 then (zp_top K i).elim (-1) (fun o => if K o = 7 then nI o else if zp_el K i = none then oI ((zp_ac K o n)[1]?) else -1) else -1
def zx_S (n N : Nat) (K bo lk dm ma mb ji op : Nat → Int32) : Prop :=
  (∀ i, i < n → bo i = nI (zp_bk K i)) ∧
  (∀ p, p ≤ N → dm (zp_bk K p) = zp_nx K p ∧ ma (zp_bk K p) = oI ((zp_mA K p).map (zp_bk K)) ∧ mb (zp_bk K p) = oI ((zp_mB K p).map (zp_bk K)) ∧ ji (zp_bk K p) = oI (zp_jf K p)) ∧
  zx_op op (zp_sk K n) ∧
  (∀ i, i < n → lk i = zx_lk K n i)
theorem zp_ty_lo {k : Int32} (h : k < 1) : zp_ty k = 0 := by
  unfold zp_ty
  rw [if_neg (by rintro (z | z | z | z | z) <;> rw [z] at h <;> exact absurd h (by decide)), if_neg (by rintro (z | z | z) <;> rw [z] at h <;> exact absurd h (by decide))]
theorem zp_ty_hi {k : Int32} (h : 11 < k) : zp_ty k = 0 := by
  unfold zp_ty
  rw [if_neg (by rintro (z | z | z | z | z) <;> rw [z] at h <;> exact absurd h (by decide)), if_neg (by rintro (z | z | z) <;> rw [z] at h <;> exact absurd h (by decide))]
section
variable {u0 u1 u2 fP fC fS cu dp ow aw nb ps tb : Int32} {K A B bo lk dm ma mb ji op bf tr va mr fr : Nat → Int32} {n : Nat} {post : Int32 → Prop} {k : Int32}
theorem x_typeOf (h : post (nI (zp_ty k))) : wpX_typeOf post (u0, u1, u2, fP, fC, fS, nI n, cu, dp, ow, aw, nb, ps, tb, K, A, B, bo, lk, dm, ma, mb, ji, op, bf, tr, va, mr, fr) k := by
  have H : ∀ {c v : Int32}, nI (zp_ty c) = v → k = c → post v := fun e z => by rw [z, e] at h; exact h
  refine br_c (fun z => by rw [zp_ty_lo z] at h; exact h) (fun _ => br_c (fun z => by rw [zp_ty_hi z] at h; exact h) (fun _ => ?_))
  refine br_c (H (by decide)) (fun _ => br_c (H (by decide)) (fun _ => br_c (H (by decide)) (fun _ => br_c (H (by decide)) (fun _ => br_c (H (by decide)) (fun _ => br_c (H (by decide)) (fun _ => br_c (H (by decide)) (fun _ => br_c (H (by decide)) (fun _ => br_c (H (by decide)) (fun _ => br_c (H (by decide)) (fun _ => br_c (H (by decide)) (fun _ => trivial)))))))))))
theorem x_isM_t (hk : zp_M k) (h : post 1) : wpX_isMerge post (u0, u1, u2, fP, fC, fS, nI n, cu, dp, ow, aw, nb, ps, tb, K, A, B, bo, lk, dm, ma, mb, ji, op, bf, tr, va, mr, fr) k :=
  br_c (fun _ => h) (fun a => br_c (fun _ => h) (fun b => absurd hk (fun z => z.elim a b)))
theorem x_isM_f (hk : ¬ zp_M k) (h : post 0) : wpX_isMerge post (u0, u1, u2, fP, fC, fS, nI n, cu, dp, ow, aw, nb, ps, tb, K, A, B, bo, lk, dm, ma, mb, ji, op, bf, tr, va, mr, fr) k :=
  br_f (fun z => hk (Or.inl z)) (br_f (fun z => hk (Or.inr z)) h)
theorem x_mergeAt {i : Nat} (hn : n ≤ 16) (hi : i < 100) (h : post (oI (zp_ma K n i))) : wpX_mergeAt post (u0, u1, u2, fP, fC, fS, nI n, cu, dp, ow, aw, nb, ps, tb, K, A, B, bo, lk, dm, ma, mb, ji, op, bf, tr, va, mr, fr) (nI i) := by
  unfold zp_ma at h
  refine pk_le n i (fun z => ?_) (fun z => ⟨vp_in_nI (by omega) (by omega), ?_⟩) rfl rfl (by omega) (by omega)
  · rw [if_neg (by omega)] at h; exact h
  · rw [nI_clamp (by omega)]
    by_cases hM : zp_M (K i)
    · rw [if_pos ⟨z, hM⟩] at h
      exact x_isM_t hM (br_f (by decide) h)
    · rw [if_neg (fun z => hM z.2)] at h
      exact x_isM_f hM (br_t rfl h)
theorem x_items {t b l : Nat} (hn : n ≤ 16) (hl : l ≤ n) (hbo : ∀ i, i < n → bo i = nI (zp_bk K i)) (ht : t ≤ 2) (hb : b < 2 ^ 31) (h : post (nI (zp_it K t b l).length)) : wpX_itemsBefore post (u0, u1, u2, fP, fC, fS, nI n, cu, dp, ow, aw, nb, ps, tb, K, A, B, bo, lk, dm, ma, mb, ji, op, bf, tr, va, mr, fr) (nI b) (nI t) (nI l) := by
  refine Exists.intro (l + 1) ?_
  refine ll_c (W := fun d c i => wX_itemsBefore_6 post (nI b) (nI t) (nI l) u0 u1 u2 fP fC fS (nI n) cu dp ow aw nb ps tb K A B bo lk dm ma mb ji op bf tr va mr fr d c i) (p := fun i => decide (zp_bk K i = b ∧ zp_ty (K i) = t)) (R := fun c => post (nI c)) ?_ ?_ ?_ h
  · intro d c hr
    exact br_t (nI_le (Nat.le_refl _) (by omega)) hr
  · intro d c i hi hp hr
    have hp := of_decide_eq_true hp
    have V : vp_in (nI i) 16 := vp_in_nI (by omega) (by omega)
    refine br_f (nI_ge hi (by omega)) (br_f (nI_ge (by omega) (by omega)) ⟨V, ?_⟩)
    rw [nI_clamp (by omega)]
    refine br_t (by rw [hbo i (by omega), hp.1]) ⟨V, x_typeOf (br_t (by rw [hp.2]) ?_)⟩
    exact nm_r (nI_1 c) (nm_r (nI_1 i) hr)
  · intro d c i hi hp hr
    have hp := of_decide_eq_false hp
    have V : vp_in (nI i) 16 := vp_in_nI (by omega) (by omega)
    refine br_f (nI_ge hi (by omega)) (br_f (nI_ge (by omega) (by omega)) ⟨V, ?_⟩)
    rw [nI_clamp (by omega)]
    by_cases h1 : zp_bk K i = b
    · refine br_t (by rw [hbo i (by omega), h1]) ⟨V, x_typeOf (br_f ?_ (nm_r (nI_1 i) hr))⟩
      rw [nI_eq (by have := zp_ty2 (K i); omega) (by omega)]
      exact fun z => hp ⟨h1, z⟩
    · refine br_f ?_ (nm_r (nI_1 i) hr)
      rw [hbo i (by omega), nI_eq (by have := zp_bk_le (K := K) i; omega) hb]
      exact h1
theorem x_itemAt {t b c : Nat} (hn : n ≤ 16) (hbo : ∀ i, i < n → bo i = nI (zp_bk K i)) (ht : t ≤ 2) (hb : b < 2 ^ 31) (hc : c < 100) (h : post (oI ((zp_it K t b n)[c]?))) : wpX_itemAt post (u0, u1, u2, fP, fC, fS, nI n, cu, dp, ow, aw, nb, ps, tb, K, A, B, bo, lk, dm, ma, mb, ji, op, bf, tr, va, mr, fr) (nI b) (nI t) (nI c) := by
  refine Exists.intro (n - 0 + 1) ?_
  refine ll_s (W := fun d c i => wX_itemAt_6 post (nI b) (nI t) u0 u1 u2 fP fC fS (nI n) cu dp ow aw nb ps tb K A B bo lk dm ma mb ji op bf tr va mr fr d c i) (p := fun i => decide (zp_bk K i = b ∧ zp_ty (K i) = t)) (R := fun r => post (oI r)) c 0 (fun j hj => by omega) (by omega) ?_ ?_ ?_ ?_ h
  · intro d c hr
    exact br_t (nI_le (Nat.le_refl _) (by omega)) hr
  · intro d i hi hp hr
    have hp := of_decide_eq_true hp
    have V : vp_in (nI i) 16 := vp_in_nI (by omega) (by omega)
    refine br_f (nI_ge hi (by omega)) ⟨V, ?_⟩
    rw [nI_clamp (by omega)]
    exact br_t (by rw [hbo i (by omega), hp.1]) ⟨V, x_typeOf (br_t (by rw [hp.2]) (br_t rfl hr))⟩
  · intro d c i hc' hi hp hr
    have hp := of_decide_eq_true hp
    have V : vp_in (nI i) 16 := vp_in_nI (by omega) (by omega)
    refine br_f (nI_ge hi (by omega)) ⟨V, ?_⟩
    rw [nI_clamp (by omega)]
    exact br_t (by rw [hbo i (by omega), hp.1]) ⟨V, x_typeOf (br_t (by rw [hp.2]) (br_f (nI_ne0 (by omega) (by omega)) (nm_r (pk_m1 c) (nm_r (nI_1 i) hr))))⟩
  · intro d c i _ hi hp hr
    have hp := of_decide_eq_false hp
    have V : vp_in (nI i) 16 := vp_in_nI (by omega) (by omega)
    refine br_f (nI_ge hi (by omega)) ⟨V, ?_⟩
    rw [nI_clamp (by omega)]
    by_cases h1 : zp_bk K i = b
    · refine br_t (by rw [hbo i (by omega), h1]) ⟨V, x_typeOf (br_f ?_ (nm_r (nI_1 i) hr))⟩
      rw [nI_eq (by have := zp_ty2 (K i); omega) (by omega)]
      exact fun z => hp ⟨h1, z⟩
    · refine br_f ?_ (nm_r (nI_1 i) hr)
      rw [hbo i (by omega), nI_eq (by have := zp_bk_le (K := K) i; omega) hb]
      exact h1
theorem x_blocksG {t p : Nat} {stop : Int32} {pr : Nat → Bool} (hn : n ≤ 16) (hS : zx_S n n K bo lk dm ma mb ji op) (ht : t ≤ 2) (hp : p ≤ n) (h1 : ∀ q, q ≤ n → pr (zp_bk K q) = true → ¬ nI (zp_bk K q) = stop) (h0 : ∀ q, q ≤ n → pr (zp_bk K q) = false → nI (zp_bk K q) = stop) (h : post (nI (((zp_ch K p).takeWhile pr).filter (zp_hq K n t)).length)) : wpX_blocksBefore post (u0, u1, u2, fP, fC, fS, nI n, cu, dp, ow, aw, nb, ps, tb, K, A, B, bo, lk, dm, ma, mb, ji, op, bf, tr, va, mr, fr) (nI (zp_bk K p)) (nI t) stop := by
  refine Exists.intro (p + 2) ?_
  have bb : ∀ q, q ≤ n → zp_bk K q < 17 := fun q hq => by have := zp_bk_le (K := K) q; omega
  have L : ∀ q, q ≤ n → zp_bk K q < 2 ^ 31 := fun q hq => by have := bb q hq; omega
  refine ll_cw (K := K) (W := fun d c b s => wX_blocksBefore_9 post (nI t) stop u0 u1 u2 fP fC fS (nI n) cu dp ow aw nb ps tb K A B bo lk dm ma mb ji op bf tr va mr fr d c b s) (M := 17) (N := n) (pr := pr) (q := zp_hq K n t) (R := fun c => post (nI c)) ?_ ?_ ?_ ?_ p (p + 2) 0 0 (by omega) hp (by have := zp_ch_len (K := K) p; have := zp_bk_le (K := K) p; omega) (by rw [Nat.zero_add]; exact h)
  · intro d c st _ hr
    exact br_c (fun _ => hr) (fun _ => br_t rfl hr)
  · intro d c q st hq hst hz hr
    exact br_f (nI_ge (b := 17) hst (by omega)) (br_f (zp_nm1 (L q hq)) (br_t (h0 q hq hz) hr))
  · intro d c q st hq hst hz hqq hr
    refine br_f (nI_ge (b := 17) hst (by omega)) (br_f (zp_nm1 (L q hq)) (br_f (h1 q hq hz) (x_items hn (Nat.le_refl _) hS.1 ht (L q hq) (br_f ((zp_hq_t hqq).resolve_right (by omega)) (nm_r (nI_1 c) ⟨vp_in_nI (bb q hq) (by omega), ?_⟩)))))
    rw [nI_clamp (L q hq), (hS.2.1 q hq).1]
    exact nm_e (nm_r (nI_1 st) hr)
  · intro d c q st hq hst hz hqq hr
    refine br_f (nI_ge (b := 17) hst (by omega)) (br_f (zp_nm1 (L q hq)) (br_f (h1 q hq hz) (x_items hn (Nat.le_refl _) hS.1 ht (L q hq) (br_t (zp_hq_f hqq) ⟨vp_in_nI (bb q hq) (by omega), ?_⟩))))
    rw [nI_clamp (L q hq), (hS.2.1 q hq).1]
    exact nm_e (nm_r (nI_1 st) hr)
theorem x_blocks {t p : Nat} (hn : n ≤ 16) (hS : zx_S n n K bo lk dm ma mb ji op) (ht : t ≤ 2) (hp : p ≤ n) (h : post (nI (zp_ct K n t p).length)) : wpX_blocksBefore post (u0, u1, u2, fP, fC, fS, nI n, cu, dp, ow, aw, nb, ps, tb, K, A, B, bo, lk, dm, ma, mb, ji, op, bf, tr, va, mr, fr) (nI (zp_bk K p)) (nI t) (-1) :=
  x_blocksG (pr := fun _ => true) hn hS ht hp (fun q hq _ => zp_nm1 (by have := zp_bk_le (K := K) q; omega)) (fun q _ z => by cases z) (by rw [zl_tw]; exact h)
theorem x_blocksS {t p b : Nat} (hn : n ≤ 16) (hS : zx_S n n K bo lk dm ma mb ji op) (ht : t ≤ 2) (hp : p ≤ n) (hb : b < 2 ^ 31) (h : post (nI (zp_bi K n t p b))) : wpX_blocksBefore post (u0, u1, u2, fP, fC, fS, nI n, cu, dp, ow, aw, nb, ps, tb, K, A, B, bo, lk, dm, ma, mb, ji, op, bf, tr, va, mr, fr) (nI (zp_bk K p)) (nI t) (nI b) :=
  x_blocksG (pr := fun x => decide (x ≠ b)) hn hS ht hp (fun q hq z => by rw [nI_eq (by have := zp_bk_le (K := K) q; omega) hb]; exact of_decide_eq_true z) (fun q hq z => by rw [Decidable.of_not_not (of_decide_eq_false z)]) h
theorem x_blockAt {t p c : Nat} (hn : n ≤ 16) (hS : zx_S n n K bo lk dm ma mb ji op) (ht : t ≤ 2) (hp : p ≤ n) (hc : c < 100) (h : post (oI ((zp_ct K n t p)[c]?))) : wpX_blockAt post (u0, u1, u2, fP, fC, fS, nI n, cu, dp, ow, aw, nb, ps, tb, K, A, B, bo, lk, dm, ma, mb, ji, op, bf, tr, va, mr, fr) (nI (zp_bk K p)) (nI t) (nI c) := by
  refine Exists.intro (p + 2) ?_
  have bb : ∀ q, q ≤ n → zp_bk K q < 17 := fun q hq => by have := zp_bk_le (K := K) q; omega
  have L : ∀ q, q ≤ n → zp_bk K q < 2 ^ 31 := fun q hq => by have := bb q hq; omega
  refine ll_cs (K := K) (W := fun d c b s => wX_blockAt_9 post (nI t) u0 u1 u2 fP fC fS (nI n) cu dp ow aw nb ps tb K A B bo lk dm ma mb ji op bf tr va mr fr d c b s) (M := 17) (N := n) (q := zp_hq K n t) (R := fun r => post (oI r)) c ?_ ?_ ?_ ?_ p (p + 2) c 0 (Nat.le_refl _) (by omega) hp (by have := zp_ch_len (K := K) p; have := zp_bk_le (K := K) p; omega) h
  · intro d c st _ hr
    exact br_c (fun _ => hr) (fun _ => br_t rfl hr)
  · intro d q st hq hst hqq hr
    exact br_f (nI_ge (b := 17) hst (by omega)) (br_f (zp_nm1 (L q hq)) (x_items hn (Nat.le_refl _) hS.1 ht (L q hq) (br_f ((zp_hq_t hqq).resolve_right (by omega)) (br_t rfl hr))))
  · intro d c q st hc' hq hst hqq hr
    refine br_f (nI_ge (b := 17) hst (by omega)) (br_f (zp_nm1 (L q hq)) (x_items hn (Nat.le_refl _) hS.1 ht (L q hq) (br_f ((zp_hq_t hqq).resolve_right (by omega)) (br_f (nI_ne0 (by omega) (by omega)) (nm_r (pk_m1 c) ⟨vp_in_nI (bb q hq) (by omega), ?_⟩)))))
    rw [nI_clamp (L q hq), (hS.2.1 q hq).1]
    exact nm_e (nm_r (nI_1 st) hr)
  · intro d c q st hq hst hqq hr
    refine br_f (nI_ge (b := 17) hst (by omega)) (br_f (zp_nm1 (L q hq)) (x_items hn (Nat.le_refl _) hS.1 ht (L q hq) (br_t (zp_hq_f hqq) ⟨vp_in_nI (bb q hq) (by omega), ?_⟩)))
    rw [nI_clamp (L q hq), (hS.2.1 q hq).1]
    exact nm_e (nm_r (nI_1 st) hr)
theorem x_vis {t p : Nat} (hn : n ≤ 16) (hS : zx_S n n K bo lk dm ma mb ji op) (ht : t ≤ 2) (hp : p ≤ n) (h1 : zp_vs K n t p = true → post 1) (h0 : zp_vs K n t p = false → post 0) : wpX_visible post (u0, u1, u2, fP, fC, fS, nI n, cu, dp, ow, aw, nb, ps, tb, K, A, B, bo, lk, dm, ma, mb, ji, op, bf, tr, va, mr, fr) (nI (zp_bk K p)) (nI t) := by
  unfold wpX_visible
  dsimp only
  refine x_blocks hn hS ht hp ?_
  by_cases hc : zp_ct K n t p = []
  · exact br_t (by rw [hc]; decide) (h0 (zg_f zp_vs_iff (fun z => z hc)))
  · have := zp_ct_len (K := K) n t p
    have := zp_bk_le (K := K) p
    exact br_f (nI_nle (List.length_pos_iff.mpr hc) (by omega)) (h1 (zp_vs_iff.mpr hc))
theorem x_seen {t p : Nat} {v : Int32} (hn : n ≤ 16) (hS : zx_S n n K bo lk dm ma mb ji op) (ht : t ≤ 2) (hp : p ≤ n) (h1 : zp_SN K n t p v → post 1) (h0 : ¬ zp_SN K n t p v → post 0) : wpX_seen post (u0, u1, u2, fP, fC, fS, nI n, cu, dp, ow, aw, nb, ps, tb, K, A, B, bo, lk, dm, ma, mb, ji, op, bf, tr, va, mr, fr) (nI (zp_bk K p)) (nI t) v := by
  have bb : ∀ q, q ≤ n → zp_bk K q < 17 := fun q hq => by have := zp_bk_le (K := K) q; omega
  have L : ∀ q, q ≤ n → zp_bk K q < 2 ^ 31 := fun q hq => by have := bb q hq; omega
  rcases pk_ix v (n := n) (by omega) with hv | hv | ⟨j, hj, rfl⟩
  · have ns : ¬ zp_SN K n t p v := by
      rintro ⟨j, hj, e, _⟩
      rw [e] at hv; exact nI_pos (by omega) hv
    exact br_t hv (h0 ns)
  · have ns : ¬ zp_SN K n t p v := by
      rintro ⟨j, hj, e, _⟩
      rw [e, nI_leI (by omega) (by omega)] at hv; omega
    have nn : ¬ v < 0 := fun z => by
      have := Int32.lt_of_le_of_lt hv z
      exact nI_pos (by omega) this
    exact br_f nn (br_t hv (h0 ns))
  · have V : vp_in (nI j) 16 := vp_in_nI (by omega) (by omega)
    refine br_f (nI_pos (by omega)) (br_f (nI_ge hj (by omega)) ⟨V, ?_⟩)
    rw [nI_clamp (by omega)]
    refine x_typeOf ?_
    by_cases hk : zp_ty (K j) = t
    · refine br_t (by rw [hk]) ⟨V, ?_⟩
      rw [hS.1 j hj]
      refine nm_e ⟨p + 2, ?_⟩
      refine ll_cf (K := K) (W := fun d b s => wX_seen_42 post (nI (zp_bk K j)) u0 u1 u2 fP fC fS (nI n) cu dp ow aw nb ps tb K A B bo lk dm ma mb ji op bf tr va mr fr d b s) (M := 17) (N := n) (b := zp_bk K j) (R1 := post 1) (R0 := post 0) ?_ ?_ ?_ p (p + 2) 0 (by omega) hp (by have := zp_ch_len (K := K) p; have := zp_bk_le (K := K) p; omega) (fun z => h1 ⟨j, hj, rfl, hk, z⟩) (fun z => h0 ?_)
      · intro d st _ hr
        have T : wX_seen_77 post (nI (zp_bk K j)) (-1) u0 u1 u2 fP fC fS (nI n) cu dp ow aw nb ps tb K A B bo lk dm ma mb ji op bf tr va mr fr := br_f (zp_nm1' (L j (by omega))) hr
        exact br_c (fun _ => T) (fun _ => br_t rfl T)
      · intro d q st hq hst e hr
        exact br_f (nI_ge (b := 17) hst (by omega)) (br_f (zp_nm1 (L q hq)) (br_t (by rw [e]) (br_t (by rw [e]) hr)))
      · intro d q st hq hst e hr
        refine br_f (nI_ge (b := 17) hst (by omega)) (br_f (zp_nm1 (L q hq)) (br_f (by rw [nI_eq (L q hq) (L j (by omega))]; exact e) ⟨vp_in_nI (bb q hq) (by omega), ?_⟩))
        rw [nI_clamp (L q hq), (hS.2.1 q hq).1]
        exact nm_e (nm_r (nI_1 st) hr)
      · rintro ⟨j', hj', e, _, z'⟩
        rw [nI_eq (by omega) (by omega)] at e
        subst e
        exact z z'
    · refine br_f (by rw [nI_eq (by have := zp_ty2 (K j); omega) (by omega)]; exact hk) (h0 ?_)
      rintro ⟨j', hj', e, z, _⟩
      rw [nI_eq (by omega) (by omega)] at e
      subst e
      exact hk z
end
end
section
/-! the component: legal, operands -/
section
variable {u0 u1 u2 fP fS nb ps tb : Int32} {K A B bo lk dm ma mb ji op bf tr va mr fr : Nat → Int32} {P C n : Nat} {w : Option Nat} {post : Int32 → Prop} {k x y : Int32}
theorem x_ml70 {pA : Nat} {pB : Option Nat} (hn : n ≤ 16) (hS : zx_S n n K bo lk dm ma mb ji op) (hA : pA ≤ n) (hB : ∀ q, pB = some q → q ≤ n) (h1 : zp_vs K n (zp_ty k) pA = true → zp_vo K n (zp_ty k) pB true = true → post 1) (h0 : ¬ (zp_vs K n (zp_ty k) pA = true ∧ zp_vo K n (zp_ty k) pB true = true) → post 0) : wX_mergeLegal_70 post k (nI (zp_bk K pA)) (oI (pB.map (zp_bk K))) u0 u1 u2 fP (nI C) fS (nI n) (nI (zp_bk K n)) (nI (zp_sk K n).length) (nI (zp_ow K n)) (oI w) nb ps tb K A B bo lk dm ma mb ji op bf tr va mr fr := by
  unfold wX_mergeLegal_70
  refine x_typeOf (x_vis hn hS (zp_ty2 k) hA (fun a => br_f (by decide) ?_) (fun a => br_t rfl (h0 (fun z => by rw [a] at z; cases z.1))))
  cases pB with
  | none => exact br_t rfl (h1 a rfl)
  | some q =>
    have hq := hB q rfl
    have := zp_bk_le (K := K) q
    exact br_f (zp_nm1 (by omega)) (x_vis hn hS (zp_ty2 k) hq (fun b => br_f (by decide) (h1 a b)) (fun b => br_t rfl (h0 (fun z => by have := z.2.symm.trans b; cases this))))
theorem x_mleg (I : zp_I P C n w K A B) (hS : zx_S n n K bo lk dm ma mb ji op) (h1 : zp_mp K n = true → zp_vo K n (zp_ty k) (zp_mA K n) false = true → zp_vo K n (zp_ty k) (zp_mB K n) true = true → post 1) (h0 : ¬ (zp_mp K n = true ∧ zp_vo K n (zp_ty k) (zp_mA K n) false = true ∧ zp_vo K n (zp_ty k) (zp_mB K n) true = true) → post 0) : wpX_mergeLegal post (u0, u1, u2, fP, nI C, fS, nI n, nI (zp_bk K n), nI (zp_sk K n).length, nI (zp_ow K n), oI w, nb, ps, tb, K, A, B, bo, lk, dm, ma, mb, ji, op, bf, tr, va, mr, fr) k := by
  have hn := zi_16 I
  have bn := zp_bk_le (K := K) n
  have V : vp_in (nI (zp_bk K n)) 17 := vp_in_nI (by omega) (by omega)
  have D := hS.2.1 n (Nat.le_refl _)
  have go : ∀ pA pB, zp_mA K n = some pA → zp_mB K n = pB → 1 ≤ n → pA ≤ n → (∀ q, pB = some q → q ≤ n) → zp_og K n ≠ none → wpX_mergeLegal post (u0, u1, u2, fP, nI C, fS, nI n, nI (zp_bk K n), nI (zp_sk K n).length, nI (zp_ow K n), oI w, nb, ps, tb, K, A, B, bo, lk, dm, ma, mb, ji, op, bf, tr, va, mr, fr) k := by
    intro pA pB eA eB n1 hA hB og
    refine And.intro V ?_
    rw [nI_clamp (by omega), D.2.1, eA]
    refine nm_e ⟨V, ?_⟩
    rw [D.2.2.1, eB]
    have bA := zp_bk_le (K := K) pA
    refine nm_e (br_f (zp_nm1 (by omega)) ?_)
    obtain ⟨n', rfl⟩ : ∃ n', n = n' + 1 := ⟨n - 1, by omega⟩
    have T : zp_mp K (n' + 1) = true → wX_mergeLegal_70 post k (nI (zp_bk K pA)) (oI (pB.map (zp_bk K))) u0 u1 u2 fP (nI C) fS (nI (n' + 1)) (nI (zp_bk K (n' + 1))) (nI (zp_sk K (n' + 1)).length) (nI (zp_ow K (n' + 1))) (oI w) nb ps tb K A B bo lk dm ma mb ji op bf tr va mr fr := by
      intro mp
      refine x_ml70 hn hS hA hB (fun a b => h1 mp (by rw [eA]; exact a) (by rw [eB]; exact b)) (fun a => h0 (fun z => a ?_))
      rw [eA, eB] at z
      exact z.2
    refine nm_r (nI_pred n') (br_f (nI_pos (by omega)) ⟨vp_in_nI (by omega) (by omega), ?_⟩)
    rw [nI_clamp (by omega), hS.1 n' (by omega)]
    have b' := zp_bk_le (K := K) n'
    by_cases hb : zp_bk K n' = zp_bk K (n' + 1)
    · refine br_t (by rw [hb]) ⟨vp_in_nI (by omega) (by omega), ?_⟩
      by_cases hM : zp_M (K n')
      · exact x_isM_t hM (br_f (by decide) (T (decide_eq_true ⟨og, Or.inr (Or.inr hM)⟩)))
      · refine x_isM_f hM (br_t rfl (h0 (fun z => ?_)))
        rcases (of_decide_eq_true z.1).2 with q | q | q
        · omega
        · exact q hb
        · exact hM q
    · exact br_f (by rw [nI_eq (by omega) (by omega)]; exact hb) (T (decide_eq_true ⟨og, Or.inr (Or.inl hb)⟩))
  rcases zp_cls K n with c | ⟨o1, c1, c2, c3, c4, c5, _⟩ | ⟨s, o1, t, r, c1, c2, c3, c4, c5, c6, c7, c8, _⟩
  · refine And.intro V ?_
    rw [nI_clamp (by omega), D.2.1, c.2.1]
    refine nm_e ⟨V, nm_e (br_t rfl (h0 (fun z => ?_)))⟩
    exact (of_decide_eq_true z.1).1 c.1
  · have a := (zp_ls_some c1).1
    exact go o1 none c4 c5 (by omega) (by omega) (fun q hq => by cases hq) (by rw [c3]; exact fun z => by cases z)
  · have a := (zp_ls_some c1).1
    have b := ((zp_st s o1 t r c3).2.2.2 c5).2.2.1
    exact go t (some s) c7 c8 (by omega) (by omega) (fun q hq => by injection hq with hq; omega) (by rw [c6]; exact fun z => by cases z)
theorem x_lwr (I : zp_I P C n none K A B) (hf : zp_fi K n = false) (hS : zx_S n n K bo lk dm ma mb ji op) (hr : n + zp_ow K n + 1 ≤ C) (k0 : ¬ k = 0) (h1 : zp_lg K C n none k = true → post 1) (h0 : zp_lg K C n none k = false → post 0) : wpX_legalWithRoom post (u0, u1, u2, fP, nI C, fS, nI n, nI (zp_bk K n), nI (zp_sk K n).length, nI (zp_ow K n), -1, nb, ps, tb, K, A, B, bo, lk, dm, ma, mb, ji, op, bf, tr, va, mr, fr) k (nI (C - n - zp_ow K n)) := by
  have hn := zi_16 I
  obtain ⟨i1, i2, i3, i4, i5, i6⟩ := I.1
  have out : (¬ zp_kd k) → zp_lg K C n none k = false := by
    intro z
    cases hl : zp_lg K C n none k with
    | false => rfl
    | true => exact absurd (zs_kd hl) z
  by_cases k1 : k < 1
  · refine br_t k1 (h0 (out ?_))
    rintro (z | z | z | z | z | z | z | z | z | z) <;> rw [z] at k1 k0 <;> first | exact absurd rfl k0 | exact absurd k1 (by decide)
  refine br_f k1 ?_
  by_cases k9 : 9 < k
  · refine br_t k9 (h0 (out ?_))
    rintro (z | z | z | z | z | z | z | z | z | z) <;> rw [z] at k9 <;> exact absurd k9 (by decide)
  refine br_f k9 ?_
  have X2 : (k = 2 ∨ k = 3 ∨ k = 4) → wX_legalWithRoom_54 post u0 u1 u2 fP (nI C) fS (nI n) (nI (zp_bk K n)) (nI (zp_sk K n).length) (nI (zp_ow K n)) (-1) nb ps tb K A B bo lk dm ma mb ji op bf tr va mr fr := by
    intro hk
    unfold wX_legalWithRoom_54
    exact x_vis (t := 1) hn hS (by omega) (Nat.le_refl _) (fun a => ⟨narrow_b1, h1 ((zg_2 hk).mpr ⟨hf, hr, a⟩)⟩) (fun a => ⟨narrow_b0, h0 (zg_f (zg_2 hk) (fun z => by have := z.2.2.symm.trans a; cases this))⟩)
  have XM : zp_M k → wX_legalWithRoom_136 post k u0 u1 u2 fP (nI C) fS (nI n) (nI (zp_bk K n)) (nI (zp_sk K n).length) (nI (zp_ow K n)) (-1) nb ps tb K A B bo lk dm ma mb ji op bf tr va mr fr := by
    intro hk
    unfold wX_legalWithRoom_136
    exact x_mleg (w := none) I hS (fun a b c => ⟨narrow_b1, h1 ((zg_M hk).mpr ⟨hf, hr, a, b, c⟩)⟩) (fun a => ⟨narrow_b0, h0 (zg_f (zg_M hk) (fun z => a z.2.2))⟩)
  have hk := zp_k9 k0 k1 (Int32.not_lt.mp k9)
  by_cases e1 : k = 1
  · subst e1
    exact br_t rfl (h1 (zg_1.mpr ⟨hf, hr⟩))
  refine br_f e1 ?_
  by_cases e2 : k = 2
  · exact br_t e2 (X2 (Or.inl e2))
  refine br_f e2 ?_
  by_cases e3 : k = 3
  · exact br_t e3 (X2 (Or.inr (Or.inl e3)))
  refine br_f e3 ?_
  by_cases e4 : k = 4
  · exact br_t e4 (X2 (Or.inr (Or.inr e4)))
  refine br_f e4 ?_
  by_cases e5 : k = 5
  · subst e5
    exact br_t rfl (x_vis (t := 2) hn hS (by omega) (Nat.le_refl _) (fun a => ⟨narrow_b1, h1 (zg_5.mpr ⟨hf, hr, a⟩)⟩) (fun a => ⟨narrow_b0, h0 (zg_f zg_5 (fun z => by have := z.2.2.symm.trans a; cases this))⟩))
  refine br_f e5 ?_
  by_cases e6 : k = 6
  · subst e6
    refine br_t rfl (pk_lt (C - n - zp_ow K n) 3 (fun q => h0 (zg_f zg_6 (fun z => by have := z.2.1; omega))) (fun q => ?_) rfl rfl (by omega) (by omega))
    refine pk_le 3 (zp_sk K n).length (fun q => h0 (zg_f zg_6 (fun z => by have := z.2.2.1; omega))) (fun q' => ?_) rfl rfl (by omega) (by omega)
    exact x_vis (t := 2) hn hS (by omega) (Nat.le_refl _) (fun a => br_f (by decide) (h1 (zg_6.mpr ⟨hf, by omega, q', a⟩))) (fun a => br_t rfl (h0 (zg_f zg_6 (fun z => by have := z.2.2.2.symm.trans a; cases this))))
  refine br_f e6 ?_
  by_cases e7 : k = 7
  · subst e7
    refine br_t rfl (pk_lt (C - n - zp_ow K n) 2 (fun q => h0 (zg_f zg_7 (fun z => by have := z.2.1; omega))) (fun q => ?_) rfl rfl (by omega) (by omega))
    refine pk_le 3 (zp_sk K n).length (fun q => h0 (zg_f zg_7 (fun z => by have := z.2.2.1; omega))) (fun q' => ?_) rfl rfl (by omega) (by omega)
    exact x_vis (t := 2) hn hS (by omega) (Nat.le_refl _) (fun a => br_f (by decide) (h1 (zg_7.mpr ⟨hf, by omega, q', a⟩))) (fun a => br_t rfl (h0 (zg_f zg_7 (fun z => by have := z.2.2.2.symm.trans a; cases this))))
  refine br_f e7 ?_
  by_cases e8 : k = 8
  · exact br_t e8 (XM (Or.inl e8))
  refine br_f e8 ?_
  by_cases e9 : k = 9
  · exact br_t e9 (XM (Or.inr e9))
  · exact br_f e9 trivial
theorem x_legal (I : zp_I P C n w K A B) (hf : zp_fi K n = false) (hS : zx_S n n K bo lk dm ma mb ji op) (h1 : zp_lg K C n w k = true → post 1) (h0 : zp_lg K C n w k = false → post 0) : wpX_legal post (u0, u1, u2, fP, nI C, fS, nI n, nI (zp_bk K n), nI (zp_sk K n).length, nI (zp_ow K n), oI w, nb, ps, tb, K, A, B, bo, lk, dm, ma, mb, ji, op, bf, tr, va, mr, fr) k := by
  have hn := zi_16 I
  obtain ⟨i1, i2, i3, i4, i5, i6⟩ := I.1
  have ow1 : 1 ≤ zp_ow K n := by rw [zp_ow_f hf]; omega
  refine br_f (nI_ne0 (by omega) (by omega)) ?_
  cases w with
  | some m =>
    obtain ⟨o, a1, a2, _⟩ := zi_og I
    exact br_f (zp_nm1 (by omega)) (br_c (fun z => h1 (zg_s.mpr ⟨hf, z⟩)) (fun z => h0 (zg_f zg_s (fun y => z y.2))))
  | none =>
    refine br_t rfl ?_
    by_cases k0 : k = 0
    · subst k0
      exact br_t rfl (h1 (zg_0.mpr hf))
    have e : nI C - nI n - nI (zp_ow K n) = nI (C - n - zp_ow K n) := by rw [pk_sub (by omega), pk_sub (by omega)]
    refine br_f k0 (nm_r e ?_)
    refine pk_lt (C - n - zp_ow K n) 1 (fun q => h0 ?_) (fun q => ?_) rfl rfl (by omega) (by omega)
    · cases hl : zp_lg K C n none k with
      | false => rfl
      | true =>
        obtain ⟨_, ⟨z, _⟩ | ⟨_, z | ⟨z, _⟩⟩⟩ := zp_lg_t hl
        · exact absurd rfl z
        · exact absurd z k0
        · omega
    · exact x_lwr I hf hS (by omega) k0 (fun a => br_f (by decide) (h1 a)) (fun a => br_t rfl (h0 a))
theorem x_typeA (I : zp_I P C n w K A B) (hS : zx_S n n K bo lk dm ma mb ji op) (h : post (nI (zp_tA K n w k))) : wpX_typeOfA post (u0, u1, u2, fP, nI C, fS, nI n, nI (zp_bk K n), nI (zp_sk K n).length, nI (zp_ow K n), oI w, nb, ps, tb, K, A, B, bo, lk, dm, ma, mb, ji, op, bf, tr, va, mr, fr) k := by
  have hn := zi_16 I
  obtain ⟨i1, i2, i3, i4, i5, i6⟩ := I.1
  have H1 : ∀ {c : Int32}, (c = 2 ∨ c = 3 ∨ c = 4 ∨ c = 8) → k = c → post 1 := fun hc z => by rw [z, zt_A1 hc] at h; exact h
  have H2 : ∀ {c : Int32}, (c = 5 ∨ c = 6 ∨ c = 9) → k = c → post 2 := fun hc z => by rw [z, zt_A2 hc] at h; exact h
  have H0 : ∀ {c : Int32}, ¬ (c = 2 ∨ c = 3 ∨ c = 4 ∨ c = 8) → ¬ (c = 5 ∨ c = 6 ∨ c = 9) → ¬ c = 0 → ¬ c = 10 → k = c → post 0 := fun a b c d z => by rw [z, zt_Ae a b c d] at h; exact h
  refine br_c (fun z => ?_) (fun _ => br_c (fun z => ?_) (fun _ => br_c (fun z => ?_) (fun _ => ?_)))
  · rw [zt_Ae (by rintro (q | q | q | q) <;> rw [q] at z <;> exact absurd z (by decide)) (by rintro (q | q | q) <;> rw [q] at z <;> exact absurd z (by decide)) (by rintro q; rw [q] at z; exact absurd z (by decide)) (by rintro q; rw [q] at z; exact absurd z (by decide))] at h
    exact h
  · rw [zt_Ae (by rintro (q | q | q | q) <;> rw [q] at z <;> exact absurd z (by decide)) (by rintro (q | q | q) <;> rw [q] at z <;> exact absurd z (by decide)) (by rintro q; rw [q] at z; exact absurd z (by decide)) (by rintro q; rw [q] at z; exact absurd z (by decide))] at h
    exact h
  · subst z
    rw [zt_A0] at h
    have O := hS.2.2.1
    cases hs : zp_sk K n with
    | nil =>
      rw [zp_top_e hs] at h
      exact br_t (by decide) h
    | cons e r =>
      obtain ⟨o, t⟩ := e
      rw [zp_top_c hs] at h
      rw [hs] at O i6
      rw [List.length_cons] at i6 ⊢
      have S := zp_st n o t r hs
      refine br_f (nI_nle (by omega) (by omega)) ?_
      rw [nI_pred, nI_clamp (by omega), O.1, nI_clamp (by omega)]
      refine ⟨vp_in_nI (by omega) (by omega), vp_in_nI (by omega) (by omega), ?_⟩
      have h' : post (nI (if K o = 7 then 2 else 0)) := h
      by_cases h7 : K o = 7
      · rw [if_pos h7] at h'; exact br_t h7 h'
      · rw [if_neg h7] at h'; exact br_f h7 h'
  · refine br_c (H0 (by decide) (by decide) (by decide) (by decide)) (fun _ => br_c (H1 (by decide)) (fun _ => br_c (H1 (by decide)) (fun _ => br_c (H1 (by decide)) (fun _ => br_c (H2 (by decide)) (fun _ => br_c (H2 (by decide)) (fun _ => br_c (H0 (by decide) (by decide) (by decide) (by decide)) (fun _ => br_c (H1 (by decide)) (fun _ => br_c (H2 (by decide)) (fun _ => br_c (fun z => ?_) (fun _ => trivial))))))))))
    subst z
    rw [zt_A10] at h
    cases w with
    | none => exact br_t rfl h
    | some m =>
      obtain ⟨o, a1, a2, _⟩ := zi_og I
      refine br_f (zp_nm1 (by omega)) ⟨vp_in_nI (by omega) (by omega), ?_⟩
      rw [oI_s, nI_clamp (by omega)]
      exact x_typeOf h
theorem x_viewA (I : zp_I P C n w K A B) (hS : zx_S n n K bo lk dm ma mb ji op) (hM : zp_M k → zp_og K n ≠ none) (h10 : k = 10 → w ≠ none) (h : post (nI (zp_bk K (zp_vA K n k)))) : wpX_viewOfA post (u0, u1, u2, fP, nI C, fS, nI n, nI (zp_bk K n), nI (zp_sk K n).length, nI (zp_ow K n), oI w, nb, ps, tb, K, A, B, bo, lk, dm, ma, mb, ji, op, bf, tr, va, mr, fr) k := by
  have hn := zi_16 I
  have bn := zp_bk_le (K := K) n
  have D := hS.2.1 n (Nat.le_refl _)
  unfold wpX_viewOfA
  dsimp only
  by_cases hm : zp_M k
  · refine x_isM_t hm (br_f (by decide) ⟨vp_in_nI (by omega) (by omega), ?_⟩)
    rw [nI_clamp (by omega), D.2.1]
    have e : zp_vA K n k = (zp_mA K n).getD n := if_pos hm
    rw [e] at h
    rcases zp_cls K n with c | ⟨o1, c1, c2, c3, c4, c5, _⟩ | ⟨s, o1, t, r, c1, c2, c3, c4, c5, c6, c7, c8, _⟩
    · exact absurd c.1 (hM hm)
    · rw [c4] at h ⊢; exact h
    · rw [c7] at h ⊢; exact h
  · refine x_isM_f hm (br_t rfl ?_)
    by_cases k10 : k = 10
    · subst k10
      cases w with
      | none => exact absurd rfl (h10 rfl)
      | some m =>
        obtain ⟨o, a1, a2, a3, a4, a5, a6, a7, _⟩ := zi_og I
        obtain ⟨n', rfl⟩ : ∃ n', n = n' + 1 := ⟨n - 1, by omega⟩
        refine br_t rfl (br_f (nI_nle (by omega) (by omega)) ?_)
        rw [nI_pred, nI_clamp (by omega), hS.1 n' (by omega)]
        exact ⟨vp_in_nI (by omega) (by omega), h⟩
    · have e : zp_vA K n k = n := zt_vA' hm k10
      rw [e] at h
      exact br_f k10 h
theorem x_typeB (I : zp_I P C n w K A B) (hS : zx_S n n K bo lk dm ma mb ji op) (h : post (nI (zp_tB K n k))) : wpX_typeOfB post (u0, u1, u2, fP, nI C, fS, nI n, nI (zp_bk K n), nI (zp_sk K n).length, nI (zp_ow K n), oI w, nb, ps, tb, K, A, B, bo, lk, dm, ma, mb, ji, op, bf, tr, va, mr, fr) k := by
  have hn := zi_16 I
  have bn := zp_bk_le (K := K) n
  have D := hS.2.1 n (Nat.le_refl _)
  by_cases k2 : k = 2
  · rw [zt_B1 (Or.inl k2)] at h; exact br_t k2 h
  by_cases k3 : k = 3
  · rw [zt_B1 (Or.inr (Or.inl k3))] at h; exact br_f k2 (br_t k3 h)
  by_cases k4 : k = 4
  · rw [zt_B1 (Or.inr (Or.inr k4))] at h; exact br_f k2 (br_f k3 (br_t k4 h))
  have kn : ¬ (k = 2 ∨ k = 3 ∨ k = 4) := by rintro (z | z | z); exact k2 z; exact k3 z; exact k4 z
  refine br_f k2 (br_f k3 (br_f k4 ?_))
  by_cases hm : zp_M k
  · refine x_isM_t hm (br_f (by decide) ⟨vp_in_nI (by omega) (by omega), ?_⟩)
    rw [nI_clamp (by omega), D.2.2.1]
    cases hb : zp_mB K n with
    | none =>
      rw [zt_Be kn (fun z => z.2 hb)] at h
      exact br_t rfl h
    | some q =>
      have := zt_mle.2 hb
      have := zp_bk_le (K := K) q
      rw [zt_BM hm (by rw [hb]; exact fun z => by cases z)] at h
      exact br_f (zp_nm1 (by omega)) (x_typeOf h)
  · rw [zt_Be kn (fun z => hm z.1)] at h
    exact x_isM_f hm (br_t rfl h)
theorem x_viewB (I : zp_I P C n w K A B) (hS : zx_S n n K bo lk dm ma mb ji op) (h : ∀ v, (zp_tB K n k ≠ 0 → v = nI (zp_bk K (zp_vB K n k))) → post v) : wpX_viewOfB post (u0, u1, u2, fP, nI C, fS, nI n, nI (zp_bk K n), nI (zp_sk K n).length, nI (zp_ow K n), oI w, nb, ps, tb, K, A, B, bo, lk, dm, ma, mb, ji, op, bf, tr, va, mr, fr) k := by
  have hn := zi_16 I
  have bn := zp_bk_le (K := K) n
  have D := hS.2.1 n (Nat.le_refl _)
  unfold wpX_viewOfB
  dsimp only
  by_cases hm : zp_M k
  · refine x_isM_t hm (br_f (by decide) ⟨vp_in_nI (by omega) (by omega), ?_⟩)
    rw [nI_clamp (by omega), D.2.2.1]
    refine h _ (fun z => ?_)
    have e : zp_vB K n k = (zp_mB K n).getD n := if_pos hm
    rw [e]
    cases hb : zp_mB K n with
    | none => exact absurd (zt_Be (by rcases hm with e | e <;> rw [e] <;> decide) (fun z => z.2 hb)) z
    | some q => rfl
  · refine x_isM_f hm (br_t rfl (h _ (fun _ => ?_)))
    rw [zt_vB' hm]
theorem x_fit (I : zp_I P C n w K A B) (hS : zx_S n n K bo lk dm ma mb ji op) (hM : zp_M k → zp_og K n ≠ none) (h10 : k = 10 → w ≠ none) (h1 : zp_FT K n w k x y → post 1) (h0 : ¬ zp_FT K n w k x y → post 0) : wpX_operandsFit post (u0, u1, u2, fP, nI C, fS, nI n, nI (zp_bk K n), nI (zp_sk K n).length, nI (zp_ow K n), oI w, nb, ps, tb, K, A, B, bo, lk, dm, ma, mb, ji, op, bf, tr, va, mr, fr) k x y := by
  have hn := zi_16 I
  by_cases k1 : k = 1
  · have eA : zp_tA K n w 1 = 0 := zt_Ae (by decide) (by decide) (by decide) (by decide)
    have eB : zp_tB K n 1 = 0 := zt_Be (by decide) (fun z => absurd z.1 (by decide))
    subst k1
    refine br_t rfl ?_
    by_cases x0 : x < 0
    · refine br_t x0 (h0 (fun z => ?_))
      obtain ⟨j, hj, e⟩ := z.1 rfl
      rw [e] at x0
      exact nI_pos (by omega) x0
    · refine br_f x0 ?_
      by_cases x7 : 7 < x
      · refine br_t x7 (h0 (fun z => ?_))
        obtain ⟨j, hj, e⟩ := z.1 rfl
        rw [e] at x7
        exact Int32.not_lt.mpr (nI_le (b := 7) hj (by decide)) x7
      · obtain ⟨j, hj, e⟩ := nI_of2 (M := 7) (n := 7) (by decide) x0 (Int32.not_lt.mp x7)
        exact br_f x7 (h1 ⟨fun _ => ⟨j, hj, e⟩, fun z => absurd eA z, fun z => absurd eB z⟩)
  · refine br_f k1 (x_typeA I hS (x_viewA I hS hM h10 ?_))
    have F54 : (zp_tA K n w k ≠ 0 → zp_SN K n (zp_tA K n w k) (zp_vA K n k) x) → wX_operandsFit_54 post k y u0 u1 u2 fP (nI C) fS (nI n) (nI (zp_bk K n)) (nI (zp_sk K n).length) (nI (zp_ow K n)) (oI w) nb ps tb K A B bo lk dm ma mb ji op bf tr va mr fr := by
      intro f2
      unfold wX_operandsFit_54
      refine x_typeB I hS (x_viewB I hS (fun v hv => ?_))
      by_cases t0 : zp_tB K n k = 0
      · rw [t0]
        exact br_t rfl (h1 ⟨fun z => absurd z k1, f2, fun z => absurd t0 z⟩)
      · have t3 := zt_B3 (K := K) (n := n) k
        rw [hv t0]
        exact br_f (nI_ne0 (by omega) (by omega)) (x_seen hn hS t3 (zt_vB k) (fun s => br_f (by decide) (h1 ⟨fun z => absurd z k1, f2, fun _ => s⟩)) (fun s => br_t rfl (h0 (fun z => s (z.2.2 t0)))))
    by_cases t0 : zp_tA K n w k = 0
    · rw [t0]
      exact br_t rfl (F54 (fun z => absurd t0 z))
    · have t3 := zt_A3 (K := K) (n := n) (w := w) k
      exact br_f (nI_ne0 (by omega) (by omega)) (x_seen hn hS t3 (zt_vA k) (fun s => br_f (by decide) (F54 (fun _ => s))) (fun s => br_t rfl (h0 (fun z => s (z.2.1 t0)))))
end
end
section
/-! choices as bits: pure reading and writing -/
def zb_lg (r : Nat) : Nat := if r < 2 then 0 else if r < 4 then 1 else if r < 8 then 2 else if r < 16 then 3 else 4
def zb_u (r : Nat) : Nat := 2 ^ (zb_lg r + 1) - r
def zb_ps (b : Int32) (s : (Nat → Int32) × Nat) : (Nat → Int32) × Nat := if s.2 < 256 then (upd s.1 s.2 b, s.2 + 1) else s
def zb_wb (x : Nat) : Nat → (Nat → Int32) × Nat → (Nat → Int32) × Nat
  | 0, s => s
  | j + 1, s => zb_wb x j (zb_ps (nI (x / 2 ^ j % 2)) s)
def zb_wr (r c : Nat) (s : (Nat → Int32) × Nat) : (Nat → Int32) × Nat := if c < zb_u r then zb_wb c (zb_lg r) s else zb_wb (c + zb_u r) (zb_lg r + 1) s
def zb_bit (bf : Nat → Int32) (nb ps : Nat) : Nat := if ps < nb then (if bf ps = 0 then 0 else 1) else 0
def zb_np (nb ps : Nat) : Nat := if ps < nb then ps + 1 else ps
def zb_rk (bf : Nat → Int32) (nb : Nat) : Nat → Nat → Nat → Nat × Nat
  | 0, x, ps => (x, ps)
  | j + 1, x, ps => zb_rk bf nb j (2 * x + zb_bit bf nb ps) (zb_np nb ps)
def zb_rd (bf : Nat → Int32) (nb r ps : Nat) : Nat × Nat :=
  if (zb_rk bf nb (zb_lg r) 0 ps).1 < zb_u r then zb_rk bf nb (zb_lg r) 0 ps
  else (2 * (zb_rk bf nb (zb_lg r) 0 ps).1 + zb_bit bf nb (zb_rk bf nb (zb_lg r) 0 ps).2 - zb_u r, zb_np nb (zb_rk bf nb (zb_lg r) 0 ps).2)
theorem zb_lg4 (r : Nat) : zb_lg r ≤ 4 := by
  unfold zb_lg
  by_cases a : r < 2
  · rw [if_pos a]; omega
  rw [if_neg a]
  by_cases b : r < 4
  · rw [if_pos b]; omega
  rw [if_neg b]
  by_cases c : r < 8
  · rw [if_pos c]; omega
  rw [if_neg c]
  by_cases d : r < 16
  · rw [if_pos d]; omega
  rw [if_neg d]; omega
theorem zb_lgb {r : Nat} (h1 : 1 ≤ r) (h : r < 32) : 2 ^ zb_lg r ≤ r ∧ r < 2 ^ (zb_lg r + 1) := by
  unfold zb_lg
  by_cases a : r < 2
  · rw [if_pos a]; omega
  rw [if_neg a]
  by_cases b : r < 4
  · rw [if_pos b]; omega
  rw [if_neg b]
  by_cases c : r < 8
  · rw [if_pos c]; omega
  rw [if_neg c]
  by_cases d : r < 16
  · rw [if_pos d]; omega
  rw [if_neg d]; omega
theorem zb_lgu {r : Nat} (h : r < 32) : r < 2 ^ (zb_lg r + 1) := by
  rcases Nat.eq_zero_or_pos r with z | z
  · subst z; decide
  · exact (zb_lgb z h).2
theorem zb_u32 (r : Nat) : zb_u r ≤ 32 := by
  unfold zb_u
  have a := zb_lg4 r
  have : 2 ^ (zb_lg r + 1) ≤ 2 ^ 5 := Nat.pow_le_pow_right (by omega) (by omega)
  omega
theorem zb_bit1 (bf : Nat → Int32) (nb ps : Nat) : zb_bit bf nb ps ≤ 1 := by
  unfold zb_bit
  by_cases h : ps < nb
  · rw [if_pos h]
    by_cases g : bf ps = 0
    · rw [if_pos g]; omega
    · rw [if_neg g]; omega
  · rw [if_neg h]; omega
theorem zb_npb {nb ps M : Nat} (h1 : nb ≤ M) (h2 : ps ≤ M) : zb_np nb ps ≤ M := by
  unfold zb_np
  by_cases h : ps < nb
  · rw [if_pos h]; omega
  · rw [if_neg h]; exact h2
theorem zb_rkb {bf : Nat → Int32} {nb M : Nat} (hM : nb ≤ M) : ∀ j i x ps, x < 2 ^ i → ps ≤ M → (zb_rk bf nb j x ps).1 < 2 ^ (i + j) ∧ (zb_rk bf nb j x ps).2 ≤ M := by
  intro j
  induction j with
  | zero => intro i x ps hx hp; exact ⟨hx, hp⟩
  | succ j ih =>
    intro i x ps hx hp
    have b := zb_bit1 bf nb ps
    have := ih (i + 1) (2 * x + zb_bit bf nb ps) (zb_np nb ps) (by rw [Nat.pow_succ]; omega) (zb_npb hM hp)
    rw [show i + (j + 1) = i + 1 + j from by omega]
    exact this
theorem zb_rdb {bf : Nat → Int32} {nb M r ps : Nat} (hM : nb ≤ M) (hp : ps ≤ M) (h1 : 1 ≤ r) (h : r < 32) : (zb_rd bf nb r ps).1 < r ∧ (zb_rd bf nb r ps).2 ≤ M := by
  have a := zb_lgb h1 h
  have k := zb_rkb (bf := bf) hM (zb_lg r) 0 0 ps (by decide) hp
  rw [Nat.zero_add] at k
  have b := zb_bit1 bf nb (zb_rk bf nb (zb_lg r) 0 ps).2
  unfold zb_rd
  by_cases c : (zb_rk bf nb (zb_lg r) 0 ps).1 < zb_u r
  · rw [if_pos c]
    exact ⟨by omega, k.2⟩
  · rw [if_neg c]
    refine ⟨?_, zb_npb hM k.2⟩
    show 2 * (zb_rk bf nb (zb_lg r) 0 ps).1 + zb_bit bf nb (zb_rk bf nb (zb_lg r) 0 ps).2 - zb_u r < r
    unfold zb_u at c ⊢
    have : 2 ^ (zb_lg r + 1) = 2 * 2 ^ zb_lg r := by rw [Nat.pow_succ]; omega
    omega
theorem zb_psb {b : Int32} {s : (Nat → Int32) × Nat} (h : s.2 ≤ 256) : (zb_ps b s).2 ≤ 256 := by
  unfold zb_ps
  by_cases c : s.2 < 256
  · rw [if_pos c]; exact c
  · rw [if_neg c]; exact h
theorem zb_wbb {x : Nat} : ∀ j s, s.2 ≤ 256 → (zb_wb x j s).2 ≤ 256 := by
  intro j
  induction j with
  | zero => intro s h; exact h
  | succ j ih => intro s h; exact ih _ (zb_psb h)
theorem zb_wrb {r c : Nat} {s : (Nat → Int32) × Nat} (h : s.2 ≤ 256) : (zb_wr r c s).2 ≤ 256 := by
  unfold zb_wr
  by_cases a : c < zb_u r
  · rw [if_pos a]; exact zb_wbb _ _ h
  · rw [if_neg a]; exact zb_wbb _ _ h
theorem zb_sh2 : ∀ i, i < 6 → (2 : Int32) <<< (nI i &&& 31) = nI (2 ^ (i + 1)) := by decide +kernel
theorem zb_sh1 : ∀ i, i < 6 → (1 : Int32) <<< (nI i &&& 31) = nI (2 ^ i) := by decide +kernel
theorem zb_mod2 {x j : Nat} : nI (x / 2 ^ j % 2) = 0 ∨ nI (x / 2 ^ j % 2) = 1 := by
  rcases Nat.mod_two_eq_zero_or_one (x / 2 ^ j) with h | h <;> rw [h]
  · exact Or.inl rfl
  · exact Or.inr rfl
theorem zb_ub {x j : Nat} (hx : x < 2 ^ 31) (hj : j < 32) : (((nI x).toUInt32 >>> ((nI j).toUInt32 &&& Int32.toUInt32 31)).toInt32) &&& 1 = nI (x / 2 ^ j % 2) := by
  rw [pk_ushrN (by omega) (nI j) j (s_u j hj), pk_andN (Nat.lt_of_le_of_lt (Nat.div_le_self _ _) (by omega)) 1 (by decide)]
theorem zb_sb {x j : Nat} (hx : x < 2 ^ 31) (hj : j < 32) : (nI x >>> (nI j &&& 31)) &&& 1 = nI (x / 2 ^ j % 2) := by
  rw [pk_shrN hx (nI j &&& 31) j (s_l j hj), pk_andN (Nat.lt_of_le_of_lt (Nat.div_le_self _ _) (by omega)) 1 (by decide)]
/-- legal kinds by number -/
def zb_kl (K : Nat → Int32) (C n : Nat) (w : Option Nat) (l : Nat) : List Nat := (List.range l).filter (fun i => zp_lg K C n w (nI i))
def zb_pk (K : Nat → Int32) (n t p : Nat) (bf : Nat → Int32) (nb ps : Nat) : Int32 × Nat :=
  (oI ((zp_it K t (((zp_ct K n t p)[(zb_rd bf nb (zp_ct K n t p).length ps).1]?).getD 0) n)[(zb_rd bf nb (zp_it K t (((zp_ct K n t p)[(zb_rd bf nb (zp_ct K n t p).length ps).1]?).getD 0) n).length (zb_rd bf nb (zp_ct K n t p).length ps).2).1]?), (zb_rd bf nb (zp_it K t (((zp_ct K n t p)[(zb_rd bf nb (zp_ct K n t p).length ps).1]?).getD 0) n).length (zb_rd bf nb (zp_ct K n t p).length ps).2).2)
def zb_pa (K : Nat → Int32) (n : Nat) (w : Option Nat) (k : Int32) (bf : Nat → Int32) (nb ps : Nat) : Int32 × Nat :=
  if k = 1 then (nI (zb_rd bf nb 8 ps).1, (zb_rd bf nb 8 ps).2) else if zp_tA K n w k = 0 then (-1, ps) else zb_pk K n (zp_tA K n w k) (zp_vA K n k) bf nb ps
def zb_pb (K : Nat → Int32) (n : Nat) (k : Int32) (bf : Nat → Int32) (nb ps : Nat) : Int32 × Nat :=
  if zp_tB K n k = 0 then (-1, ps) else zb_pk K n (zp_tB K n k) (zp_vB K n k) bf nb ps
def zb_wo (K : Nat → Int32) (n t p v : Nat) (s : (Nat → Int32) × Nat) : (Nat → Int32) × Nat :=
  zb_wr (zp_it K t (zp_bk K v) n).length (zp_it K t (zp_bk K v) v).length (zb_wr (zp_ct K n t p).length (zp_bi K n t p (zp_bk K v)) s)
def zb_w1 (K : Nat → Int32) (C n : Nat) (w : Option Nat) (k x : Int32) (s : (Nat → Int32) × Nat) : (Nat → Int32) × Nat :=
  if k = 1 then zb_wr 8 x.toNatClampNeg (zb_wr (zb_kl K C n w 11).length (zb_kl K C n w k.toNatClampNeg).length s) else zb_wr (zb_kl K C n w 11).length (zb_kl K C n w k.toNatClampNeg).length s
def zb_w2 (K : Nat → Int32) (n : Nat) (w : Option Nat) (k x : Int32) (s : (Nat → Int32) × Nat) : (Nat → Int32) × Nat :=
  if zp_tA K n w k = 0 then s else zb_wo K n (zp_tA K n w k) (zp_vA K n k) x.toNatClampNeg s
def zb_w3 (K : Nat → Int32) (n : Nat) (k y : Int32) (s : (Nat → Int32) × Nat) : (Nat → Int32) × Nat :=
  if zp_tB K n k = 0 then s else zb_wo K n (zp_tB K n k) (zp_vB K n k) y.toNatClampNeg s
def zb_cw (K : Nat → Int32) (C n : Nat) (w : Option Nat) (k x y : Int32) (s : (Nat → Int32) × Nat) : (Nat → Int32) × Nat := zb_w3 K n k y (zb_w2 K n w k x (zb_w1 K C n w k x s))
section
variable {K A B : Nat → Int32} {P C n : Nat} {w : Option Nat} {k x y : Int32} {bf : Nat → Int32} {nb : Nat}
theorem zb_kl_len (l : Nat) : (zb_kl K C n w l).length ≤ l := by
  have := List.length_filter_le (fun i => zp_lg K C n w (nI i)) (List.range l)
  rw [List.length_range] at this
  exact this
theorem zb_kl_mono {l m : Nat} (h : l ≤ m) : (zb_kl K C n w l).length ≤ (zb_kl K C n w m).length := by
  induction m with
  | zero => have : l = 0 := by omega
            subst this; exact Nat.le_refl _
  | succ m ih =>
    rcases Nat.lt_or_ge m l with z | z
    · have : l = m + 1 := by omega
      subst this; exact Nat.le_refl _
    · refine Nat.le_trans (ih z) ?_
      unfold zb_kl
      rw [List.range_succ, List.filter_append, List.length_append]
      exact Nat.le_add_right _ _
theorem zb_kl_pos (hf : zp_fi K n = false) : 1 ≤ (zb_kl K C n w 11).length := by
  have : ∃ i, i < 11 ∧ zp_lg K C n w (nI i) = true := by
    cases w with
    | none => exact ⟨0, by omega, zg_0.mpr hf⟩
    | some m => exact ⟨10, by omega, zg_s.mpr ⟨hf, rfl⟩⟩
  obtain ⟨i, hi, hl⟩ := this
  exact List.length_pos_of_mem (List.mem_filter.mpr ⟨List.mem_range.mpr hi, hl⟩)
theorem zb_kl_at {c : Nat} (h : c < (zb_kl K C n w 11).length) : ∃ i, (zb_kl K C n w 11)[c]? = some i ∧ i < 11 ∧ zp_lg K C n w (nI i) = true := by
  have e : (zb_kl K C n w 11)[c]? = some ((zb_kl K C n w 11)[c]) := List.getElem?_eq_getElem h
  have m := List.mem_filter.mp (List.mem_of_getElem? e)
  exact ⟨_, e, List.mem_range.mp m.1, m.2⟩
/-- a legal kind finds its operands -/
theorem zb_ok (I : zp_I P C n w K A B) (hl : zp_lg K C n w k = true) : (zp_tA K n w k ≠ 0 → zp_ct K n (zp_tA K n w k) (zp_vA K n k) ≠ []) ∧ (zp_tB K n k ≠ 0 → zp_ct K n (zp_tB K n k) (zp_vB K n k) ≠ []) := by
  cases w with
  | some m =>
    have e := (zg_s.mp hl).2
    subst e
    obtain ⟨o, a1, a2, a3, a4, a5, a6, a7, a8, a9⟩ := zi_og I
    have eB : zp_tB K n 10 = 0 := zt_Be (by decide) (fun z => absurd z.1 (by decide))
    refine ⟨fun _ => ?_, fun z => absurd eB z⟩
    have q := ((I.2.2.2.2.2.2.1 m o a2 a4 a1).1 a9).1
    rw [zt_A10, show zp_vA K n 10 = n - 1 from rfl]
    exact zp_ct_up a8 (zp_ct_mono (by omega) q)
  | none =>
    by_cases k0 : k = 0
    · subst k0
      have eB : zp_tB K n 0 = 0 := zt_Be (by decide) (fun z => absurd z.1 (by decide))
      refine ⟨fun z => ?_, fun z => absurd eB z⟩
      rw [zt_A0] at z ⊢
      rw [zt_vA' (by decide) (by decide)]
      cases ht : zp_top K n with
      | none => rw [ht] at z; exact absurd rfl z
      | some o =>
        rw [ht] at z
        have ho := zp_top_lt ht
        have h7 : K o = 7 := Decidable.of_not_not (fun h7 => z (if_neg h7))
        show zp_ct K n (if K o = 7 then 2 else 0) n ≠ []
        rw [if_pos h7]
        exact zp_ct_up ht (zp_ct_mono (by omega) (I.2.2.2.2.2.1 o ho h7))
    · have kd := zs_kd hl
      by_cases hM : zp_M k
      · have z := zs_M hl hM
        rw [zt_AM hM, show zp_vA K n k = (zp_mA K n).getD n from if_pos hM, show zp_vB K n k = (zp_mB K n).getD n from if_pos hM]
        rcases zp_cls K n with c | ⟨o1, c1, c2, c3, c4, c5, _⟩ | ⟨s, o1, t, r, c1, c2, c3, c4, c5, c6, c7, c8, _⟩
        · exact absurd c.1 (of_decide_eq_true z.1).1
        · rw [c4, c5] at z
          rw [zt_Be (by rcases hM with e | e <;> rw [e] <;> decide) (fun z => z.2 c5), c4]
          exact ⟨fun _ => zp_vs_iff.mp z.2.1, fun q => absurd rfl q⟩
        · rw [c7, c8] at z
          rw [zt_BM hM (by rw [c8]; exact fun z => by cases z), c7, c8]
          exact ⟨fun _ => zp_vs_iff.mp z.2.1, fun _ => zp_vs_iff.mp z.2.2⟩
      · have n10 : ¬ k = 10 := fun z => by subst z; exact absurd kd (by decide)
        rw [zt_vA' hM n10, zt_vB' hM]
        by_cases k2 : k = 2 ∨ k = 3 ∨ k = 4
        · have v := zp_vs_iff.mp ((zg_2 k2).mp hl).2.2
          rw [zt_A1 (by rcases k2 with e | e | e <;> rw [e] <;> decide), zt_B1 k2]
          exact ⟨fun _ => v, fun _ => v⟩
        · have eB : zp_tB K n k = 0 := zt_Be k2 (fun z => hM z.1)
          refine ⟨fun z => ?_, fun z => absurd eB z⟩
          by_cases k5 : k = 5
          · subst k5
            rw [zt_A2 (by decide)]; exact zp_vs_iff.mp (zg_5.mp hl).2.2
          · by_cases k6 : k = 6
            · subst k6
              rw [zt_A2 (by decide)]; exact zp_vs_iff.mp (zg_6.mp hl).2.2.2
            · exact absurd (zt_Ae (by rintro (q | q | q | q); exact k2 (Or.inl q); exact k2 (Or.inr (Or.inl q)); exact k2 (Or.inr (Or.inr q)); exact hM (Or.inl q)) (by rintro (q | q | q); exact k5 q; exact k6 q; exact hM (Or.inr q)) k0 n10) z
/-- a picked operand is seen -/
theorem zb_pks {t p ps M : Nat} (hn : n ≤ 16) (hp : p ≤ n) (hM : nb ≤ M) (hps : ps ≤ M) (hc : zp_ct K n t p ≠ []) : zp_SN K n t p (zb_pk K n t p bf nb ps).1 ∧ (zb_pk K n t p bf nb ps).2 ≤ M := by
  have l1 : 1 ≤ (zp_ct K n t p).length := List.length_pos_iff.mpr hc
  have l2 := zp_ct_len (K := K) n t p
  have l3 := zp_bk_le (K := K) p
  have r1 := zb_rdb (bf := bf) (r := (zp_ct K n t p).length) hM hps l1 (by omega)
  unfold zb_pk
  generalize zb_rd bf nb (zp_ct K n t p).length ps = c at r1 ⊢
  have e1 : (zp_ct K n t p)[c.1]? = some ((zp_ct K n t p)[c.1]) := List.getElem?_eq_getElem r1.1
  rw [e1]
  have m1 := zp_ct_mem.mp (List.mem_of_getElem? e1)
  show zp_SN K n t p (oI ((zp_it K t ((zp_ct K n t p)[c.1]) n)[(zb_rd bf nb (zp_it K t ((zp_ct K n t p)[c.1]) n).length c.2).1]?)) ∧ (zb_rd bf nb (zp_it K t ((zp_ct K n t p)[c.1]) n).length c.2).2 ≤ M
  generalize (zp_ct K n t p)[c.1] = b at m1 ⊢
  have l4 : 1 ≤ (zp_it K t b n).length := List.length_pos_iff.mpr m1.2
  have l5 := zp_it_len (K := K) t b n
  have r2 := zb_rdb (bf := bf) (r := (zp_it K t b n).length) hM r1.2 l4 (by omega)
  refine ⟨?_, r2.2⟩
  have e2 : (zp_it K t b n)[(zb_rd bf nb (zp_it K t b n).length c.2).1]? = some ((zp_it K t b n)[(zb_rd bf nb (zp_it K t b n).length c.2).1]'r2.1) := List.getElem?_eq_getElem r2.1
  rw [e2]
  have m2 := zp_it_mem.mp (List.mem_of_getElem? e2)
  exact ⟨_, m2.1, rfl, m2.2.2, by rw [m2.2.1]; exact m1.1⟩
theorem zb_paF {ps M : Nat} (I : zp_I P C n w K A B) (hl : zp_lg K C n w k = true) (hM : nb ≤ M) (hps : ps ≤ M) : (k = 1 → ∃ j, j ≤ 7 ∧ (zb_pa K n w k bf nb ps).1 = nI j) ∧ (zp_tA K n w k ≠ 0 → zp_SN K n (zp_tA K n w k) (zp_vA K n k) (zb_pa K n w k bf nb ps).1) ∧ (zb_pa K n w k bf nb ps).2 ≤ M := by
  have hn := zi_16 I
  unfold zb_pa
  by_cases k1 : k = 1
  · subst k1
    have r := zb_rdb (bf := bf) (r := 8) hM hps (by omega) (by omega)
    rw [if_pos rfl]
    exact ⟨fun _ => ⟨_, by omega, rfl⟩, fun z => absurd (zt_Ae (by decide) (by decide) (by decide) (by decide)) z, r.2⟩
  · rw [if_neg k1]
    by_cases t0 : zp_tA K n w k = 0
    · rw [if_pos t0]
      exact ⟨fun z => absurd z k1, fun z => absurd t0 z, hps⟩
    · rw [if_neg t0]
      have := zb_pks (bf := bf) hn (zt_vA k) hM hps ((zb_ok I hl).1 t0)
      exact ⟨fun z => absurd z k1, fun _ => this.1, this.2⟩
theorem zb_pbF {ps M : Nat} (I : zp_I P C n w K A B) (hl : zp_lg K C n w k = true) (hM : nb ≤ M) (hps : ps ≤ M) : (zp_tB K n k ≠ 0 → zp_SN K n (zp_tB K n k) (zp_vB K n k) (zb_pb K n k bf nb ps).1) ∧ (zb_pb K n k bf nb ps).2 ≤ M := by
  have hn := zi_16 I
  unfold zb_pb
  by_cases t0 : zp_tB K n k = 0
  · rw [if_pos t0]
    exact ⟨fun z => absurd t0 z, hps⟩
  · rw [if_neg t0]
    have := zb_pks (bf := bf) hn (zt_vB k) hM hps ((zb_ok I hl).2 t0)
    exact ⟨fun _ => this.1, this.2⟩
end
end
section
/-! the component: bits out and in -/
theorem zb_n0 : vp_nar .boolean 0 = 0 := rfl
theorem zb_n1 : vp_nar .boolean 1 = 1 := rfl
section
variable {u0 u1 u2 fP fC fS fn cu dp ow aw nb ps : Int32} {K A B bo lk dm ma mb ji op bf va mr fr : Nat → Int32}
theorem x_short {post : Int32 → Prop} {tb : Int32} {tr : Nat → Int32} {r : Nat} (hr : r < 32) (h : post (nI (zb_lg r))) : wpX_shortBits post (u0, u1, u2, fP, fC, fS, fn, cu, dp, ow, aw, nb, ps, tb, K, A, B, bo, lk, dm, ma, mb, ji, op, bf, tr, va, mr, fr) (nI r) := by
  have go : ∀ d i, i < 5 → 2 ^ (i + 1) ≤ r → wX_shortBits_4 post (nI r) u0 u1 u2 fP fC fS fn cu dp ow aw nb ps tb K A B bo lk dm ma mb ji op bf tr va mr fr d (nI (i + 1)) (nI (i + 1)) → wX_shortBits_4 post (nI r) u0 u1 u2 fP fC fS fn cu dp ow aw nb ps tb K A B bo lk dm ma mb ji op bf tr va mr fr (d + 1) (nI i) (nI i) := by
    intro d i hi hr' hw
    refine br_f (nI_ge (b := 8) (by omega) (by omega)) ?_
    rw [zb_sh2 i (by omega)]
    exact br_f (nI_nlt hr' (by omega)) (nm_r (nI_1 i) (nm_r (nI_1 i) hw))
  have st : ∀ d i, i < 5 → r < 2 ^ (i + 1) → post (nI i) → wX_shortBits_4 post (nI r) u0 u1 u2 fP fC fS fn cu dp ow aw nb ps tb K A B bo lk dm ma mb ji op bf tr va mr fr (d + 1) (nI i) (nI i) := by
    intro d i hi hr' hw
    refine br_f (nI_ge (b := 8) (by omega) (by omega)) ?_
    rw [zb_sh2 i (by omega)]
    have : 2 ^ (i + 1) ≤ 2 ^ 5 := Nat.pow_le_pow_right (by omega) (by omega)
    exact br_t (nI_lt hr' (by omega)) hw
  refine Exists.intro 5 ?_
  unfold zb_lg at h
  by_cases a : r < 2
  · rw [if_pos a] at h; exact st 4 0 (by omega) a h
  rw [if_neg a] at h
  refine go 4 0 (by omega) (by omega) ?_
  by_cases b : r < 4
  · rw [if_pos b] at h; exact st 3 1 (by omega) b h
  rw [if_neg b] at h
  refine go 3 1 (by omega) (by omega) ?_
  by_cases c : r < 8
  · rw [if_pos c] at h; exact st 2 2 (by omega) c h
  rw [if_neg c] at h
  refine go 2 2 (by omega) (by omega) ?_
  by_cases e : r < 16
  · rw [if_pos e] at h; exact st 1 3 (by omega) e h
  rw [if_neg e] at h
  refine go 1 3 (by omega) (by omega) ?_
  exact st 0 4 (by omega) hr h
theorem x_wbl {post : SX → Prop} {x : Nat} (hx : x < 2 ^ 31) : ∀ j tr tn, j < 32 → tn ≤ 256 → post (u0, u1, u2, fP, fC, fS, fn, cu, dp, ow, aw, nb, ps, nI (zb_wb x j (tr, tn)).2, K, A, B, bo, lk, dm, ma, mb, ji, op, bf, (zb_wb x j (tr, tn)).1, va, mr, fr) → wX_writeBits_4 post (nI x) u0 u1 u2 fP fC fS fn cu dp ow aw nb ps (j + 1) (nI j - 1) (nI tn) K A B bo lk dm ma mb ji op bf tr va mr fr := by
  intro j
  induction j with
  | zero => intro tr tn _ _ h; exact br_t (by decide) h
  | succ j ih =>
    intro tr tn hj htn h
    have h' : post (u0, u1, u2, fP, fC, fS, fn, cu, dp, ow, aw, nb, ps, nI (zb_wb x j (zb_ps (nI (x / 2 ^ j % 2)) (tr, tn))).2, K, A, B, bo, lk, dm, ma, mb, ji, op, bf, (zb_wb x j (zb_ps (nI (x / 2 ^ j % 2)) (tr, tn))).1, va, mr, fr) := h
    rw [nI_pred]
    refine br_f (nI_pos (by omega)) (pk_le 256 tn (fun z => ?_) (fun z => ?_) rfl rfl (by omega) (by omega))
    · rw [show zb_ps (nI (x / 2 ^ j % 2)) (tr, tn) = (tr, tn) from if_neg (by show ¬ tn < 256; omega)] at h'
      exact nm_r (zp_m1s _) (ih tr tn (by omega) htn h')
    · rw [show zb_ps (nI (x / 2 ^ j % 2)) (tr, tn) = (upd tr tn (nI (x / 2 ^ j % 2)), tn + 1) from if_pos z] at h'
      rw [zb_ub hx (by omega)]
      have go : ∀ b : Int32, nI (x / 2 ^ j % 2) = b → vp_nar .boolean b = b → wX_writeBits_40 post (wX_writeBits_4 post (nI x) u0 u1 u2 fP fC fS fn cu dp ow aw nb ps (j + 1)) (nI x) (nI j) b (nI tn) u0 u1 u2 fP fC fS fn cu dp ow aw nb ps (nI tn) K A B bo lk dm ma mb ji op bf tr va mr fr := by
        intro b hb hv
        refine And.intro (vp_in_nI z (by omega)) ?_
        rw [nI_clamp (by omega), hv]
        rw [hb] at h'
        exact nm_e (nm_r (nI_1 tn) (nm_r (zp_m1s _) (ih (upd tr tn b) (tn + 1) (by omega) (by omega) h')))
      rcases zb_mod2 (x := x) (j := j) with e | e
      · rw [e]; exact br_f (by decide) (go 0 e zb_n0)
      · rw [e]; exact br_t rfl (go 1 e zb_n1)
theorem x_wbits {post : SX → Prop} {x j tn : Nat} {tr : Nat → Int32} (hx : x < 2 ^ 31) (hj : j < 32) (ht : tn ≤ 256) (h : post (u0, u1, u2, fP, fC, fS, fn, cu, dp, ow, aw, nb, ps, nI (zb_wb x j (tr, tn)).2, K, A, B, bo, lk, dm, ma, mb, ji, op, bf, (zb_wb x j (tr, tn)).1, va, mr, fr)) : wpX_writeBits post (u0, u1, u2, fP, fC, fS, fn, cu, dp, ow, aw, nb, ps, nI tn, K, A, B, bo, lk, dm, ma, mb, ji, op, bf, tr, va, mr, fr) (nI x) (nI j) :=
  nm_e ⟨j + 1, x_wbl hx j tr tn hj ht h⟩
theorem x_write {post : SX → Prop} {r c tn : Nat} {tr : Nat → Int32} (hr : r < 32) (hc : c < 32) (ht : tn ≤ 256) (h : post (u0, u1, u2, fP, fC, fS, fn, cu, dp, ow, aw, nb, ps, nI (zb_wr r c (tr, tn)).2, K, A, B, bo, lk, dm, ma, mb, ji, op, bf, (zb_wr r c (tr, tn)).1, va, mr, fr)) : wpX_write post (u0, u1, u2, fP, fC, fS, fn, cu, dp, ow, aw, nb, ps, nI tn, K, A, B, bo, lk, dm, ma, mb, ji, op, bf, tr, va, mr, fr) (nI r) (nI c) := by
  have l4 := zb_lg4 r
  have lu := zb_lgu hr
  have u32 := zb_u32 r
  have e : (2 : Int32) <<< (nI (zb_lg r) &&& 31) - nI r = nI (zb_u r) := by
    rw [zb_sh2 _ (by omega), pk_sub (by omega)]; rfl
  unfold wpX_write
  dsimp only
  refine x_short hr (nm_r e (pk_le (zb_u r) c (fun z => ?_) (fun z => ?_) rfl rfl (by omega) (by omega)))
  · rw [nI_add, nI_1]
    unfold zb_wr at h
    rw [if_neg (by omega)] at h
    exact x_wbits (by omega) (by omega) ht h
  · unfold zb_wr at h
    rw [if_pos z] at h
    exact x_wbits (by omega) (by omega) ht h
end
section
variable {u0 u1 u2 fP fC fS fn cu dp ow aw tb : Int32} {K A B bo lk dm ma mb ji op bf tr va mr fr : Nat → Int32} {bn : Nat} {post : Int32 → SX → Prop}
theorem x_rbit {rp : Nat} (hb : bn ≤ 256) (hp : rp ≤ 256) (h : post (nI (zb_bit bf bn rp)) (u0, u1, u2, fP, fC, fS, fn, cu, dp, ow, aw, nI bn, nI (zb_np bn rp), tb, K, A, B, bo, lk, dm, ma, mb, ji, op, bf, tr, va, mr, fr)) : wpX_readBit post (u0, u1, u2, fP, fC, fS, fn, cu, dp, ow, aw, nI bn, nI rp, tb, K, A, B, bo, lk, dm, ma, mb, ji, op, bf, tr, va, mr, fr) := by
  unfold zb_bit zb_np at h
  refine pk_lt rp bn (fun z => ⟨vp_in_nI (by omega) (by omega), ?_⟩) (fun z => ?_) rfl rfl (by omega) (by omega)
  · rw [nI_clamp (by omega)]
    rw [if_pos z, if_pos z] at h
    by_cases g : bf rp = 0
    · rw [if_pos g] at h
      exact br_t g (nm_r (nI_1 rp) h)
    · rw [if_neg g] at h
      exact br_f g (nm_r (nI_1 rp) h)
  · rw [if_neg (by omega), if_neg (by omega)] at h
    exact h
theorem x_rdl {u k : Nat} (hb : bn ≤ 256) (hk : k ≤ 4) (hu : u ≤ 32) : ∀ j i x rp, i + j = k → x < 2 ^ i → rp ≤ 256 → ((zb_rk bf bn j x rp).1 < u → post (nI (zb_rk bf bn j x rp).1) (u0, u1, u2, fP, fC, fS, fn, cu, dp, ow, aw, nI bn, nI (zb_rk bf bn j x rp).2, tb, K, A, B, bo, lk, dm, ma, mb, ji, op, bf, tr, va, mr, fr)) → (¬ (zb_rk bf bn j x rp).1 < u → post (nI (2 * (zb_rk bf bn j x rp).1 + zb_bit bf bn (zb_rk bf bn j x rp).2 - u)) (u0, u1, u2, fP, fC, fS, fn, cu, dp, ow, aw, nI bn, nI (zb_np bn (zb_rk bf bn j x rp).2), tb, K, A, B, bo, lk, dm, ma, mb, ji, op, bf, tr, va, mr, fr)) → wX_read_18 post (nI k) (nI u) (j + 1) (nI x) (nI i) u0 u1 u2 fP fC fS fn cu dp ow aw (nI bn) (nI rp) tb K A B bo lk dm ma mb ji op bf tr va mr fr := by
  have dbl : ∀ x b, (2 : Int32) * nI x + nI b = nI (2 * x + b) := fun x b => by
    rw [show (2 : Int32) = nI 2 from rfl, pk_mul, nI_add]
  intro j
  induction j with
  | zero =>
    intro i x rp hi hx hp h1 h2
    have x16 : 2 ^ i ≤ 2 ^ 4 := Nat.pow_le_pow_right (by omega) (by omega)
    refine br_t (nI_le (by omega) (by omega)) (pk_le u x (fun z => ?_) (fun z => h1 z) rfl rfl (by omega) (by omega))
    refine x_rbit hb hp ?_
    rw [dbl, pk_sub (by omega)]
    exact h2 (by show ¬ x < u; omega)
  | succ j ih =>
    intro i x rp hi hx hp h1 h2
    have b1 := zb_bit1 bf bn rp
    refine br_f (nI_ge (by omega) (by omega)) (x_rbit hb hp ?_)
    refine nm_r (dbl _ _) (nm_r (nI_1 i) ?_)
    exact ih (i + 1) _ _ (by omega) (by rw [Nat.pow_succ]; omega) (zb_npb hb hp) h1 h2
theorem x_read {r rp : Nat} (hb : bn ≤ 256) (hp : rp ≤ 256) (hr : r < 32) (h : post (nI (zb_rd bf bn r rp).1) (u0, u1, u2, fP, fC, fS, fn, cu, dp, ow, aw, nI bn, nI (zb_rd bf bn r rp).2, tb, K, A, B, bo, lk, dm, ma, mb, ji, op, bf, tr, va, mr, fr)) : wpX_read post (u0, u1, u2, fP, fC, fS, fn, cu, dp, ow, aw, nI bn, nI rp, tb, K, A, B, bo, lk, dm, ma, mb, ji, op, bf, tr, va, mr, fr) (nI r) := by
  have l4 := zb_lg4 r
  have lu := zb_lgu hr
  have u32 := zb_u32 r
  have e : (2 : Int32) <<< (nI (zb_lg r) &&& 31) - nI r = nI (zb_u r) := by
    rw [zb_sh2 _ (by omega), pk_sub (by omega)]; rfl
  unfold wpX_read
  dsimp only
  refine x_short hr (nm_r e ⟨zb_lg r + 1, ?_⟩)
  refine x_rdl hb l4 u32 (zb_lg r) 0 0 rp (by omega) (by decide) hp (fun z => ?_) (fun z => ?_)
  · unfold zb_rd at h
    rw [if_pos z] at h; exact h
  · unfold zb_rd at h
    rw [if_neg z] at h; exact h
end
section
variable {u0 u1 u2 fP fS nb ps : Int32} {K A B bo lk dm ma mb ji op bf va mr fr : Nat → Int32} {P C n : Nat} {w : Option Nat}
theorem x_legB {post : Int32 → Prop} {tb : Int32} {tr : Nat → Int32} {l : Nat} (I : zp_I P C n w K A B) (hf : zp_fi K n = false) (hS : zx_S n n K bo lk dm ma mb ji op) (hl : l ≤ 11) (h : post (nI (zb_kl K C n w l).length)) : wpX_legalBefore post (u0, u1, u2, fP, nI C, fS, nI n, nI (zp_bk K n), nI (zp_sk K n).length, nI (zp_ow K n), oI w, nb, ps, tb, K, A, B, bo, lk, dm, ma, mb, ji, op, bf, tr, va, mr, fr) (nI l) := by
  refine Exists.intro (l + 1) ?_
  refine ll_c (W := fun d c i => wX_legalBefore_4 post (nI l) u0 u1 u2 fP (nI C) fS (nI n) (nI (zp_bk K n)) (nI (zp_sk K n).length) (nI (zp_ow K n)) (oI w) nb ps tb K A B bo lk dm ma mb ji op bf tr va mr fr d c i) (p := fun i => zp_lg K C n w (nI i)) (R := fun c => post (nI c)) ?_ ?_ ?_ h
  · intro d c hr
    exact br_t (nI_le (Nat.le_refl _) (by omega)) hr
  · intro d c i hi hp hr
    refine br_f (nI_ge hi (by omega)) (br_f (nI_ge (b := 11) (by omega) (by omega)) (x_legal I hf hS (fun _ => br_f (by decide) ?_) (fun z => by rw [hp] at z; cases z)))
    exact nm_r (nI_1 c) (nm_r (nI_1 i) hr)
  · intro d c i hi hp hr
    refine br_f (nI_ge hi (by omega)) (br_f (nI_ge (b := 11) (by omega) (by omega)) (x_legal I hf hS (fun z => by rw [hp] at z; cases z) (fun _ => br_t rfl ?_)))
    exact nm_r (nI_1 i) hr
theorem x_legAt {post : Int32 → Prop} {tb : Int32} {tr : Nat → Int32} {c : Nat} (I : zp_I P C n w K A B) (hf : zp_fi K n = false) (hS : zx_S n n K bo lk dm ma mb ji op) (hc : c < 100) (h : post (nI (((zb_kl K C n w 11)[c]?).getD 0))) : wpX_legalAt post (u0, u1, u2, fP, nI C, fS, nI n, nI (zp_bk K n), nI (zp_sk K n).length, nI (zp_ow K n), oI w, nb, ps, tb, K, A, B, bo, lk, dm, ma, mb, ji, op, bf, tr, va, mr, fr) (nI c) := by
  refine Exists.intro (11 - 0 + 1) ?_
  refine ll_s (W := fun d c i => wX_legalAt_4 post u0 u1 u2 fP (nI C) fS (nI n) (nI (zp_bk K n)) (nI (zp_sk K n).length) (nI (zp_ow K n)) (oI w) nb ps tb K A B bo lk dm ma mb ji op bf tr va mr fr d c i) (n := 11) (p := fun i => zp_lg K C n w (nI i)) (R := fun r => post (nI (r.getD 0))) c 0 (fun j hj => by omega) (by omega) ?_ ?_ ?_ ?_ h
  · intro d c hr
    exact br_t (nI_le (Nat.le_refl _) (by omega)) hr
  · intro d i hi hp hr
    exact br_f (nI_ge (b := 11) (by omega) (by omega)) (x_legal I hf hS (fun _ => br_f (by decide) (br_t rfl hr)) (fun z => by rw [hp] at z; cases z))
  · intro d c i hc' hi hp hr
    refine br_f (nI_ge (b := 11) (by omega) (by omega)) (x_legal I hf hS (fun _ => br_f (by decide) (br_f (nI_ne0 (by omega) (by omega)) ?_)) (fun z => by rw [hp] at z; cases z))
    exact nm_r (pk_m1 c) (nm_r (nI_1 i) hr)
  · intro d c i _ hi hp hr
    refine br_f (nI_ge (b := 11) (by omega) (by omega)) (x_legal I hf hS (fun z => by rw [hp] at z; cases z) (fun _ => br_t rfl ?_))
    exact nm_r (nI_1 i) hr
theorem x_wkind {post : SX → Prop} {tn kk : Nat} {tr : Nat → Int32} (I : zp_I P C n w K A B) (hf : zp_fi K n = false) (hS : zx_S n n K bo lk dm ma mb ji op) (hk : kk ≤ 11) (ht : tn ≤ 256) (h : post (u0, u1, u2, fP, nI C, fS, nI n, nI (zp_bk K n), nI (zp_sk K n).length, nI (zp_ow K n), oI w, nb, ps, nI (zb_wr (zb_kl K C n w 11).length (zb_kl K C n w kk).length (tr, tn)).2, K, A, B, bo, lk, dm, ma, mb, ji, op, bf, (zb_wr (zb_kl K C n w 11).length (zb_kl K C n w kk).length (tr, tn)).1, va, mr, fr)) : wpX_writeKind post (u0, u1, u2, fP, nI C, fS, nI n, nI (zp_bk K n), nI (zp_sk K n).length, nI (zp_ow K n), oI w, nb, ps, nI tn, K, A, B, bo, lk, dm, ma, mb, ji, op, bf, tr, va, mr, fr) (nI kk) := by
  unfold wpX_writeKind
  dsimp only
  have l1 := zb_kl_len (K := K) (C := C) (n := n) (w := w) 11
  have l2 := zb_kl_len (K := K) (C := C) (n := n) (w := w) kk
  exact x_legB (l := 11) I hf hS (by omega) (x_legB I hf hS hk (x_write (by omega) (by omega) ht h))
theorem x_wop {post : SX → Prop} {tn t p v : Nat} {tr : Nat → Int32} (I : zp_I P C n w K A B) (hS : zx_S n n K bo lk dm ma mb ji op) (ht : t ≤ 2) (hp : p ≤ n) (hv : v < n) (hm : zp_bk K v ∈ zp_ch K p) (hty : zp_ty (K v) = t) (htn : tn ≤ 256) (h : post (u0, u1, u2, fP, nI C, fS, nI n, nI (zp_bk K n), nI (zp_sk K n).length, nI (zp_ow K n), oI w, nb, ps, nI (zb_wo K n t p v (tr, tn)).2, K, A, B, bo, lk, dm, ma, mb, ji, op, bf, (zb_wo K n t p v (tr, tn)).1, va, mr, fr)) : wpX_writeOperand post (u0, u1, u2, fP, nI C, fS, nI n, nI (zp_bk K n), nI (zp_sk K n).length, nI (zp_ow K n), oI w, nb, ps, nI tn, K, A, B, bo, lk, dm, ma, mb, ji, op, bf, tr, va, mr, fr) (nI (zp_bk K p)) (nI t) (nI v) := by
  have hn := zi_16 I
  have b1 := zp_bk_le (K := K) v
  have b2 := zp_bk_le (K := K) p
  have l1 := zp_ct_len (K := K) n t p
  have mem : zp_bk K v ∈ zp_ct K n t p := zp_ct_mem.mpr ⟨hm, List.ne_nil_of_mem (zp_it_mem.mpr ⟨hv, rfl, hty⟩)⟩
  have l2 := (zp_bi_at mem).2
  have l3 := zp_it_len (K := K) t (zp_bk K v) n
  have l4 := zp_it_len (K := K) t (zp_bk K v) v
  have s2 : (zb_wr (zp_ct K n t p).length (zp_bi K n t p (zp_bk K v)) (tr, tn)).2 ≤ 256 := zb_wrb htn
  refine And.intro (vp_in_nI (by omega) (by omega)) ?_
  rw [nI_clamp (by omega), hS.1 v hv]
  refine nm_e (x_blocks hn hS ht hp (x_blocksS hn hS ht hp (by omega) (x_write (by omega) (by omega) htn ?_)))
  refine x_items hn (Nat.le_refl _) hS.1 ht (by omega) (x_items hn (by omega) hS.1 ht (by omega) ?_)
  exact x_write (by omega) (by omega) s2 h
end
end
section
/-! the component's arrays after an appended item -/
def zx_cp (K : Nat → Int32) (n : Nat) : Nat := if zp_fi K n = true then n - 1 else n
theorem zx_cpf {K : Nat → Int32} {n : Nat} (h : zp_fi K n = false) : zx_cp K n = n := by unfold zx_cp; rw [h]; rfl
theorem zx_cpt {K : Nat → Int32} {n : Nat} (h : zp_fi K n = true) : zx_cp K n = n - 1 := by unfold zx_cp; rw [h]; rfl
theorem zx_opu {op : Nat → Int32} {x : Int32} : ∀ (l : List (Nat × Nat)) (m : Nat), l.length ≤ m → zx_op op l → zx_op (upd op m x) l := by
  intro l
  induction l with
  | nil => intro _ _ _; exact trivial
  | cons e r ih =>
    intro m hm h
    obtain ⟨o, t⟩ := e
    rw [List.length_cons] at hm
    exact ⟨by rw [pk_un (by omega)]; exact h.1, ih m (by omega) h.2⟩
section
variable {K bo lk dm ma mb ji op : Nat → Int32} {n : Nat} {k : Int32}
theorem zx_nx {K' : Nat → Int32} {p : Nat} (h : ∀ j, j < p → K' j = K j) : zp_nx K' p = zp_nx K p := by
  unfold zp_nx
  rw [ze_dq h]
  cases hd : zp_dq K p with
  | none => rfl
  | some q =>
    have := (zp_dq_lt hd).1
    show nI (zp_bk K' q) = nI (zp_bk K q)
    rw [ze_bk q (fun j hj => h j (by omega))]
theorem zx_mp {K' : Nat → Int32} {p : Nat} (h : ∀ j, j < p → K' j = K j) : (zp_mA K' p).map (zp_bk K') = (zp_mA K p).map (zp_bk K) ∧ (zp_mB K' p).map (zp_bk K') = (zp_mB K p).map (zp_bk K) ∧ zp_jf K' p = zp_jf K p := by
  rw [ze_mA h, ze_mB h, ze_jf h]
  refine ⟨?_, ?_, rfl⟩
  · cases hd : zp_mA K p with
    | none => rfl
    | some q =>
      have := zt_mle.1 hd
      show some (zp_bk K' q) = some (zp_bk K q)
      rw [ze_bk q (fun j hj => h j (by omega))]
  · cases hd : zp_mB K p with
    | none => rfl
    | some q =>
      have := zt_mle.2 hd
      show some (zp_bk K' q) = some (zp_bk K q)
      rw [ze_bk q (fun j hj => h j (by omega))]
/-- what does not change below the new item -/
theorem zx_low {dm' ma' mb' ji' : Nat → Int32} (hS : zx_S n n K bo lk dm ma mb ji op) (hd : ∀ b, b ≤ zp_bk K n → dm' b = dm b ∧ ma' b = ma b ∧ mb' b = mb b ∧ ji' b = ji b) : ∀ p, p ≤ n → dm' (zp_bk (upd K n k) p) = zp_nx (upd K n k) p ∧ ma' (zp_bk (upd K n k) p) = oI ((zp_mA (upd K n k) p).map (zp_bk (upd K n k))) ∧ mb' (zp_bk (upd K n k) p) = oI ((zp_mB (upd K n k) p).map (zp_bk (upd K n k))) ∧ ji' (zp_bk (upd K n k) p) = oI (zp_jf (upd K n k) p) := by
  intro p hp
  have E : ∀ j, j < p → upd K n k j = K j := ze_up hp
  have m := zx_mp E
  have b := hd (zp_bk K p) (zp_bk_mono hp)
  rw [ze_bk p E, zx_nx E, m.1, m.2.1, m.2.2, b.1, b.2.1, b.2.2.1, b.2.2.2]
  exact hS.2.1 p hp
theorem zx_bo (hS : zx_S n n K bo lk dm ma mb ji op) : ∀ i, i < n + 1 → upd bo n (nI (zp_bk K n)) i = nI (zp_bk (upd K n k) i) := by
  intro i hi
  rw [ze_bk i (ze_up (by omega))]
  rcases Nat.lt_or_ge i n with z | z
  · rw [pk_un (by omega)]; exact hS.1 i z
  · have : i = n := by omega
    subst this
    rw [pk_us]
theorem zx_acn (o : Nat) : zp_ac (upd K n k) o (n + 1) = zp_ac K o n ++ (if k = 0 ∧ zp_top K n = some o then [n] else []) := by
  have E : ∀ j, j < n → upd K n k j = K j := ze_up (Nat.le_refl _)
  rw [zp_ac_s, ze_ac n E, pk_us, ze_top E]
/-- the links of earlier items, if none of their ends is new -/
theorem zx_lkl {i : Nat} (hi : i < n) (h6 : K i = 6 → ¬ (k = 0 ∧ zp_top K n = some i)) (h0 : ∀ o, K i = 0 → zp_top K i = some o → K o = 6 → ¬ (k = 0 ∧ zp_top K n = some o)) : zx_lk (upd K n k) (n + 1) i = zx_lk K n i := by
  have E : ∀ j, j < n → upd K n k j = K j := ze_up (Nat.le_refl _)
  unfold zx_lk
  rw [E i hi]
  by_cases c6 : K i = 6
  · rw [if_pos c6, if_pos c6, zx_acn, if_neg (h6 c6), List.append_nil]
  · rw [if_neg c6, if_neg c6]
    by_cases c0 : K i = 0
    · rw [if_pos c0, if_pos c0, ze_top (fun j hj => E j (by omega)), ze_el (fun j hj => E j (by omega))]
      cases ht : zp_top K i with
      | none => rfl
      | some o =>
        have ho := zp_top_lt ht
        show (if upd K n k o = 7 then nI o else if zp_el K i = none then oI ((zp_ac (upd K n k) o (n + 1))[1]?) else -1) = (if K o = 7 then nI o else if zp_el K i = none then oI ((zp_ac K o n)[1]?) else -1)
        rw [E o (by omega)]
        by_cases c7 : K o = 7
        · rw [if_pos c7, if_pos c7]
        · rw [if_neg c7, if_neg c7]
          obtain ⟨t, r, hs⟩ := zp_top_s ht
          have h6' : K o = 6 := (zp_st i o t r hs).2.1.resolve_right c7
          rw [zx_acn, if_neg (h0 o c0 ht h6'), List.append_nil]
    · rw [if_neg c0, if_neg c0]
theorem zx_lkp (hS : zx_S n n K bo lk dm ma mb ji op) (h : ∀ o, ¬ (k = 0 ∧ zp_top K n = some o)) : ∀ i, i < n + 1 → upd lk n (-1) i = zx_lk (upd K n k) (n + 1) i := by
  have E : ∀ j, j < n → upd K n k j = K j := ze_up (Nat.le_refl _)
  intro i hi
  rcases Nat.lt_or_ge i n with z | z
  · rw [pk_un (by omega), zx_lkl z (fun _ => h i) (fun o _ _ _ => h o)]
    exact hS.2.2.2 i z
  · have : i = n := by omega
    subst this
    rw [pk_us]
    unfold zx_lk
    rw [pk_us]
    by_cases c6 : k = 6
    · rw [if_pos c6, zp_ac_lo]; rfl
    · rw [if_neg c6]
      by_cases c0 : k = 0
      · rw [if_pos c0, ze_top E]
        cases ht : zp_top K i with
        | none => rfl
        | some o => exact absurd ⟨c0, ht⟩ (h o)
      · rw [if_neg c0]
theorem zx_plain (hS : zx_S n n K bo lk dm ma mb ji op) (hk : ¬ zp_B k) : zx_S (n + 1) (n + 1) (upd K n k) (upd bo n (nI (zp_bk K n))) (upd lk n (-1)) dm ma mb ji op := by
  have E : ∀ j, j < n → upd K n k j = K j := ze_up (Nat.le_refl _)
  have nb : ¬ zp_B (upd K n k n) := by rw [pk_us]; exact hk
  have L := zx_low (k := k) hS (fun b _ => ⟨rfl, rfl, rfl, rfl⟩)
  refine ⟨zx_bo hS, fun p hp => ?_, by rw [zp_skp nb, ze_sk n E]; exact hS.2.2.1, zx_lkp hS (fun o z => hk (Or.inl z.1))⟩
  rcases Nat.lt_or_ge n p with z | z
  · have : p = n + 1 := by omega
    subst this
    have e1 : zp_nx (upd K n k) (n + 1) = zp_nx (upd K n k) n := by unfold zp_nx zp_dq; rw [zp_ls_n nb]
    have e2 : zp_mA (upd K n k) (n + 1) = zp_mA (upd K n k) n := by unfold zp_mA; rw [zp_ls_n nb]
    have e3 : zp_mB (upd K n k) (n + 1) = zp_mB (upd K n k) n := by unfold zp_mB; rw [zp_ls_n nb]
    have e4 : zp_jf (upd K n k) (n + 1) = zp_jf (upd K n k) n := by unfold zp_jf; rw [zp_ls_n nb]
    rw [zp_bk_n nb, e1, e2, e3, e4]
    exact L n (Nat.le_refl _)
  · exact L p z
theorem zx_up1 {d a b j : Int32} : ∀ c, c ≤ zp_bk K n → upd dm (zp_bk K n + 1) d c = dm c ∧ upd ma (zp_bk K n + 1) a c = ma c ∧ upd mb (zp_bk K n + 1) b c = mb c ∧ upd ji (zp_bk K n + 1) j c = ji c := fun c hc => ⟨pk_un (by omega), pk_un (by omega), pk_un (by omega), pk_un (by omega)⟩
/-- a new block begins -/
theorem zx_begin {d a b j : Int32} {lk' op' : Nat → Int32} (hS : zx_S n n K bo lk dm ma mb ji op) (hk : zp_B k)
    (hd : d = zp_nx (upd K n k) (n + 1)) (ha : a = oI ((zp_mA (upd K n k) (n + 1)).map (zp_bk (upd K n k)))) (hb : b = oI ((zp_mB (upd K n k) (n + 1)).map (zp_bk (upd K n k)))) (hj : j = oI (zp_jf (upd K n k) (n + 1)))
    (ho : zx_op op' (zp_sk (upd K n k) (n + 1))) (hl : ∀ i, i < n + 1 → lk' i = zx_lk (upd K n k) (n + 1) i) :
    zx_S (n + 1) (n + 1) (upd K n k) (upd bo n (nI (zp_bk K n))) lk' (upd dm (zp_bk K n + 1) d) (upd ma (zp_bk K n + 1) a) (upd mb (zp_bk K n + 1) b) (upd ji (zp_bk K n + 1) j) op' := by
  have E : ∀ j, j < n → upd K n k j = K j := ze_up (Nat.le_refl _)
  have nb : zp_B (upd K n k n) := by rw [pk_us]; exact hk
  have L := zx_low (k := k) hS (zx_up1 (dm := dm) (ma := ma) (mb := mb) (ji := ji) (d := d) (a := a) (b := b) (j := j))
  refine ⟨zx_bo hS, fun p hp => ?_, ho, hl⟩
  rcases Nat.lt_or_ge n p with z | z
  · have : p = n + 1 := by omega
    subst this
    rw [zp_bk_b nb, ze_bk n E, pk_us, pk_us, pk_us, pk_us]
    exact ⟨hd, ha, hb, hj⟩
  · exact L p z
theorem zx_vw7 (h : k = 7) : zp_nx (upd K n k) (n + 1) = nI (zp_bk K n) ∧ zp_mA (upd K n k) (n + 1) = some n ∧ zp_mB (upd K n k) (n + 1) = none ∧ zp_jf (upd K n k) (n + 1) = none := by
  have E : ∀ j, j < n → upd K n k j = K j := ze_up (Nat.le_refl _)
  have kn : upd K n k n = 7 := by rw [pk_us]; exact h
  have nb : zp_B (upd K n k n) := by rw [kn]; decide
  refine ⟨?_, ?_⟩
  · rw [zp_nx_s (q := n) (by rw [zp_dq_s (zp_ls_b nb), zp_dp_b (by rw [kn]; decide)]), ze_bk n E]
  · rcases zp_cls (upd K n k) (n + 1) with c | ⟨o1, c1, c2, c3, c4, c5, c6⟩ | ⟨s, o1, t, r, c1, c2, _⟩
    · exfalso
      have := c.1
      unfold zp_og at this
      rw [zp_ls_b nb] at this
      simp only [Option.bind_some] at this
      rw [if_pos kn] at this
      cases this
    · rw [zp_ls_b nb] at c1
      injection c1 with c1
      rw [← c1] at c4
      exact ⟨c4, c5, c6⟩
    · rw [zp_ls_b nb] at c1
      injection c1 with c1
      rw [← c1, kn] at c2
      exact absurd c2 (by decide)
theorem zx_vwe (hb : zp_B k) (h7 : ¬ k = 7) (he : zp_el (upd K n k) n = none) : zp_mA (upd K n k) (n + 1) = none ∧ zp_mB (upd K n k) (n + 1) = none ∧ zp_jf (upd K n k) (n + 1) = none := by
  have nb : zp_B (upd K n k n) := by rw [pk_us]; exact hb
  unfold zp_mA zp_mB zp_jf
  rw [zp_ls_b nb]
  simp only [Option.bind_some]
  rw [pk_us, if_neg h7, he]
  exact ⟨rfl, rfl, rfl⟩
theorem zx_eln {o t : Nat} {r : List (Nat × Nat)} (hs : zp_sk K n = (o, t) :: r) (h6 : K o = 6) (ht : t ≠ 0) : zp_el (upd K n 0) n = some (o, t) := by
  have E : ∀ j, j < n → upd K n 0 j = K j := ze_up (Nat.le_refl _)
  have := (zp_st n o t r hs).1
  exact zp_el_of pk_us (by rw [ze_sk n E]; exact hs) (by rw [E o this]; exact h6) ht
theorem zx_elx (h : ∀ o t r, zp_sk K n = (o, t) :: r → K o = 6 → t = 0) : zp_el (upd K n k) n = none := by
  have E : ∀ j, j < n → upd K n k j = K j := ze_up (Nat.le_refl _)
  refine zp_el_no ?_
  rintro ⟨_, o, t, r, h1, h2, h3⟩
  rw [ze_sk n E] at h1
  rw [E o (zp_st n o t r h1).1] at h2
  exact h3 (h o t r h1 h2)
theorem zx_opn7 (hS : zx_S n n K bo lk dm ma mb ji op) (h : k = 7) : zx_S (n + 1) (n + 1) (upd K n k) (upd bo n (nI (zp_bk K n))) (upd lk n (-1)) (upd dm (zp_bk K n + 1) (nI (zp_bk K n))) (upd ma (zp_bk K n + 1) (nI (zp_bk K n))) (upd mb (zp_bk K n + 1) (-1)) (upd ji (zp_bk K n + 1) (-1)) (upd op (zp_sk K n).length (nI n)) := by
  have E : ∀ j, j < n → upd K n k j = K j := ze_up (Nat.le_refl _)
  have v := zx_vw7 (K := K) (n := n) h
  refine zx_begin hS (by rw [h]; decide) v.1.symm ?_ ?_ ?_ ?_ (zx_lkp hS (fun o z => by rw [h] at z; exact absurd z.1 (by decide)))
  · rw [v.2.1]
    show _ = nI (zp_bk (upd K n k) n)
    rw [ze_bk n E]
  · rw [v.2.2.1]; rfl
  · rw [v.2.2.2]; rfl
  · rw [zp_sk6 (by rw [pk_us]; exact Or.inr h), ze_sk n E]
    exact ⟨pk_us, zx_opu _ _ (Nat.le_refl _) hS.2.2.1⟩
theorem zx_opn6 (hS : zx_S n n K bo lk dm ma mb ji op) (h : k = 6) : zx_S (n + 1) (n + 1) (upd K n k) (upd bo n (nI (zp_bk K n))) (upd lk n (-1)) (upd dm (zp_bk K n + 1) (nI (zp_bk K n))) (upd ma (zp_bk K n + 1) (-1)) (upd mb (zp_bk K n + 1) (-1)) (upd ji (zp_bk K n + 1) (-1)) (upd op (zp_sk K n).length (nI n)) := by
  have E : ∀ j, j < n → upd K n k j = K j := ze_up (Nat.le_refl _)
  have kn : upd K n k n = 6 := by rw [pk_us]; exact h
  have nb : zp_B (upd K n k n) := by rw [kn]; decide
  have v := zx_vwe (K := K) (n := n) (k := k) (by rw [h]; decide) (by rw [h]; decide) (zp_el_no (by rintro ⟨z, _⟩; rw [kn] at z; exact absurd z (by decide)))
  refine zx_begin hS (by rw [h]; decide) ?_ (by rw [v.1]; rfl) (by rw [v.2.1]; rfl) (by rw [v.2.2]; rfl) ?_ (zx_lkp hS (fun o z => by rw [h] at z; exact absurd z.1 (by decide)))
  · rw [zp_nx_s (q := n) (by rw [zp_dq_s (zp_ls_b nb), zp_dp_b (by rw [kn]; decide)]), ze_bk n E]
  · rw [zp_sk6 (by rw [pk_us]; exact Or.inl h), ze_sk n E]
    exact ⟨pk_us, zx_opu _ _ (Nat.le_refl _) hS.2.2.1⟩
theorem zx_fin (hS : zx_S n n K bo lk dm ma mb ji op) (hs : zp_sk K n = []) : zx_S (n + 1) n (upd K n 0) (upd bo n (nI (zp_bk K n))) (upd lk n (-1)) dm ma mb ji op := by
  have E : ∀ j, j < n → upd K n 0 j = K j := ze_up (Nat.le_refl _)
  refine ⟨zx_bo hS, zx_low hS (fun b _ => ⟨rfl, rfl, rfl, rfl⟩), ?_, zx_lkp hS (fun o z => by rw [zp_top_e hs] at z; cases z.2)⟩
  rw [zp_sk0 pk_us, ze_sk n E, hs]
  exact trivial
/-- the links after an end that acts on o -/
theorem zx_lke {o t : Nat} {r : List (Nat × Nat)} {lk' : Nat → Int32} (hS : zx_S n n K bo lk dm ma mb ji op) (hs : zp_sk K n = (o, t) :: r)
    (h7 : K o = 7 → lk' = upd (upd lk n (-1)) n (nI o)) (h6 : K o = 6 → t = 0 → lk' = upd (upd lk n (-1)) o (nI n)) (h6' : K o = 6 → t ≠ 0 → lk' = upd (upd lk n (-1)) t (nI n)) : ∀ i, i < n + 1 → lk' i = zx_lk (upd K n 0) (n + 1) i := by
  have E : ∀ j, j < n → upd K n 0 j = K j := ze_up (Nat.le_refl _)
  have S := zp_st n o t r hs
  have T := zp_top_c hs
  have AC := zp_ac_top n o t r hs
  have mem : ∀ e, e < n → K e = 0 → zp_top K e = some o → e ∈ zp_ac K o n := fun e h1 h2 h3 => List.mem_filter.mpr ⟨List.mem_range.mpr h1, decide_eq_true ⟨h2, h3⟩⟩
  have topn : ∀ o', zp_top K n = some o' → o' = o := fun o' z => by rw [T] at z; injection z with z; exact z.symm
  have acN : zp_ac (upd K n 0) o (n + 1) = zp_ac K o n ++ [n] := by rw [zx_acn, if_pos ⟨rfl, T⟩]
  have lkn : zx_lk (upd K n 0) (n + 1) n = if K o = 7 then nI o else if zp_el (upd K n 0) n = none then oI ((zp_ac (upd K n 0) o (n + 1))[1]?) else -1 := by
    unfold zx_lk
    rw [pk_us, if_neg (by decide), if_pos rfl, ze_top E, T]
    show (if upd K n 0 o = 7 then _ else _) = _
    rw [E o S.1]
  intro i hi
  rcases S.2.1 with c6 | c7
  · have n7 : ¬ K o = 7 := by rw [c6]; decide
    by_cases t0 : t = 0
    · rw [h6 c6 t0]
      rw [if_pos t0] at AC
      rcases Nat.lt_or_ge i n with z | z
      · by_cases io : i = o
        · subst io
          rw [pk_us]
          unfold zx_lk
          rw [E i z, if_pos c6, acN, AC]; rfl
        · rw [pk_un io, pk_un (by omega), zx_lkl z (fun _ q => io (topn i q.2)) (fun o' h1 h2 _ q => ?_)]
          · exact hS.2.2.2 i z
          · have := topn o' q.2
            subst this
            have := mem i z h1 h2
            rw [AC] at this; cases this
      · have : i = n := by omega
        subst this
        rw [pk_un (by omega), pk_us, lkn, if_neg n7, zx_elx (fun o' t' r' q1 q2 => by rw [hs] at q1; injection q1 with q1 _; injection q1 with _ q1; omega), if_pos rfl, acN, AC]
        rfl
    · have S' := S.2.2.2 t0
      rw [h6' c6 t0]
      rw [if_neg t0] at AC
      rcases Nat.lt_or_ge i n with z | z
      · by_cases it : i = t
        · subst it
          rw [pk_us]
          unfold zx_lk
          rw [E i z, if_neg (by rw [S'.2.2.2.1]; decide), if_pos S'.2.2.2.1, ze_top (fun j hj => E j (by omega)), zp_top_c S'.2.2.2.2, ze_el (fun j hj => E j (by omega))]
          show nI n = if upd K n 0 o = 7 then nI o else _
          rw [E o S.1, if_neg n7, zp_el_no (by rintro ⟨_, o', t', r', q1, _, q2⟩; rw [S'.2.2.2.2] at q1; injection q1 with q1 _; injection q1 with _ q1; exact q2 q1.symm), if_pos rfl, acN, AC]
          rfl
        · rw [pk_un it, pk_un (by omega)]
          by_cases io : i = o
          · subst io
            rw [hS.2.2.2 i z]
            unfold zx_lk
            rw [E i z, if_pos c6, if_pos c6, acN, AC]; rfl
          · rw [zx_lkl z (fun _ q => io (topn i q.2)) (fun o' h1 h2 _ q => ?_)]
            · exact hS.2.2.2 i z
            · have := topn o' q.2
              subst this
              have := mem i z h1 h2
              rw [AC] at this
              exact it (List.mem_singleton.mp this)
      · have : i = n := by omega
        subst this
        rw [pk_un (by omega), pk_us, lkn, if_neg n7, zx_eln hs c6 t0, if_neg (by exact fun z => by cases z)]
  · rw [h7 c7]
    rcases Nat.lt_or_ge i n with z | z
    · rw [pk_un (by omega), pk_un (by omega), zx_lkl z (fun q6 q => ?_) (fun o' h1 h2 q6 q => ?_)]
      · exact hS.2.2.2 i z
      · have := topn i q.2
        subst this
        rw [c7] at q6; exact absurd q6 (by decide)
      · have := topn o' q.2
        subst this
        rw [c7] at q6; exact absurd q6 (by decide)
    · have : i = n := by omega
      subst this
      rw [pk_us, lkn, if_pos c7]
end
end
section
/-! the component: append, perform -/
section
variable {u0 u1 u2 fP fC fS fn ow aw nb ps tb : Int32} {K A B bo lk dm ma mb ji op bf tr va mr fr : Nat → Int32}
theorem x_begin {post : SX → Prop} {dp p0 p1 p2 p3 : Int32} {c : Nat} (hc : c < 16) (h : post (u0, u1, u2, fP, fC, fS, fn, nI (c + 1), dp, ow, aw, nb, ps, tb, K, A, B, bo, lk, upd dm (c + 1) p0, upd ma (c + 1) p1, upd mb (c + 1) p2, upd ji (c + 1) p3, op, bf, tr, va, mr, fr)) : wpX_begin post (u0, u1, u2, fP, fC, fS, fn, nI c, dp, ow, aw, nb, ps, tb, K, A, B, bo, lk, dm, ma, mb, ji, op, bf, tr, va, mr, fr) p0 p1 p2 p3 := by
  have V : vp_in (nI (c + 1)) 17 := vp_in_nI (by omega) (by omega)
  refine nm_r (nI_1 c) (And.intro V ?_)
  rw [nI_clamp (by omega)]
  exact nm_e ⟨V, nm_e ⟨V, nm_e ⟨V, nm_e h⟩⟩⟩
theorem x_push {post : SX → Prop} {cu p0 p1 ow' : Int32} {c : Nat} (hc : c < 3) (ho : ow + p1 = ow') (h : post (u0, u1, u2, fP, fC, fS, fn, cu, nI (c + 1), ow', aw, nb, ps, tb, K, A, B, bo, lk, dm, ma, mb, ji, upd op c p0, bf, tr, va, mr, fr)) : wpX_push post (u0, u1, u2, fP, fC, fS, fn, cu, nI c, ow, aw, nb, ps, tb, K, A, B, bo, lk, dm, ma, mb, ji, op, bf, tr, va, mr, fr) p0 p1 := by
  refine And.intro (vp_in_nI hc (by omega)) ?_
  rw [nI_clamp (by omega)]
  exact nm_e (nm_r (nI_1 c) (nm_r ho h))
end
section
variable {u0 u1 u2 fP fC fS nb ps tb : Int32} {K A B bo lk dm ma mb ji op bf tr va mr fr : Nat → Int32} {n : Nat} {k x y : Int32}
theorem x_close {post : SX → Prop} (hn : n < 16) (hf : zp_fi K n = false) (hS : zx_S n n K bo lk dm ma mb ji op) (hl : (zp_sk K n).length ≤ 3)
    (h : ∀ bo' lk' dm' ma' mb' ji' op', zx_S (n + 1) (zx_cp (upd K n 0) (n + 1)) (upd K n 0) bo' lk' dm' ma' mb' ji' op' → post (u0, u1, u2, fP, fC, fS, nI (n + 1), nI (zp_bk (upd K n 0) (zx_cp (upd K n 0) (n + 1))), nI (zp_sk (upd K n 0) (n + 1)).length, nI (zp_ow (upd K n 0) (n + 1)), oI (zp_nw K n 0), nb, ps, tb, upd K n 0, A, B, bo', lk', dm', ma', mb', ji', op', bf, tr, va, mr, fr)) :
    wpX_close post (u0, u1, u2, fP, fC, fS, nI (n + 1), nI (zp_bk K n), nI (zp_sk K n).length, nI (zp_ow K n), -1, nb, ps, tb, upd K n 0, A, B, upd bo n (nI (zp_bk K n)), upd lk n (-1), dm, ma, mb, ji, op, bf, tr, va, mr, fr) (nI n) := by
  have E : ∀ j, j < n → upd K n 0 j = K j := ze_up (Nat.le_refl _)
  have kn : upd K n 0 n = 0 := pk_us
  have f' : zp_fi (upd K n 0) n = false := by rw [ze_fi n E]; exact hf
  have o1 := zp_ow_0 f' kn
  rw [ze_ow E] at o1
  have bn := zp_bk_le (K := K) n
  have b1 : zp_bk (upd K n 0) (n + 1) = zp_bk K n + 1 := by rw [zp_bk_b (by rw [kn]; decide), ze_bk n E]
  have s1 : zp_sk (upd K n 0) (n + 1) = zp_pop (upd K n 0) n (zp_sk K n) := by rw [zp_sk0 kn, ze_sk n E]
  have V : vp_in (nI n) 16 := vp_in_nI hn (by omega)
  refine nm_r (e' := nI (zp_ow (upd K n 0) (n + 1))) (by rw [o1, nI_pred]) ?_
  cases hs : zp_sk K n with
  | nil =>
    have fi : zp_fi (upd K n 0) (n + 1) = true := by rw [zp_fi_s f', decide_eq_true ⟨kn, by rw [ze_sk n E]; exact hs⟩]
    have c1 : zx_cp (upd K n 0) (n + 1) = n := by rw [zx_cpt fi]; rfl
    have w1 : zp_nw K n 0 = none := zp_nw_n (by rintro ⟨_, o, ht, _⟩; rw [zp_top_e hs] at ht; cases ht)
    have H := h _ _ _ _ _ _ _ (by rw [c1]; exact zx_fin hS hs)
    rw [c1, s1, hs, w1, ze_bk n E] at H
    exact br_t rfl H
  | cons e r =>
    obtain ⟨o, t⟩ := e
    have S := zp_st n o t r hs
    have O := hS.2.2.1
    rw [hs] at O hl
    rw [List.length_cons] at hl ⊢
    have fi : zp_fi (upd K n 0) (n + 1) = false := by rw [zp_fi_s f', decide_eq_false (by rintro ⟨_, z⟩; rw [ze_sk n E, hs] at z; cases z)]
    have c1 := zx_cpf fi
    rw [c1, b1] at h
    have Vo : vp_in (nI o) 16 := vp_in_nI (by omega) (by omega)
    refine br_f (nI_ne0 (by omega) (by omega)) ?_
    rw [nI_pred, nI_clamp (by omega), O.1]
    refine ⟨vp_in_nI (by omega) (by omega), nm_e ⟨Vo, ?_⟩⟩
    rw [nI_clamp (by omega), nI_clamp (by omega), E o S.1, pk_us]
    have Ko' : upd K n 0 o = K o := E o S.1
    have L7 := zx_lke (lk' := upd (upd lk n (-1)) n (nI o)) hS hs (fun _ => rfl)
    have nb : zp_B (upd K n 0 n) := by rw [kn]; decide
    rcases S.2.1 with c6 | c7
    · have n7 : ¬ K o = 7 := by rw [c6]; decide
      have w1 : zp_nw K n 0 = none := zp_nw_n (by rintro ⟨_, o', ht, z⟩; rw [zp_top_c hs] at ht; injection ht with ht; subst ht; exact n7 z)
      have d1 : zp_nx (upd K n 0) (n + 1) = nI (zp_bk K o) := by
        rw [zp_nx_s (q := o) (by rw [zp_dq_s (zp_ls_b nb), zp_dp_6 kn (by rw [ze_top E]; exact zp_top_c hs) (by rw [Ko']; exact c6)]), ze_bk o (fun j hj => E j (by omega))]
      refine br_f n7 ⟨Vo, ?_⟩
      have lko : upd lk n (-1) o = oI ((zp_ac K o n)[0]?) := by
        rw [pk_un (by omega), hS.2.2.2 o S.1]
        unfold zx_lk
        rw [if_pos c6]
      have boo : upd bo n (nI (zp_bk K n)) o = nI (zp_bk K o) := by rw [pk_un (by omega)]; exact hS.1 o S.1
      rw [lko, zp_ac_top n o t r hs, boo]
      by_cases t0 : t = 0
      · subst t0
        have s2 : zp_sk (upd K n 0) (n + 1) = (o, n) :: r := by rw [s1, hs, zp_pop2 ⟨by rw [Ko']; exact c6, rfl⟩]
        have v := zx_vwe (K := K) (n := n) (k := 0) (by decide) (by decide) (zx_elx (fun o' t' r' q1 _ => by rw [hs] at q1; injection q1 with q1 _; injection q1 with _ q1; exact q1.symm))
        have H := h _ _ _ _ _ _ _ (zx_begin (a := -1) (b := -1) (j := -1) (lk' := upd (upd lk n (-1)) o (nI n)) (op' := op) hS (by decide) d1.symm (by rw [v.1]; rfl) (by rw [v.2.1]; rfl) (by rw [v.2.2]; rfl) (by rw [s2]; exact O) (zx_lke hS hs (fun z => absurd z n7) (fun _ _ => rfl) (fun _ z => absurd rfl z)))
        rw [s2, w1, List.length_cons] at H
        exact br_t rfl ⟨Vo, nm_e ⟨Vo, x_begin (by omega) H⟩⟩
      · have S' := S.2.2.2 t0
        have Vt : vp_in (nI t) 16 := vp_in_nI (by omega) (by omega)
        have s2 : zp_sk (upd K n 0) (n + 1) = r := by rw [s1, hs, zp_pop1 (fun z => t0 z.2)]
        have el := zx_eln hs c6 t0
        have vA : zp_mA (upd K n 0) (n + 1) = some t := by
          unfold zp_mA
          rw [zp_ls_b nb]
          simp only [Option.bind_some]
          rw [pk_us, if_neg (by decide), el]; rfl
        have vB : zp_mB (upd K n 0) (n + 1) = some n := by
          unfold zp_mB
          rw [zp_ls_b nb]
          simp only [Option.bind_some]
          rw [el]; rfl
        have vJ : zp_jf (upd K n 0) (n + 1) = some o := by
          unfold zp_jf
          rw [zp_ls_b nb]
          simp only [Option.bind_some]
          rw [el]; rfl
        have bot : upd bo n (nI (zp_bk K n)) t = nI (zp_bk K t) := by rw [pk_un (by omega)]; exact hS.1 t S'.2.2.1
        have H := h _ _ _ _ _ _ _ (zx_begin (a := nI (zp_bk K t)) (b := nI (zp_bk K n)) (j := nI o) (lk' := upd (upd lk n (-1)) t (nI n)) (op' := op) hS (by decide) d1.symm (by rw [vA]; show _ = nI (zp_bk (upd K n 0) t); rw [ze_bk t (fun j hj => E j (by omega))]) (by rw [vB]; show _ = nI (zp_bk (upd K n 0) n); rw [ze_bk n E]) (by rw [vJ]; rfl) (by rw [s2]; exact O.2) (zx_lke hS hs (fun z => absurd z n7) (fun _ z => absurd z t0) (fun _ _ => rfl)))
        rw [s2, w1] at H
        rw [if_neg t0]
        refine br_f (show ¬ nI t = -1 from zp_nm1 (by omega)) (nm_e ⟨Vo, nm_r (e' := nI t) rfl ⟨Vt, ?_⟩⟩)
        rw [nI_clamp (by omega), bot]
        exact nm_e ⟨Vo, Vt, V, x_begin (by omega) H⟩
    · have t0 : t = 0 := by
        rcases Nat.eq_zero_or_pos t with z | z
        · exact z
        · have := (S.2.2.2 (by omega)).1
          rw [c7] at this; exact absurd this (by decide)
      subst t0
      have s2 : zp_sk (upd K n 0) (n + 1) = r := by rw [s1, hs, zp_pop1 (by rw [Ko', c7]; decide)]
      have v := zx_vwe (K := K) (n := n) (k := 0) (by decide) (by decide) (zx_elx (fun o' t' r' q1 _ => by rw [hs] at q1; injection q1 with q1 _; injection q1 with _ q1; exact q1.symm))
      have d1 : zp_nx (upd K n 0) (n + 1) = nI (zp_bk K n) := by
        rw [zp_nx_s (q := n) (by rw [zp_dq_s (zp_ls_b nb), zp_dp_7 kn (by rw [ze_top E]; exact zp_top_c hs) (by rw [Ko', c7]; decide)]), ze_bk n E]
      have H := h _ _ _ _ _ _ _ (zx_begin (a := -1) (b := -1) (j := -1) (lk' := upd (upd lk n (-1)) n (nI o)) (op' := op) hS (by decide) d1.symm (by rw [v.1]; rfl) (by rw [v.2.1]; rfl) (by rw [v.2.2]; rfl) (by rw [s2]; exact O.2) (zx_lke hS hs (fun _ => rfl) (fun z => absurd (z.symm.trans c7) (by decide)) (fun z => absurd (z.symm.trans c7) (by decide))))
      have m1 : zp_ma (upd K n 0) (n + 1) (o + 1) = zp_ma K n (o + 1) := by
        unfold zp_ma
        rcases Nat.lt_or_ge (o + 1) n with z | z
        · rw [E (o + 1) z]
          by_cases hM : zp_M (K (o + 1))
          · rw [if_pos ⟨by omega, hM⟩, if_pos ⟨z, hM⟩]
          · rw [if_neg (fun q => hM q.2), if_neg (fun q => hM q.2)]
        · have : o + 1 = n := by omega
          rw [this, kn, if_neg (by rintro ⟨_, q⟩; exact absurd q (by decide)), if_neg (by omega)]
      rw [s2, zp_nw_7 hs c7, ← m1] at H
      refine br_t c7 (nm_e ⟨V, nm_e ⟨V, x_begin (by omega) ?_⟩⟩)
      rw [nI_1]
      exact x_mergeAt (n := n + 1) (by omega) (by omega) H
theorem x_append {post : Int32 → SX → Prop} (hn : n < 16) (hf : zp_fi K n = false) (hS : zx_S n n K bo lk dm ma mb ji op) (hl : (zp_sk K n).length ≤ 3) (hd : k = 6 ∨ k = 7 → (zp_sk K n).length < 3)
    (h : ∀ bo' lk' dm' ma' mb' ji' op', zx_S (n + 1) (zx_cp (upd K n k) (n + 1)) (upd K n k) bo' lk' dm' ma' mb' ji' op' → post (nI n) (u0, u1, u2, fP, fC, fS, nI (n + 1), nI (zp_bk (upd K n k) (zx_cp (upd K n k) (n + 1))), nI (zp_sk (upd K n k) (n + 1)).length, nI (zp_ow (upd K n k) (n + 1)), oI (zp_nw K n k), nb, ps, tb, upd K n k, upd A n x, upd B n y, bo', lk', dm', ma', mb', ji', op', bf, tr, va, mr, fr)) :
    wpX_append post (u0, u1, u2, fP, fC, fS, nI n, nI (zp_bk K n), nI (zp_sk K n).length, nI (zp_ow K n), -1, nb, ps, tb, K, A, B, bo, lk, dm, ma, mb, ji, op, bf, tr, va, mr, fr) k x y := by
  have E : ∀ j, j < n → upd K n k j = K j := ze_up (Nat.le_refl _)
  have kn : upd K n k n = k := pk_us
  have f' : zp_fi (upd K n k) n = false := by rw [ze_fi n E]; exact hf
  have bn := zp_bk_le (K := K) n
  have V : vp_in (nI n) 16 := vp_in_nI hn (by omega)
  refine And.intro V ?_
  rw [nI_clamp (by omega)]
  refine nm_e ⟨V, nm_e ⟨V, nm_e ⟨V, nm_e ⟨V, nm_e (nm_r (nI_1 n) ?_)⟩⟩⟩⟩
  by_cases k6 : k = 6
  · have fi := zp_fi_n f' (by rw [kn, k6]; rintro ⟨z, _⟩; exact absurd z (by decide))
    have H := h _ _ _ _ _ _ _ (by rw [zx_cpf fi]; exact zx_opn6 hS k6)
    rw [zx_cpf fi, zp_bk_b (by rw [kn, k6]; decide), ze_bk n E, zp_sk6 (by rw [kn]; exact Or.inl k6), ze_sk n E, zp_ow_6 f' (by rw [kn]; exact k6), ze_ow E, zp_nw_n (by rintro ⟨z, _⟩; rw [k6] at z; exact absurd z (by decide)), List.length_cons] at H
    refine br_t k6 (x_push (hd (Or.inl k6)) (nI_add _ 2) ⟨V, ?_⟩)
    rw [pk_us]
    exact x_begin (by omega) H
  refine br_f k6 ?_
  by_cases k7 : k = 7
  · have fi := zp_fi_n f' (by rw [kn, k7]; rintro ⟨z, _⟩; exact absurd z (by decide))
    have H := h _ _ _ _ _ _ _ (by rw [zx_cpf fi]; exact zx_opn7 hS k7)
    rw [zx_cpf fi, zp_bk_b (by rw [kn, k7]; decide), ze_bk n E, zp_sk6 (by rw [kn]; exact Or.inr k7), ze_sk n E, zp_ow_7 f' (by rw [kn]; exact k7), ze_ow E, zp_nw_n (by rintro ⟨z, _⟩; rw [k7] at z; exact absurd z (by decide)), List.length_cons] at H
    refine br_t k7 (x_push (hd (Or.inr k7)) (nI_1 _) ⟨V, V, ?_⟩)
    rw [pk_us]
    exact x_begin (by omega) H
  refine br_f k7 ?_
  by_cases k0 : k = 0
  · subst k0
    exact br_t rfl (x_close hn hf hS hl h)
  · have nb : ¬ zp_B (upd K n k n) := by rw [kn]; rintro (z | z | z); exact k0 z; exact k6 z; exact k7 z
    have fi := zp_fi_n f' (fun z => nb (Or.inl z.1))
    have H := h _ _ _ _ _ _ _ (by rw [zx_cpf fi]; exact zx_plain hS (by rw [kn] at nb; exact nb))
    rw [zx_cpf fi, zp_bk_n nb, ze_bk n E, zp_skp nb, ze_sk n E, zp_ow_p f' nb, ze_ow E, zp_nw_n (fun z => k0 z.1)] at H
    exact br_f k0 H
end
end
section
/-! the component: perform, add, the picking of choices -/
/-- what a performed choice must give -/
def zx_PC (post : Int32 → SX → Prop) (C n : Nat) (w : Option Nat) (k x y u0 u1 u2 fP fS nb ps : Int32) (K A B bo lk dm ma mb ji op bf va mr fr : Nat → Int32) (s : (Nat → Int32) × Nat) : Prop :=
  (∀ m, w = some m → k = 10 → post (nI m) (u0, u1, u2, fP, nI C, fS, nI n, nI (zp_bk K n), nI (zp_sk K n).length, nI (zp_ow K n), oI (zp_ma K n (m + 1)), nb, ps, nI s.2, K, A, upd B m x, bo, lk, dm, ma, mb, ji, op, bf, s.1, va, mr, fr)) ∧
  (w = none → k ≠ 10 → ∀ bo' lk' dm' ma' mb' ji' op', zx_S (n + 1) (zx_cp (upd K n k) (n + 1)) (upd K n k) bo' lk' dm' ma' mb' ji' op' → post (nI n) (u0, u1, u2, fP, nI C, fS, nI (n + 1), nI (zp_bk (upd K n k) (zx_cp (upd K n k) (n + 1))), nI (zp_sk (upd K n k) (n + 1)).length, nI (zp_ow (upd K n k) (n + 1)), oI (zp_nw K n k), nb, ps, nI s.2, upd K n k, upd A n (zp_nA K n w k x), upd B n (zp_nB K n k y), bo', lk', dm', ma', mb', ji', op', bf, s.1, va, mr, fr))
section
variable {u0 u1 u2 fP fS nb ps : Int32} {K A B bo lk dm ma mb ji op bf va mr fr : Nat → Int32} {P C n : Nat} {w : Option Nat} {k x y : Int32} {post : Int32 → SX → Prop}
theorem zi_kk (hl : zp_lg K C n w k = true) : ∃ kk, kk ≤ 10 ∧ k = nI kk := by
  cases w with
  | some m => exact ⟨10, by omega, (zg_s.mp hl).2⟩
  | none =>
    rcases zs_kd hl with z | z | z | z | z | z | z | z | z | z
    · exact ⟨0, by omega, z⟩
    · exact ⟨1, by omega, z⟩
    · exact ⟨2, by omega, z⟩
    · exact ⟨3, by omega, z⟩
    · exact ⟨4, by omega, z⟩
    · exact ⟨5, by omega, z⟩
    · exact ⟨6, by omega, z⟩
    · exact ⟨7, by omega, z⟩
    · exact ⟨8, by omega, z⟩
    · exact ⟨9, by omega, z⟩
theorem zi_dep (hl : zp_lg K C n none k = true) (hk : k = 6 ∨ k = 7) : (zp_sk K n).length < 3 := by
  rcases hk with e | e
  · subst e; exact (zg_6.mp hl).2.2.1
  · subst e; exact (zg_7.mp hl).2.2.1
theorem x_setNext {m : Nat} {tb : Int32} {tr : Nat → Int32} (I : zp_I P C n (some m) K A B) (h : post (nI m) (u0, u1, u2, fP, nI C, fS, nI n, nI (zp_bk K n), nI (zp_sk K n).length, nI (zp_ow K n), oI (zp_ma K n (m + 1)), nb, ps, tb, K, A, upd B m x, bo, lk, dm, ma, mb, ji, op, bf, tr, va, mr, fr)) : wpX_setNext post (u0, u1, u2, fP, nI C, fS, nI n, nI (zp_bk K n), nI (zp_sk K n).length, nI (zp_ow K n), nI m, nb, ps, tb, K, A, B, bo, lk, dm, ma, mb, ji, op, bf, tr, va, mr, fr) x := by
  have hn := zi_16 I
  obtain ⟨o, a1, a2, _⟩ := zi_og I
  refine br_f (zp_nm1 (by omega)) ⟨vp_in_nI (by omega) (by omega), ?_⟩
  rw [nI_clamp (by omega), nI_1]
  exact nm_e (x_mergeAt hn (by omega) h)
theorem x_p73 {tn : Nat} {tr : Nat → Int32} (I : zp_I P C n w K A B) (hf : zp_fi K n = false) (hS : zx_S n n K bo lk dm ma mb ji op) (hl : zp_lg K C n w k = true) (H : zx_PC post C n w k x y u0 u1 u2 fP fS nb ps K A B bo lk dm ma mb ji op bf va mr fr (tr, tn)) : wX_perform_73 post k x y (nI (zp_tA K n w k)) (nI (zp_tB K n k)) u0 u1 u2 fP (nI C) fS (nI n) (nI (zp_bk K n)) (nI (zp_sk K n).length) (nI (zp_ow K n)) (oI w) nb ps (nI tn) K A B bo lk dm ma mb ji op bf tr va mr fr := by
  have hn := zi_16 I
  have hw := zi_lw hl
  by_cases k10 : k = 10
  · cases w with
    | none => exact absurd rfl (hw.mp k10)
    | some m => exact br_t k10 (x_setNext I (H.1 m rfl k10))
  · cases w with
    | some m => exact absurd (hw.mpr (fun z => by cases z)) k10
    | none =>
      have h := H.2 rfl k10
      have AP : ∀ a b, a = zp_nA K n none k x → b = zp_nB K n k y → wX_perform_112 post k a b u0 u1 u2 fP (nI C) fS (nI n) (nI (zp_bk K n)) (nI (zp_sk K n).length) (nI (zp_ow K n)) (-1) nb ps (nI tn) K A B bo lk dm ma mb ji op bf tr va mr fr := by
        intro a b ea eb
        subst ea eb
        unfold wX_perform_112
        exact x_append (zi_lt I hf) hf hS I.1.2.2.2.2.2 (zi_dep hl) h
      have P100 : ∀ a, a = zp_nA K n none k x → wX_perform_100 post k y (nI (zp_tB K n k)) a u0 u1 u2 fP (nI C) fS (nI n) (nI (zp_bk K n)) (nI (zp_sk K n).length) (nI (zp_ow K n)) (-1) nb ps (nI tn) K A B bo lk dm ma mb ji op bf tr va mr fr := by
        intro a ea
        have t3 := zt_B3 (K := K) (n := n) k
        by_cases t0 : zp_tB K n k = 0
        · rw [t0]
          exact br_t rfl (AP a (-1) ea (by unfold zp_nB; rw [if_neg (fun z => z t0)]))
        · exact br_f (nI_ne0 (by omega) (by omega)) (AP a y ea (by unfold zp_nB; rw [if_pos t0]))
      refine br_f k10 ?_
      by_cases k1 : k = 1
      · exact br_t k1 (P100 x (by unfold zp_nA; rw [if_pos (Or.inl k1)]))
      · have t3 := zt_A3 (K := K) (n := n) (w := none) k
        refine br_f k1 ?_
        by_cases t0 : zp_tA K n none k = 0
        · rw [t0]
          exact br_t rfl (P100 (-1) (by unfold zp_nA; rw [if_neg (fun z => z.elim k1 (fun z => z t0))]))
        · exact br_f (nI_ne0 (by omega) (by omega)) (P100 x (by unfold zp_nA; rw [if_pos (Or.inr t0)]))
theorem x_p59 {tn : Nat} {tr : Nat → Int32} {v : Int32} (I : zp_I P C n w K A B) (hf : zp_fi K n = false) (hS : zx_S n n K bo lk dm ma mb ji op) (hl : zp_lg K C n w k = true) (hF : zp_FT K n w k x y) (ht : tn ≤ 256) (hv : zp_tB K n k ≠ 0 → v = nI (zp_bk K (zp_vB K n k))) (H : zx_PC post C n w k x y u0 u1 u2 fP fS nb ps K A B bo lk dm ma mb ji op bf va mr fr (zb_w3 K n k y (tr, tn))) : wX_perform_59 post k x y (nI (zp_tA K n w k)) (nI (zp_tB K n k)) v u0 u1 u2 fP (nI C) fS (nI n) (nI (zp_bk K n)) (nI (zp_sk K n).length) (nI (zp_ow K n)) (oI w) nb ps (nI tn) K A B bo lk dm ma mb ji op bf tr va mr fr := by
  have hn := zi_16 I
  have tB3 := zt_B3 (K := K) (n := n) k
  unfold zb_w3 at H
  by_cases t0 : zp_tB K n k = 0
  · rw [if_pos t0] at H
    exact br_t (by rw [t0]; rfl) (x_p73 I hf hS hl H)
  · rw [if_neg t0] at H
    obtain ⟨j, hj, ey, hty, hmem⟩ := hF.2.2 t0
    have ej : y.toNatClampNeg = j := by rw [ey]; exact nI_clamp (by omega)
    rw [ej] at H
    refine br_f (nI_ne0 (by omega) (by omega)) ?_
    rw [hv t0]
    subst ey
    exact x_wop I hS tB3 (zt_vB k) hj hmem hty ht (x_p73 I hf hS hl H)
theorem x_p45 {tn : Nat} {tr : Nat → Int32} {v : Int32} (I : zp_I P C n w K A B) (hf : zp_fi K n = false) (hS : zx_S n n K bo lk dm ma mb ji op) (hl : zp_lg K C n w k = true) (hF : zp_FT K n w k x y) (ht : tn ≤ 256) (hv : zp_tB K n k ≠ 0 → v = nI (zp_bk K (zp_vB K n k))) (H : zx_PC post C n w k x y u0 u1 u2 fP fS nb ps K A B bo lk dm ma mb ji op bf va mr fr (zb_w3 K n k y (zb_w2 K n w k x (tr, tn)))) : wX_perform_45 post k x y (nI (zp_tA K n w k)) (nI (zp_tB K n k)) (nI (zp_bk K (zp_vA K n k))) v u0 u1 u2 fP (nI C) fS (nI n) (nI (zp_bk K n)) (nI (zp_sk K n).length) (nI (zp_ow K n)) (oI w) nb ps (nI tn) K A B bo lk dm ma mb ji op bf tr va mr fr := by
  have hn := zi_16 I
  have tA3 := zt_A3 (K := K) (n := n) (w := w) k
  unfold zb_w2 at H
  by_cases t0 : zp_tA K n w k = 0
  · rw [if_pos t0] at H
    exact br_t (by rw [t0]; rfl) (x_p59 I hf hS hl hF ht hv H)
  · rw [if_neg t0] at H
    obtain ⟨j, hj, ex, hty, hmem⟩ := hF.2.1 t0
    have ej : x.toNatClampNeg = j := by rw [ex]; exact nI_clamp (by omega)
    rw [ej] at H
    refine br_f (nI_ne0 (by omega) (by omega)) ?_
    subst ex
    have s2 : (zb_wo K n (zp_tA K n w k) (zp_vA K n k) j (tr, tn)).2 ≤ 256 := zb_wrb (zb_wrb ht)
    exact x_wop I hS tA3 (zt_vA k) hj hmem hty ht (x_p59 I hf hS hl hF s2 hv H)
theorem x_perf {tn : Nat} {tr : Nat → Int32} (I : zp_I P C n w K A B) (hf : zp_fi K n = false) (hS : zx_S n n K bo lk dm ma mb ji op) (hl : zp_lg K C n w k = true) (hF : zp_FT K n w k x y) (ht : tn ≤ 256) (H : zx_PC post C n w k x y u0 u1 u2 fP fS nb ps K A B bo lk dm ma mb ji op bf va mr fr (zb_cw K C n w k x y (tr, tn))) : wpX_perform post (u0, u1, u2, fP, nI C, fS, nI n, nI (zp_bk K n), nI (zp_sk K n).length, nI (zp_ow K n), oI w, nb, ps, nI tn, K, A, B, bo, lk, dm, ma, mb, ji, op, bf, tr, va, mr, fr) k x y := by
  have hn := zi_16 I
  have hw := zi_lw hl
  have hM := zi_lM hl
  obtain ⟨kk, hkk, ek⟩ := zi_kk hl
  have ekc : k.toNatClampNeg = kk := by rw [ek]; exact nI_clamp (by omega)
  unfold wpX_perform
  dsimp only
  refine x_typeA I hS (x_typeB I hS (x_viewA I hS hM hw.mp (x_viewB I hS (fun v hv => ?_))))
  unfold zb_cw zb_w1 at H
  rw [ekc] at H
  have s1 : (zb_wr (zb_kl K C n w 11).length (zb_kl K C n w kk).length (tr, tn)).2 ≤ 256 := zb_wrb ht
  have W : ∀ {Q : SX → Prop}, Q (u0, u1, u2, fP, nI C, fS, nI n, nI (zp_bk K n), nI (zp_sk K n).length, nI (zp_ow K n), oI w, nb, ps, nI (zb_wr (zb_kl K C n w 11).length (zb_kl K C n w kk).length (tr, tn)).2, K, A, B, bo, lk, dm, ma, mb, ji, op, bf, (zb_wr (zb_kl K C n w 11).length (zb_kl K C n w kk).length (tr, tn)).1, va, mr, fr) → wpX_writeKind Q (u0, u1, u2, fP, nI C, fS, nI n, nI (zp_bk K n), nI (zp_sk K n).length, nI (zp_ow K n), oI w, nb, ps, nI tn, K, A, B, bo, lk, dm, ma, mb, ji, op, bf, tr, va, mr, fr) k := by
    intro Q hQ
    rw [ek]
    exact x_wkind I hf hS (by omega) ht hQ
  refine W ?_
  by_cases k1 : k = 1
  · rw [if_pos k1] at H
    obtain ⟨j, hj, ex⟩ := hF.1 k1
    have ej : x.toNatClampNeg = j := by rw [ex]; exact nI_clamp (by omega)
    rw [ej] at H
    refine br_t k1 ?_
    have s2 : (zb_wr 8 j (zb_wr (zb_kl K C n w 11).length (zb_kl K C n w kk).length (tr, tn))).2 ≤ 256 := zb_wrb s1
    have T := x_p45 (v := v) I hf hS hl hF s2 hv H
    subst ex
    exact x_write (r := 8) (by omega) (by omega) s1 T
  · rw [if_neg k1] at H
    exact br_f k1 (x_p45 I hf hS hl hF s1 hv H)
theorem x_add {tn : Nat} {tr : Nat → Int32} (I : zp_I P C n w K A B) (hf : zp_fi K n = false) (hS : zx_S n n K bo lk dm ma mb ji op) (ht : tn ≤ 256)
    (h1 : zp_lg K C n w k = false → post (-1) (u0, u1, u2, fP, nI C, fS, nI n, nI (zp_bk K n), nI (zp_sk K n).length, nI (zp_ow K n), oI w, nb, ps, nI tn, K, A, B, bo, lk, dm, ma, mb, ji, op, bf, tr, va, mr, fr))
    (h2 : zp_lg K C n w k = true → ¬ zp_FT K n w k x y → post (-2) (u0, u1, u2, fP, nI C, fS, nI n, nI (zp_bk K n), nI (zp_sk K n).length, nI (zp_ow K n), oI w, nb, ps, nI tn, K, A, B, bo, lk, dm, ma, mb, ji, op, bf, tr, va, mr, fr))
    (h3 : zp_lg K C n w k = true → zp_FT K n w k x y → zx_PC post C n w k x y u0 u1 u2 fP fS nb ps K A B bo lk dm ma mb ji op bf va mr fr (zb_cw K C n w k x y (tr, tn))) : wpX_add post (u0, u1, u2, fP, nI C, fS, nI n, nI (zp_bk K n), nI (zp_sk K n).length, nI (zp_ow K n), oI w, nb, ps, nI tn, K, A, B, bo, lk, dm, ma, mb, ji, op, bf, tr, va, mr, fr) k x y := by
  unfold wpX_add
  dsimp only
  refine x_legal I hf hS (fun hl => br_f (by decide) ?_) (fun hl => br_t rfl (h1 hl))
  refine x_fit I hS (zi_lM hl) (zi_lw hl).mp (fun hF => br_f (by decide) ?_) (fun hF => br_t rfl (h2 hl hF))
  exact x_perf I hf hS hl hF ht (h3 hl hF)
end
end
section
/-! the reference: bits out and in -/
section
variable {fP fC fS fn ps : Int32} {K A B va oK oA oB ro fr we : Nat → Int32}
theorem y_log {post : Int32 → Prop} {nb : Int32} {bf : Nat → Int32} {r : Nat} (hr : r < 32) (h : post (nI (zb_lg r))) : wpY_log post (fP, fC, fS, fn, nb, ps, K, A, B, va, oK, oA, oB, ro, fr, bf, we) (nI r) := by
  have go : ∀ d j c, j < 6 → 2 ^ j ≤ r → wY_log_4 post (nI r) fP fC fS fn nb ps K A B va oK oA oB ro fr bf we d (nI j) (nI (j + 1)) → wY_log_4 post (nI r) fP fC fS fn nb ps K A B va oK oA oB ro fr bf we (d + 1) c (nI j) := by
    intro d j c hj hr' hw
    refine br_f (nI_nlt (b := j) (a := 5) (by omega) (by omega)) ?_
    rw [zb_sh1 j (by omega)]
    exact br_f (nI_nlt hr' (by omega)) (nm_r (nI_1 j) hw)
  have no : ∀ d j c, j < 6 → r < 2 ^ j → wY_log_4 post (nI r) fP fC fS fn nb ps K A B va oK oA oB ro fr bf we d c (nI (j + 1)) → wY_log_4 post (nI r) fP fC fS fn nb ps K A B va oK oA oB ro fr bf we (d + 1) c (nI j) := by
    intro d j c hj hr' hw
    refine br_f (nI_nlt (b := j) (a := 5) (by omega) (by omega)) ?_
    rw [zb_sh1 j (by omega)]
    have : 2 ^ j ≤ 2 ^ 5 := Nat.pow_le_pow_right (by omega) (by omega)
    exact br_t (nI_lt hr' (by omega)) (nm_r (nI_1 j) hw)
  have fin : ∀ d c, post c → wY_log_4 post (nI r) fP fC fS fn nb ps K A B va oK oA oB ro fr bf we (d + 1) c (nI 6) := fun d c hc => br_t (by decide) hc
  refine Exists.intro 6 ?_
  unfold zb_lg at h
  by_cases a : r < 2
  · rw [if_pos a] at h
    exact no 5 1 0 (by omega) (by omega) (no 4 2 0 (by omega) (by omega) (no 3 3 0 (by omega) (by omega) (no 2 4 0 (by omega) (by omega) (no 1 5 0 (by omega) (by omega) (fin 0 _ h)))))
  rw [if_neg a] at h
  refine go 5 1 0 (by omega) (by omega) ?_
  by_cases b : r < 4
  · rw [if_pos b] at h
    exact no 4 2 _ (by omega) (by omega) (no 3 3 _ (by omega) (by omega) (no 2 4 _ (by omega) (by omega) (no 1 5 _ (by omega) (by omega) (fin 0 _ h))))
  rw [if_neg b] at h
  refine go 4 2 _ (by omega) (by omega) ?_
  by_cases c : r < 8
  · rw [if_pos c] at h
    exact no 3 3 _ (by omega) (by omega) (no 2 4 _ (by omega) (by omega) (no 1 5 _ (by omega) (by omega) (fin 0 _ h)))
  rw [if_neg c] at h
  refine go 3 3 _ (by omega) (by omega) ?_
  by_cases e : r < 16
  · rw [if_pos e] at h
    exact no 2 4 _ (by omega) (by omega) (no 1 5 _ (by omega) (by omega) (fin 0 _ h))
  rw [if_neg e] at h
  exact go 2 4 _ (by omega) (by omega) (no 1 5 _ (by omega) hr (fin 0 _ h))
theorem y_wbl {post : SY → Prop} {x : Nat} (hx : x < 2 ^ 31) : ∀ j bf tn, j < 32 → tn ≤ 256 → post (fP, fC, fS, fn, nI (zb_wb x j (bf, tn)).2, ps, K, A, B, va, oK, oA, oB, ro, fr, (zb_wb x j (bf, tn)).1, we) → wY_write_50 post (nI x) fP fC fS fn ps (j + 1) (nI j - 1) (nI tn) K A B va oK oA oB ro fr bf we := by
  intro j
  induction j with
  | zero => intro bf tn _ _ h; exact br_t (by decide) h
  | succ j ih =>
    intro bf tn hj htn h
    have h' : post (fP, fC, fS, fn, nI (zb_wb x j (zb_ps (nI (x / 2 ^ j % 2)) (bf, tn))).2, ps, K, A, B, va, oK, oA, oB, ro, fr, (zb_wb x j (zb_ps (nI (x / 2 ^ j % 2)) (bf, tn))).1, we) := h
    rw [nI_pred]
    refine br_f (nI_pos (by omega)) (pk_le 256 tn (fun z => ?_) (fun z => ?_) rfl rfl (by omega) (by omega))
    · rw [show zb_ps (nI (x / 2 ^ j % 2)) (bf, tn) = (bf, tn) from if_neg (by show ¬ tn < 256; omega)] at h'
      exact nm_r (zp_m1s _) (ih bf tn (by omega) htn h')
    · rw [show zb_ps (nI (x / 2 ^ j % 2)) (bf, tn) = (upd bf tn (nI (x / 2 ^ j % 2)), tn + 1) from if_pos z] at h'
      rw [zb_sb hx (by omega)]
      refine And.intro (vp_in_nI z (by omega)) ?_
      rw [nI_clamp (by omega)]
      exact nm_e (nm_r (nI_1 tn) (nm_r (zp_m1s _) (ih (upd bf tn (nI (x / 2 ^ j % 2))) (tn + 1) (by omega) (by omega) h')))
theorem y_write {post : SY → Prop} {r c tn : Nat} {bf : Nat → Int32} (hr : r < 32) (hc : c < 32) (ht : tn ≤ 256) (h : post (fP, fC, fS, fn, nI (zb_wr r c (bf, tn)).2, ps, K, A, B, va, oK, oA, oB, ro, fr, (zb_wr r c (bf, tn)).1, we)) : wpY_write post (fP, fC, fS, fn, nI tn, ps, K, A, B, va, oK, oA, oB, ro, fr, bf, we) (nI c) (nI r) := by
  have l4 := zb_lg4 r
  have lu := zb_lgu hr
  have u32 := zb_u32 r
  have e : (2 : Int32) <<< (nI (zb_lg r) &&& 31) - nI r = nI (zb_u r) := by
    rw [zb_sh2 _ (by omega), pk_sub (by omega)]; rfl
  unfold wpY_write
  dsimp only
  refine y_log hr (nm_r e (pk_le (zb_u r) c (fun z => ?_) (fun z => ?_) rfl rfl (by omega) (by omega)))
  · unfold zb_wr at h
    rw [if_neg (by omega)] at h
    rw [nI_add]
    refine br_t (nI_le z (by omega)) (nm_r (nI_1 _) (nm_e ⟨zb_lg r + 1 + 1, ?_⟩))
    exact y_wbl (by omega) (zb_lg r + 1) bf tn (by omega) ht h
  · unfold zb_wr at h
    rw [if_pos z] at h
    refine br_f (nI_ge z (by omega)) (nm_e ⟨zb_lg r + 1, ?_⟩)
    exact y_wbl (by omega) (zb_lg r) bf tn (by omega) ht h
end
section
variable {fP fC fS fn : Int32} {K A B va oK oA oB ro fr bf we : Nat → Int32} {bn : Nat} {post : Int32 → SY → Prop}
theorem zb_bitv {rp : Nat} (hbf : ∀ i, bf i = 0 ∨ bf i = 1) (z : rp < bn) : bf rp = nI (zb_bit bf bn rp) := by
  unfold zb_bit
  rw [if_pos z]
  rcases hbf rp with g | g
  · rw [if_pos g, g]; rfl
  · rw [if_neg (by rw [g]; decide), g]; rfl
theorem y_take {rp : Nat} (hbf : ∀ i, bf i = 0 ∨ bf i = 1) (hb : bn ≤ 256) (hp : rp ≤ 256) (h : post (nI (zb_bit bf bn rp)) (fP, fC, fS, fn, nI bn, nI (zb_np bn rp), K, A, B, va, oK, oA, oB, ro, fr, bf, we)) : wpY_take post (fP, fC, fS, fn, nI bn, nI rp, K, A, B, va, oK, oA, oB, ro, fr, bf, we) := by
  refine pk_lt rp bn (fun z => nm_r (nI_1 rp) ?_) (fun z => ?_) rfl rfl (by omega) (by omega)
  · rw [nI_pred, nI_clamp (by omega), zb_bitv hbf z]
    unfold zb_np at h
    rw [if_pos z] at h
    exact ⟨vp_in_nI (by omega) (by omega), h⟩
  · unfold zb_np zb_bit at h
    rw [if_neg (by omega), if_neg (by omega)] at h
    exact h
theorem y_rdl {u k : Nat} (hbf : ∀ i, bf i = 0 ∨ bf i = 1) (hb : bn ≤ 256) (hk : k ≤ 4) (hu : u ≤ 32) : ∀ j i x rp, i + j = k → x < 2 ^ i → rp ≤ 256 → ((zb_rk bf bn j x rp).1 < u → post (nI (zb_rk bf bn j x rp).1) (fP, fC, fS, fn, nI bn, nI (zb_rk bf bn j x rp).2, K, A, B, va, oK, oA, oB, ro, fr, bf, we)) → (¬ (zb_rk bf bn j x rp).1 < u → post (nI (2 * (zb_rk bf bn j x rp).1 + zb_bit bf bn (zb_rk bf bn j x rp).2 - u)) (fP, fC, fS, fn, nI bn, nI (zb_np bn (zb_rk bf bn j x rp).2), K, A, B, va, oK, oA, oB, ro, fr, bf, we)) → wY_read_18 post (nI k) (nI u) (j + 1) (nI x) (nI i) fP fC fS fn (nI bn) (nI rp) K A B va oK oA oB ro fr bf we := by
  have dbl : ∀ x b, (2 : Int32) * nI x + nI b = nI (2 * x + b) := fun x b => by
    rw [show (2 : Int32) = nI 2 from rfl, pk_mul, nI_add]
  intro j
  induction j with
  | zero =>
    intro i x rp hi hx hp h1 h2
    have x16 : 2 ^ i ≤ 2 ^ 4 := Nat.pow_le_pow_right (by omega) (by omega)
    refine br_t (nI_le (by omega) (by omega)) (pk_le u x (fun z => ?_) (fun z => h1 z) rfl rfl (by omega) (by omega))
    refine y_take hbf hb hp ?_
    rw [dbl, pk_sub (by omega)]
    exact h2 (by show ¬ x < u; omega)
  | succ j ih =>
    intro i x rp hi hx hp h1 h2
    have b1 := zb_bit1 bf bn rp
    refine br_f (nI_ge (by omega) (by omega)) (y_take hbf hb hp ?_)
    refine nm_r (dbl _ _) (nm_r (nI_1 i) ?_)
    exact ih (i + 1) _ _ (by omega) (by rw [Nat.pow_succ]; omega) (zb_npb hb hp) h1 h2
theorem y_read {r rp : Nat} (hbf : ∀ i, bf i = 0 ∨ bf i = 1) (hb : bn ≤ 256) (hp : rp ≤ 256) (hr : r < 32) (h : post (nI (zb_rd bf bn r rp).1) (fP, fC, fS, fn, nI bn, nI (zb_rd bf bn r rp).2, K, A, B, va, oK, oA, oB, ro, fr, bf, we)) : wpY_read post (fP, fC, fS, fn, nI bn, nI rp, K, A, B, va, oK, oA, oB, ro, fr, bf, we) (nI r) := by
  have l4 := zb_lg4 r
  have lu := zb_lgu hr
  have u32 := zb_u32 r
  have e : (2 : Int32) <<< (nI (zb_lg r) &&& 31) - nI r = nI (zb_u r) := by
    rw [zb_sh2 _ (by omega), pk_sub (by omega)]; rfl
  unfold wpY_read
  dsimp only
  refine y_log hr (nm_r e ⟨zb_lg r + 1, ?_⟩)
  refine y_rdl hbf hb l4 u32 (zb_lg r) 0 0 rp (by omega) (by decide) hp (fun z => ?_) (fun z => ?_)
  · unfold zb_rd at h
    rw [if_pos z] at h; exact h
  · unfold zb_rd at h
    rw [if_neg z] at h; exact h
end
section
variable {fP fS : Int32} {K A B va oK oA oB ro fr we : Nat → Int32} {P C n : Nat} {w : Option Nat} {k x y : Int32}
theorem y_legB {post : Int32 → Prop} {nb ps : Int32} {bf : Nat → Int32} {l : Nat} (I : zp_I P C n w K A B) (hl : l ≤ 11) (h : post (nI (zb_kl K C n w l).length)) : wpY_legalBelow post (fP, nI C, fS, nI n, nb, ps, K, A, B, va, oK, oA, oB, ro, fr, bf, we) (nI l) := by
  refine Exists.intro (l + 1) ?_
  refine ll_c (W := fun d c i => wY_legalBelow_4 post (nI l) fP (nI C) fS (nI n) nb ps K A B va oK oA oB ro fr bf we d c i) (p := fun i => zp_lg K C n w (nI i)) (R := fun c => post (nI c)) ?_ ?_ ?_ h
  · intro d c hr
    exact br_t (nI_le (Nat.le_refl _) (by omega)) hr
  · intro d c i hi hp hr
    refine br_f (nI_ge hi (by omega)) (br_f (nI_nlt (a := 10) (by omega) (by omega)) (y_legal I (fun _ => br_f (by decide) ?_) (fun z => by rw [hp] at z; cases z)))
    exact nm_r (nI_1 c) (nm_r (nI_1 i) hr)
  · intro d c i hi hp hr
    refine br_f (nI_ge hi (by omega)) (br_f (nI_nlt (a := 10) (by omega) (by omega)) (y_legal I (fun z => by rw [hp] at z; cases z) (fun _ => br_t rfl ?_)))
    exact nm_r (nI_1 i) hr
theorem y_rop {post : Int32 → SY → Prop} {bn rp t p : Nat} {bf : Nat → Int32} {wh : Int32} (I : zp_I P C n w K A B) (hbf : ∀ i, bf i = 0 ∨ bf i = 1) (hb : bn ≤ 256) (hp : rp ≤ 256) (ht : t ≤ 2) (hpn : p ≤ n)
    (hd : ∀ Q : Int32 → Prop, Q (zp_yt t) → wpY_demand Q (fP, nI C, fS, nI n, nI bn, nI rp, K, A, B, va, oK, oA, oB, ro, fr, bf, we) k wh) (hv : t ≠ 0 → ∀ Q : Int32 → Prop, Q (nI (zp_bk K p)) → wpY_view Q (fP, nI C, fS, nI n, nI bn, nI rp, K, A, B, va, oK, oA, oB, ro, fr, bf, we) k wh) (hc : t ≠ 0 → zp_ct K n t p ≠ [])
    (h : post (if t = 0 then (-1, rp) else zb_pk K n t p bf bn rp).1 (fP, nI C, fS, nI n, nI bn, nI (if t = 0 then (-1, rp) else zb_pk K n t p bf bn rp).2, K, A, B, va, oK, oA, oB, ro, fr, bf, we)) : wpY_readOperand post (fP, nI C, fS, nI n, nI bn, nI rp, K, A, B, va, oK, oA, oB, ro, fr, bf, we) k wh := by
  have hn := zi_16 I
  unfold wpY_readOperand
  dsimp only
  refine hd _ ?_
  by_cases t0 : t = 0
  · rw [if_pos t0] at h
    exact br_t ((zp_yt0 ht).mpr t0) h
  · rw [if_neg t0] at h
    have hc := hc t0
    have l1 : 1 ≤ (zp_ct K n t p).length := List.length_pos_iff.mpr hc
    have l2 := zp_ct_len (K := K) n t p
    have l3 := zp_bk_le (K := K) p
    have r1 := zb_rdb (bf := bf) (r := (zp_ct K n t p).length) hb hp l1 (by omega)
    refine br_f (fun z => t0 ((zp_yt0 ht).mp z)) (hv t0 _ (y_blocks hn ht hpn (y_read hbf hb hp (by omega) ?_)))
    refine y_nth hn ht hpn (by omega) ?_
    unfold zb_pk at h
    generalize zb_rd bf bn (zp_ct K n t p).length rp = c at r1 h ⊢
    have e1 : (zp_ct K n t p)[c.1]? = some ((zp_ct K n t p)[c.1]) := List.getElem?_eq_getElem r1.1
    rw [e1] at h ⊢
    have m1 := zp_ct_mem.mp (List.mem_of_getElem? e1)
    have h' : post (oI ((zp_it K t ((zp_ct K n t p)[c.1]) n)[(zb_rd bf bn (zp_it K t ((zp_ct K n t p)[c.1]) n).length c.2).1]?)) (fP, nI C, fS, nI n, nI bn, nI (zb_rd bf bn (zp_it K t ((zp_ct K n t p)[c.1]) n).length c.2).2, K, A, B, va, oK, oA, oB, ro, fr, bf, we) := h
    generalize (zp_ct K n t p)[c.1] = b at m1 h' ⊢
    have b1 := zp_ch_le p b m1.1
    have l4 : 1 ≤ (zp_it K t b n).length := List.length_pos_iff.mpr m1.2
    have l5 := zp_it_len (K := K) t b n
    have r2 := zb_rdb (bf := bf) (r := (zp_it K t b n).length) hb r1.2 l4 (by omega)
    have q1 : (zp_it K t b n).length < 32 := by omega
    have q2 : (zb_rd bf bn (zp_it K t b n).length c.2).1 < 100 := by omega
    have q3 : b < 2 ^ 31 := by omega
    refine y_held hn ht q3 (y_read hbf hb r1.2 q1 ?_)
    exact y_item hn ht q3 q2 h'
/-- the last place of the sought one -/
theorem y_wop {post : SY → Prop} {tn t p v : Nat} {bf : Nat → Int32} {ps wh : Int32} (I : zp_I P C n w K A B) (ht : t ≤ 2) (hpn : p ≤ n) (htn : tn ≤ 256) (t0 : t ≠ 0) (hv : v < n) (hm : zp_bk K v ∈ zp_ch K p) (hty : zp_ty (K v) = t)
    (hd : ∀ Q : Int32 → Prop, Q (zp_yt t) → wpY_demand Q (fP, nI C, fS, nI n, nI tn, ps, K, A, B, va, oK, oA, oB, ro, fr, bf, we) k wh) (hvw : ∀ Q : Int32 → Prop, Q (nI (zp_bk K p)) → wpY_view Q (fP, nI C, fS, nI n, nI tn, ps, K, A, B, va, oK, oA, oB, ro, fr, bf, we) k wh)
    (h : post (fP, nI C, fS, nI n, nI (zb_wo K n t p v (bf, tn)).2, ps, K, A, B, va, oK, oA, oB, ro, fr, (zb_wo K n t p v (bf, tn)).1, we)) : wpY_writeOperand post (fP, nI C, fS, nI n, nI tn, ps, K, A, B, va, oK, oA, oB, ro, fr, bf, we) k wh (nI v) := by
  have hn := zi_16 I
  have b1 := zp_bk_le (K := K) v
  have b2 := zp_bk_le (K := K) p
  have l1 := zp_ct_len (K := K) n t p
  have mem : zp_bk K v ∈ zp_ct K n t p := zp_ct_mem.mpr ⟨hm, List.ne_nil_of_mem (zp_it_mem.mpr ⟨hv, rfl, hty⟩)⟩
  have l2 := zp_bi_at mem
  have l3 := zp_it_len (K := K) t (zp_bk K v) n
  have l4 := zp_it_at (K := K) (n := n) (t := t) (b := zp_bk K v) ⟨rfl, hty⟩ hv
  have s2 : (zb_wr (zp_ct K n t p).length (zp_bi K n t p (zp_bk K v)) (bf, tn)).2 ≤ 256 := zb_wrb htn
  unfold wpY_writeOperand
  dsimp only
  refine hd _ (br_f (fun z => t0 ((zp_yt0 ht).mp z)) (hvw _ (y_blockOf hn (by omega) (y_blocks hn ht hpn ⟨(zp_ct K n t p).length + 1, ?_⟩))))
  have L2 : ∀ d j c, j + d = (zp_it K t (zp_bk K v) n).length → (j ≤ (zp_it K t (zp_bk K v) v).length → c = 0) → ((zp_it K t (zp_bk K v) v).length < j → c = (zp_it K t (zp_bk K v) v).length) → wY_writeOperand_102 post (nI v) (zp_yt t) (nI (zp_bk K v)) (nI (zp_it K t (zp_bk K v) n).length) fP (nI C) fS (nI n) (nI (zb_wr (zp_ct K n t p).length (zp_bi K n t p (zp_bk K v)) (bf, tn)).2) ps K A B va oK oA oB ro fr ((zb_wr (zp_ct K n t p).length (zp_bi K n t p (zp_bk K v)) (bf, tn)).1) we (d + 1) (nI c) (nI j) := by
    intro d
    induction d with
    | zero =>
      intro j c hj c1 c2
      have : c = (zp_it K t (zp_bk K v) v).length := c2 (by omega)
      subst this
      exact br_t (nI_le (by omega) (by omega)) (y_write (by omega) (by omega) s2 h)
    | succ d ih =>
      intro j c hj c1 c2
      refine br_f (nI_ge (by omega) (by omega)) (y_item hn ht (by omega) (by omega) ?_)
      have jl : j < (zp_it K t (zp_bk K v) n).length := by omega
      have e : (zp_it K t (zp_bk K v) n)[j]? = some v ↔ j = (zp_it K t (zp_bk K v) v).length := by
        rw [← l4.1, List.getElem?_inj jl (zp_it_nd t (zp_bk K v) n)]
      rw [zp_oIeq (o := (zp_it K t (zp_bk K v) n)[j]?) (x := v) (fun i hi => by have := (zp_it_mem.mp (List.mem_of_getElem? hi)).1; omega) (by omega), e]
      refine br_c (fun z => nm_r (nI_1 j) ?_) (fun z => nm_r (nI_1 j) ?_)
      · exact ih (j + 1) j (by omega) (fun q => by omega) (fun _ => z)
      · exact ih (j + 1) c (by omega) (fun q => c1 (by omega)) (fun q => c2 (by omega))
  have L1 : ∀ d j c, j + d = (zp_ct K n t p).length → (j ≤ zp_bi K n t p (zp_bk K v) → c = 0) → (zp_bi K n t p (zp_bk K v) < j → c = zp_bi K n t p (zp_bk K v)) → wY_writeOperand_46 post (nI v) (zp_yt t) (nI (zp_bk K p)) (nI (zp_bk K v)) (nI (zp_ct K n t p).length) fP (nI C) fS (nI n) (nI tn) ps K A B va oK oA oB ro fr bf we (d + 1) (nI c) (nI j) := by
    intro d
    induction d with
    | zero =>
      intro j c hj c1 c2
      have : c = zp_bi K n t p (zp_bk K v) := c2 (by omega)
      subst this
      refine br_t (nI_le (by omega) (by omega)) (y_write (by omega) (by omega) htn ?_)
      exact y_held hn ht (by omega) ⟨(zp_it K t (zp_bk K v) n).length + 1, L2 _ 0 0 (by omega) (fun _ => rfl) (fun z => by omega)⟩
    | succ d ih =>
      intro j c hj c1 c2
      refine br_f (nI_ge (by omega) (by omega)) (y_nth hn ht hpn (by omega) ?_)
      have jl : j < (zp_ct K n t p).length := by omega
      have e : (zp_ct K n t p)[j]? = some (zp_bk K v) ↔ j = zp_bi K n t p (zp_bk K v) := by
        rw [← l2.1, List.getElem?_inj jl (zp_ct_nd n t p)]
      rw [zp_oIeq (o := (zp_ct K n t p)[j]?) (x := zp_bk K v) (fun i hi => by have := zp_ch_le p i (zp_ct_mem.mp (List.mem_of_getElem? hi)).1; omega) (by omega), e]
      refine br_c (fun z => nm_r (nI_1 j) ?_) (fun z => nm_r (nI_1 j) ?_)
      · exact ih (j + 1) j (by omega) (fun q => by omega) (fun _ => z)
      · exact ih (j + 1) c (by omega) (fun q => c1 (by omega)) (fun q => c2 (by omega))
  exact L1 _ 0 0 (by omega) (fun _ => rfl) (fun z => by omega)
end
end
section
/-! one choice read and made: the component -/
def zb_k (K : Nat → Int32) (C n : Nat) (w : Option Nat) (bf : Nat → Int32) (nb ps : Nat) : Int32 := nI (((zb_kl K C n w 11)[(zb_rd bf nb (zb_kl K C n w 11).length ps).1]?).getD 0)
def zb_k2 (K : Nat → Int32) (C n : Nat) (w : Option Nat) (bf : Nat → Int32) (nb ps : Nat) : Nat := (zb_rd bf nb (zb_kl K C n w 11).length ps).2
theorem zb_kF {K bf : Nat → Int32} {C n nb ps M : Nat} {w : Option Nat} (hf : zp_fi K n = false) (hM : nb ≤ M) (hps : ps ≤ M) : zp_lg K C n w (zb_k K C n w bf nb ps) = true ∧ zb_k2 K C n w bf nb ps ≤ M ∧ (zb_rd bf nb (zb_kl K C n w 11).length ps).1 < 11 ∧ ∃ i, (zb_kl K C n w 11)[(zb_rd bf nb (zb_kl K C n w 11).length ps).1]? = some i ∧ i < 11 ∧ zb_k K C n w bf nb ps = nI i := by
  have l1 := zb_kl_len (K := K) (C := C) (n := n) (w := w) 11
  have l2 := zb_kl_pos (C := C) (w := w) hf
  have r := zb_rdb (bf := bf) (r := (zb_kl K C n w 11).length) hM hps l2 (by omega)
  obtain ⟨i, h1, h2, h3⟩ := zb_kl_at r.1
  have e : zb_k K C n w bf nb ps = nI i := by unfold zb_k; rw [h1]; rfl
  exact ⟨by rw [e]; exact h3, r.2, by omega, i, h1, h2, e⟩
section
variable {u0 u1 u2 fP fS tb : Int32} {K A B bo lk dm ma mb ji op bf tr va mr fr : Nat → Int32} {P C n bn : Nat} {w : Option Nat} {k x y : Int32}
theorem x_pick {post : Int32 → SX → Prop} {rp t p : Nat} (hn : n ≤ 16) (hS : zx_S n n K bo lk dm ma mb ji op) (hb : bn ≤ 256) (hp : rp ≤ 256) (ht : t ≤ 2) (hpn : p ≤ n) (hc : zp_ct K n t p ≠ []) (h : post (zb_pk K n t p bf bn rp).1 (u0, u1, u2, fP, nI C, fS, nI n, nI (zp_bk K n), nI (zp_sk K n).length, nI (zp_ow K n), oI w, nI bn, nI (zb_pk K n t p bf bn rp).2, tb, K, A, B, bo, lk, dm, ma, mb, ji, op, bf, tr, va, mr, fr)) : wpX_pick post (u0, u1, u2, fP, nI C, fS, nI n, nI (zp_bk K n), nI (zp_sk K n).length, nI (zp_ow K n), oI w, nI bn, nI rp, tb, K, A, B, bo, lk, dm, ma, mb, ji, op, bf, tr, va, mr, fr) (nI (zp_bk K p)) (nI t) := by
  have l1 : 1 ≤ (zp_ct K n t p).length := List.length_pos_iff.mpr hc
  have l2 := zp_ct_len (K := K) n t p
  have l3 := zp_bk_le (K := K) p
  have r1 := zb_rdb (bf := bf) (r := (zp_ct K n t p).length) hb hp l1 (by omega)
  have c1 : (zb_rd bf bn (zp_ct K n t p).length rp).1 < 100 := by omega
  unfold wpX_pick
  dsimp only
  refine x_blocks hn hS ht hpn (x_read hb hp (by omega) (x_blockAt hn hS ht hpn c1 ?_))
  unfold zb_pk at h
  generalize zb_rd bf bn (zp_ct K n t p).length rp = c at r1 h ⊢
  have e1 : (zp_ct K n t p)[c.1]? = some ((zp_ct K n t p)[c.1]) := List.getElem?_eq_getElem r1.1
  rw [e1] at h ⊢
  have m1 := zp_ct_mem.mp (List.mem_of_getElem? e1)
  have h' : post (oI ((zp_it K t ((zp_ct K n t p)[c.1]) n)[(zb_rd bf bn (zp_it K t ((zp_ct K n t p)[c.1]) n).length c.2).1]?)) (u0, u1, u2, fP, nI C, fS, nI n, nI (zp_bk K n), nI (zp_sk K n).length, nI (zp_ow K n), oI w, nI bn, nI (zb_rd bf bn (zp_it K t ((zp_ct K n t p)[c.1]) n).length c.2).2, tb, K, A, B, bo, lk, dm, ma, mb, ji, op, bf, tr, va, mr, fr) := h
  generalize (zp_ct K n t p)[c.1] = b at m1 h' ⊢
  have b1 := zp_ch_le p b m1.1
  have l4 : 1 ≤ (zp_it K t b n).length := List.length_pos_iff.mpr m1.2
  have l5 := zp_it_len (K := K) t b n
  have r2 := zb_rdb (bf := bf) (r := (zp_it K t b n).length) hb r1.2 l4 (by omega)
  have q1 : (zp_it K t b n).length < 32 := by omega
  have q2 : (zb_rd bf bn (zp_it K t b n).length c.2).1 < 100 := by omega
  have q3 : b < 2 ^ 31 := by omega
  exact x_items hn (Nat.le_refl _) hS.1 ht q3 (x_read hb r1.2 q1 (x_itemAt hn hS.1 ht q3 q2 h'))
theorem x_pickA {post : Int32 → SX → Prop} {rp : Nat} (I : zp_I P C n w K A B) (hS : zx_S n n K bo lk dm ma mb ji op) (hl : zp_lg K C n w k = true) (hb : bn ≤ 256) (hp : rp ≤ 256) (h : post (zb_pa K n w k bf bn rp).1 (u0, u1, u2, fP, nI C, fS, nI n, nI (zp_bk K n), nI (zp_sk K n).length, nI (zp_ow K n), oI w, nI bn, nI (zb_pa K n w k bf bn rp).2, tb, K, A, B, bo, lk, dm, ma, mb, ji, op, bf, tr, va, mr, fr)) : wpX_pickA post (u0, u1, u2, fP, nI C, fS, nI n, nI (zp_bk K n), nI (zp_sk K n).length, nI (zp_ow K n), oI w, nI bn, nI rp, tb, K, A, B, bo, lk, dm, ma, mb, ji, op, bf, tr, va, mr, fr) k := by
  have hn := zi_16 I
  unfold zb_pa at h
  by_cases k1 : k = 1
  · rw [if_pos k1] at h
    exact br_t k1 (x_read (r := 8) hb hp (by omega) h)
  · rw [if_neg k1] at h
    refine br_f k1 (x_typeA I hS (x_viewA I hS (zi_lM hl) (zi_lw hl).mp ?_))
    have t3 := zt_A3 (K := K) (n := n) (w := w) k
    by_cases t0 : zp_tA K n w k = 0
    · rw [if_pos t0] at h
      exact br_t (by rw [t0]; rfl) h
    · rw [if_neg t0] at h
      exact br_f (nI_ne0 (by omega) (by omega)) (x_pick hn hS hb hp t3 (zt_vA k) ((zb_ok I hl).1 t0) h)
theorem x_pickB {post : Int32 → SX → Prop} {rp : Nat} (I : zp_I P C n w K A B) (hS : zx_S n n K bo lk dm ma mb ji op) (hl : zp_lg K C n w k = true) (hb : bn ≤ 256) (hp : rp ≤ 256) (h : post (zb_pb K n k bf bn rp).1 (u0, u1, u2, fP, nI C, fS, nI n, nI (zp_bk K n), nI (zp_sk K n).length, nI (zp_ow K n), oI w, nI bn, nI (zb_pb K n k bf bn rp).2, tb, K, A, B, bo, lk, dm, ma, mb, ji, op, bf, tr, va, mr, fr)) : wpX_pickB post (u0, u1, u2, fP, nI C, fS, nI n, nI (zp_bk K n), nI (zp_sk K n).length, nI (zp_ow K n), oI w, nI bn, nI rp, tb, K, A, B, bo, lk, dm, ma, mb, ji, op, bf, tr, va, mr, fr) k := by
  have hn := zi_16 I
  unfold zb_pb at h
  unfold wpX_pickB
  dsimp only
  refine x_typeB I hS (x_viewB I hS (fun v hv => ?_))
  have t3 := zt_B3 (K := K) (n := n) k
  by_cases t0 : zp_tB K n k = 0
  · rw [if_pos t0] at h
    exact br_t (by rw [t0]; rfl) h
  · rw [if_neg t0] at h
    rw [hv t0]
    exact br_f (nI_ne0 (by omega) (by omega)) (x_pick hn hS hb hp t3 (zt_vB k) ((zb_ok I hl).2 t0) h)
end
/-- what the next round of choices asks -/
def zx_MC (post : SX → Prop) (d i : Nat) : Int32 → SX → Prop := fun _ u => match u with
  | (u0, u1, u2, fP, fC, fS, fn, cu, dp, ow, aw, nb, ps, tb, K, A, B, bo, lk, dm, ma, mb, ji, op, bf, tr, va, mr, fr) => wX_makeChoices_2 post d (nI (i + 1)) u0 u1 u2 fP fC fS fn cu dp ow aw nb ps tb K A B bo lk dm ma mb ji op bf tr va mr fr
section
variable {u0 u1 u2 fP fS : Int32} {K A B bo lk dm ma mb ji op bf tr va mr fr : Nat → Int32} {P C n bn rp tn : Nat} {w : Option Nat}
theorem x_mc {post : SX → Prop} {d i : Nat} {k x y : Int32} {p2 p3 p4 : Nat} (I : zp_I P C n w K A B) (hf : zp_fi K n = false) (hS : zx_S n n K bo lk dm ma mb ji op) (hb : bn ≤ 256) (hp : rp ≤ 256) (ht : tn ≤ 256) (hi : i < 64)
    (hk : k = zb_k K C n w bf bn rp) (hp2 : p2 = zb_k2 K C n w bf bn rp) (hx : x = (zb_pa K n w k bf bn p2).1) (hp3 : p3 = (zb_pa K n w k bf bn p2).2) (hy : y = (zb_pb K n k bf bn p3).1) (hp4 : p4 = (zb_pb K n k bf bn p3).2)
    (H : zx_PC (zx_MC post d i) C n w k x y u0 u1 u2 fP fS (nI bn) (nI p4) K A B bo lk dm ma mb ji op bf va mr fr (zb_cw K C n w k x y (tr, tn))) :
    wX_makeChoices_2 post (d + 1) (nI i) u0 u1 u2 fP (nI C) fS (nI n) (nI (zp_bk K n)) (nI (zp_sk K n).length) (nI (zp_ow K n)) (oI w) (nI bn) (nI rp) (nI tn) K A B bo lk dm ma mb ji op bf tr va mr fr := by
  have hn := zi_16 I
  obtain ⟨i1, i2, i3, i4, i5, i6⟩ := I.1
  obtain ⟨kl, kp, kc, kk, ka, kb, kd⟩ := zb_kF (K := K) (C := C) (n := n) (w := w) (bf := bf) (M := 256) hf hb hp
  rw [← hk] at kl kd
  rw [← hp2] at kp
  have pa := zb_paF (bf := bf) (nb := bn) (ps := p2) I kl hb kp
  rw [← hx, ← hp3] at pa
  have pb := zb_pbF (bf := bf) (nb := bn) (ps := p3) I kl hb pa.2.2
  rw [← hy, ← hp4] at pb
  have ow1 : 1 ≤ zp_ow K n := by rw [zp_ow_f hf]; omega
  have l1 := zb_kl_len (K := K) (C := C) (n := n) (w := w) 11
  refine br_f (nI_ge (b := 64) hi (by omega)) (br_f (nI_ne0 (by omega) (by omega)) ?_)
  refine x_legB (l := 11) I hf hS (by omega) (x_read hb hp (by omega) (x_legAt I hf hS (by omega) ?_))
  have ek : nI (((zb_kl K C n w 11)[(zb_rd bf bn (zb_kl K C n w 11).length rp).1]?).getD 0) = k := hk.symm
  have ep : (zb_rd bf bn (zb_kl K C n w 11).length rp).2 = p2 := hp2.symm
  rw [ek, ep]
  refine x_pickA I hS kl hb kp ?_
  rw [← hx, ← hp3]
  refine x_pickB I hS kl hb pa.2.2 ?_
  rw [← hy, ← hp4]
  refine x_perf I hf hS kl ⟨pa.1, pa.2.1, pb.1⟩ ht ?_
  exact ⟨fun m e1 e2 => nm_r (nI_1 i) (H.1 m e1 e2), fun e1 e2 bo' lk' dm' ma' mb' ji' op' hS' => nm_r (nI_1 i) (H.2 e1 e2 bo' lk' dm' ma' mb' ji' op' hS')⟩
end
end
section
/-! one choice read and made: the reference -/
theorem zb_sub0 {a b : Nat} (ha : a < 2 ^ 30) (hb : b < 2 ^ 30) : nI a - nI b = 0 ↔ a = b := by
  constructor
  · intro h
    have := pk_sub_toInt ha hb
    rw [h, show (0 : Int32).toInt = 0 from by decide] at this
    omega
  · intro h
    rw [h]
    exact Int32.sub_self _
theorem zb_subs (a b : Nat) : nI a - nI b + (-1) = nI a - nI (b + 1) := by
  rw [← nI_1]
  grind
theorem zb_klk {K : Nat → Int32} {C n c kk : Nat} {w : Option Nat} (h : (zb_kl K C n w 11)[c]? = some kk) : ∀ j, j < 11 → ((zp_lg K C n w (nI j) = true ∧ (zb_kl K C n w j).length = c) ↔ j = kk) := by
  have nd : (zb_kl K C n w 11).Nodup := List.Nodup.sublist List.filter_sublist List.nodup_range
  have m := List.mem_filter.mp (List.mem_of_getElem? h)
  have hc : c < (zb_kl K C n w 11).length := (List.getElem?_eq_some_iff.mp h).1
  have at' : ∀ j, j < 11 → zp_lg K C n w (nI j) = true → (zb_kl K C n w 11)[(zb_kl K C n w j).length]? = some j := by
    intro j hj hl
    obtain ⟨l, e⟩ := zl_cut (p := fun i => zp_lg K C n w (nI i)) hl 11 hj
    have e' : zb_kl K C n w 11 = zb_kl K C n w j ++ j :: l := e
    rw [e', List.getElem?_append_right (Nat.le_refl _), Nat.sub_self]; rfl
  intro j hj
  constructor
  · rintro ⟨h1, h2⟩
    have := at' j hj h1
    rw [h2, h] at this
    injection this with this
    exact this.symm
  · intro e
    subst e
    have a := at' j hj m.2
    exact ⟨m.2, ((List.getElem?_inj hc nd).mp (h.trans a.symm)).symm⟩
section
variable {fP fS : Int32} {K A B va oK oA oB ro fr bf we : Nat → Int32} {P C n bn rp : Nat} {w : Option Nat} {post : SY → Prop}
theorem y_b34 {J : Int32 → Int32 → Int32 → Int32 → Int32 → Int32 → Int32 → (Nat → Int32) → (Nat → Int32) → (Nat → Int32) → (Nat → Int32) → (Nat → Int32) → (Nat → Int32) → (Nat → Int32) → (Nat → Int32) → (Nat → Int32) → (Nat → Int32) → (Nat → Int32) → Prop} {x1 ps : Int32} {c kk : Nat} (I : zp_I P C n w K A B) (hc : c < 100) (hk : (zb_kl K C n w 11)[c]? = some kk) (k11 : kk < 11)
    (h : wY_build_34 post J x1 fP (nI C) fS (nI n) (nI bn) ps K A B va oK oA oB ro fr bf we 1 (nI c - nI (zb_kl K C n w 11).length) (nI kk) (nI 11)) : ∃ d, wY_build_34 post J x1 fP (nI C) fS (nI n) (nI bn) ps K A B va oK oA oB ro fr bf we d (nI c) 0 0 := by
  have key : ∀ d j, j + d = 11 → wY_build_34 post J x1 fP (nI C) fS (nI n) (nI bn) ps K A B va oK oA oB ro fr bf we (d + 1) (nI c - nI (zb_kl K C n w j).length) (if kk < j then nI kk else 0) (nI j) := by
    intro d
    induction d with
    | zero =>
      intro j hj
      have : j = 11 := by omega
      subst this
      rw [if_pos k11]
      exact h
    | succ d ih =>
      intro j hj
      have I' := ih (j + 1) (by omega)
      have lj := zb_kl_len (K := K) (C := C) (n := n) (w := w) j
      have kq := zb_klk hk j (by omega)
      refine br_f (nI_nlt (a := 10) (by omega) (by omega)) (y_legal I (fun hl => br_f (by decide) ?_) (fun hl => br_t rfl (nm_r (nI_1 j) ?_)))
      · have e : (zb_kl K C n w (j + 1)).length = (zb_kl K C n w j).length + 1 := zl_rt (p := fun i => zp_lg K C n w (nI i)) hl
        rw [e, ← zb_subs] at I'
        by_cases hz : (zb_kl K C n w j).length = c
        · have jk := kq.mp ⟨hl, hz⟩
          subst jk
          rw [if_pos (by omega)] at I'
          exact br_t ((zb_sub0 (by omega) (by omega)).mpr hz.symm) (nm_e (nm_r (nI_1 j) I'))
        · have jk : ¬ j = kk := fun z => hz (kq.mpr z).2
          have e2 : (if kk < j + 1 then nI kk else (0 : Int32)) = (if kk < j then nI kk else 0) := by
            by_cases q : kk < j
            · rw [if_pos q, if_pos (by omega)]
            · rw [if_neg q, if_neg (by omega)]
          rw [e2] at I'
          exact br_f (fun z => hz ((zb_sub0 (by omega) (by omega)).mp z).symm) (nm_e (nm_r (nI_1 j) I'))
      · have e : (zb_kl K C n w (j + 1)).length = (zb_kl K C n w j).length := zl_rf (p := fun i => zp_lg K C n w (nI i)) hl
        rw [e] at I'
        have jk : ¬ j = kk := fun z => by have := (kq.mpr z).1; rw [hl] at this; cases this
        have e2 : (if kk < j + 1 then nI kk else (0 : Int32)) = (if kk < j then nI kk else 0) := by
          by_cases q : kk < j
          · rw [if_pos q, if_pos (by omega)]
          · rw [if_neg q, if_neg (by omega)]
        rw [e2] at I'
        exact I'
  have k0 := key 11 0 (by omega)
  rw [if_neg (by omega), show nI c - nI (zb_kl K C n w 0).length = nI c from Int32.sub_zero _] at k0
  exact ⟨12, k0⟩
theorem y_b89 {J : Int32 → Int32 → Int32 → Int32 → Int32 → Int32 → Int32 → (Nat → Int32) → (Nat → Int32) → (Nat → Int32) → (Nat → Int32) → (Nat → Int32) → (Nat → Int32) → (Nat → Int32) → (Nat → Int32) → (Nat → Int32) → (Nat → Int32) → (Nat → Int32) → Prop} {i p3 p4 : Nat} {k x y : Int32} (I : zp_I P C n w K A B) (hl : zp_lg K C n w k = true) (hbf : ∀ i, bf i = 0 ∨ bf i = 1) (hb : bn ≤ 256) (hp : p3 ≤ 256)
    (hy : y = (zb_pb K n k bf bn p3).1) (hp4 : p4 = (zb_pb K n k bf bn p3).2) (hF : zp_FT K n w k x y)
    (h3 : ∀ m, w = some m → k = 10 → J (nI (i + 1)) fP (nI C) fS (nI n) (nI bn) (nI p4) K A (upd B m x) va oK oA oB ro fr bf we)
    (h4 : w = none → k ≠ 10 → J (nI (i + 1)) fP (nI C) fS (nI (n + 1)) (nI bn) (nI p4) (upd K n k) (upd A n (zp_nA K n w k x)) (upd B n (zp_nB K n k y)) va oK oA oB ro fr bf we) :
    wY_build_89 post J (nI i) k x fP (nI C) fS (nI n) (nI bn) (nI p3) K A B va oK oA oB ro fr bf we := by
  have hM := zi_lM hl
  have hw := zi_lw hl
  unfold wY_build_89
  refine y_rop (t := zp_tB K n k) (p := zp_vB K n k) I hbf hb hp (zt_B3 k) (zt_vB k) (fun Q hQ => y_dem1 I hQ) (fun t0 Q hQ => y_vw1 I hM hw.mp (fun q hq => by rw [hq t0]; exact hQ)) (zb_ok I hl).2 ?_
  have e : (if zp_tB K n k = 0 then (-1, p3) else zb_pk K n (zp_tB K n k) (zp_vB K n k) bf bn p3) = zb_pb K n k bf bn p3 := rfl
  rw [e, ← hy, ← hp4]
  refine y_add I (fun z => by rw [hl] at z; cases z) (fun _ z => absurd hF z) (fun m _ _ e1 e2 => nm_r (nI_1 i) (h3 m e1 e2)) (fun _ _ e2 => nm_r (nI_1 i) ?_)
  cases w with
  | none => exact h4 rfl e2
  | some m => exact absurd (hw.mpr (fun z => by cases z)) e2
theorem y_bd {d i : Nat} {k x y : Int32} {p2 p3 p4 : Nat} (I : zp_I P C n w K A B) (hf : zp_fi K n = false) (hbf : ∀ i, bf i = 0 ∨ bf i = 1) (hb : bn ≤ 256) (hp : rp ≤ 256) (hi : i < 64)
    (hk : k = zb_k K C n w bf bn rp) (hp2 : p2 = zb_k2 K C n w bf bn rp) (hx : x = (zb_pa K n w k bf bn p2).1) (hp3 : p3 = (zb_pa K n w k bf bn p2).2) (hy : y = (zb_pb K n k bf bn p3).1) (hp4 : p4 = (zb_pb K n k bf bn p3).2)
    (h3 : ∀ m, w = some m → k = 10 → wY_build_2 post d (nI (i + 1)) fP (nI C) fS (nI n) (nI bn) (nI p4) K A (upd B m x) va oK oA oB ro fr bf we)
    (h4 : w = none → k ≠ 10 → wY_build_2 post d (nI (i + 1)) fP (nI C) fS (nI (n + 1)) (nI bn) (nI p4) (upd K n k) (upd A n (zp_nA K n w k x)) (upd B n (zp_nB K n k y)) va oK oA oB ro fr bf we) :
    wY_build_2 post (d + 1) (nI i) fP (nI C) fS (nI n) (nI bn) (nI rp) K A B va oK oA oB ro fr bf we := by
  have hn := zi_16 I
  obtain ⟨i1, i2, i3, i4, i5, i6⟩ := I.1
  obtain ⟨kl, kp, kc, kk, ka, kb, kd⟩ := zb_kF (K := K) (C := C) (n := n) (w := w) (bf := bf) (M := 256) hf hb hp
  rw [← hk] at kl kd
  rw [← hp2] at kp
  have pa := zb_paF (bf := bf) (nb := bn) (ps := p2) I kl hb kp
  rw [← hx, ← hp3] at pa
  have pb := zb_pbF (bf := bf) (nb := bn) (ps := p3) I kl hb pa.2.2
  rw [← hy, ← hp4] at pb
  have ow1 : 1 ≤ zp_ow K n := by rw [zp_ow_f hf]; omega
  have l1 := zb_kl_len (K := K) (C := C) (n := n) (w := w) 11
  have hM := zi_lM kl
  have hw := zi_lw kl
  refine br_f (nI_ge (b := 64) hi (by omega)) (y_owed hn I.2.2.2.1 (br_f (nI_nle (by omega) (by omega)) ?_))
  refine y_legB (l := 11) I (by omega) (y_read hbf hb hp (by omega) ?_)
  have ep : (zb_rd bf bn (zb_kl K C n w 11).length rp).2 = p2 := hp2.symm
  rw [ep]
  refine y_b34 I (by omega) ka kb ?_
  rw [← kd]
  have T : ∀ z, z = x → wY_build_89 post (wY_build_2 post d) (nI i) k z fP (nI C) fS (nI n) (nI bn) (nI p3) K A B va oK oA oB ro fr bf we := by
    intro z hz
    subst hz
    exact y_b89 I kl hbf hb pa.2.2 hy hp4 ⟨pa.1, pa.2.1, pb.1⟩ h3 h4
  refine br_t (by decide) ?_
  by_cases k1 : k = 1
  · have e : zb_pa K n w k bf bn p2 = (nI (zb_rd bf bn 8 p2).1, (zb_rd bf bn 8 p2).2) := if_pos k1
    rw [e] at hx hp3
    refine br_t k1 (y_read (r := 8) hbf hb kp (by omega) ?_)
    have e3 : (zb_rd bf bn 8 p2).2 = p3 := hp3.symm
    rw [e3]
    exact T _ hx.symm
  · have e : zb_pa K n w k bf bn p2 = (if zp_tA K n w k = 0 then (-1, p2) else zb_pk K n (zp_tA K n w k) (zp_vA K n k) bf bn p2) := if_neg k1
    refine br_f k1 (y_rop (t := zp_tA K n w k) (p := zp_vA K n k) I hbf hb kp (zt_A3 k) (zt_vA k) (fun Q hQ => y_dem0 I hQ) (fun t0 Q hQ => y_vw0 I hM hw.mp hQ) (zb_ok I kl).1 ?_)
    rw [← e, ← hp3]
    exact T _ hx.symm
end
end
section
/-! how a program came about, and the relation of the two states -/
def zr_N (C n : Nat) (w : Option Nat) (K A B T : Nat → Int32) (m n' : Nat) (w' : Option Nat) (K' A' B' T' : Nat → Int32) (m' : Nat) (k x y : Int32) : Prop :=
  zp_lg K C n w k = true ∧ zp_FT K n w k x y ∧ (T', m') = zb_cw K C n w k x y (T, m) ∧
  ((∃ q, w = some q ∧ k = 10 ∧ n' = n ∧ w' = zp_ma K n (q + 1) ∧ K' = K ∧ A' = A ∧ B' = upd B q x) ∨
   (w = none ∧ k ≠ 10 ∧ n' = n + 1 ∧ w' = zp_nw K n k ∧ K' = upd K n k ∧ A' = upd A n (zp_nA K n w k x) ∧ B' = upd B n (zp_nB K n k y)))
def zr_P (P C : Nat) : Nat → Nat → Option Nat → (Nat → Int32) → (Nat → Int32) → (Nat → Int32) → (Nat → Int32) → Nat → Prop
  | 0, n, w, K, A, B, _, m => n = P ∧ w = none ∧ m = 0 ∧ zp_I P C n w K A B
  | L + 1, n', w', K', A', B', T', m' => ∃ n w K A B T m k x y, zr_P P C L n w K A B T m ∧ zr_N C n w K A B T m n' w' K' A' B' T' m' k x y
def zr_R (P C n bn rp tn : Nat) (w : Option Nat) (K A B bo lk dm ma mb ji op bf tr : Nat → Int32) : Prop :=
  zp_I P C n w K A B ∧ zx_S n (zx_cp K n) K bo lk dm ma mb ji op ∧ bn ≤ 256 ∧ rp ≤ 256 ∧ tn ≤ 256 ∧ (∀ i, bf i = 0 ∨ bf i = 1) ∧ (∀ i, tr i = 0 ∨ tr i = 1) ∧ ∃ L, zr_P P C L n w K A B tr tn
section
variable {s : (Nat → Int32) × Nat} {r c : Nat}
theorem zb_ps01 {b : Int32} (hb : b = 0 ∨ b = 1) (h : ∀ i, s.1 i = 0 ∨ s.1 i = 1) : ∀ i, (zb_ps b s).1 i = 0 ∨ (zb_ps b s).1 i = 1 := by
  intro i
  unfold zb_ps
  by_cases z : s.2 < 256
  · rw [if_pos z]
    show upd s.1 s.2 b i = 0 ∨ upd s.1 s.2 b i = 1
    by_cases e : i = s.2
    · rw [e, pk_us]; exact hb
    · rw [pk_un e]; exact h i
  · rw [if_neg z]; exact h i
theorem zb_wb01 {x : Nat} : ∀ j (s : (Nat → Int32) × Nat), (∀ i, s.1 i = 0 ∨ s.1 i = 1) → ∀ i, (zb_wb x j s).1 i = 0 ∨ (zb_wb x j s).1 i = 1 := by
  intro j
  induction j with
  | zero => intro s h; exact h
  | succ j ih => intro s h; exact ih _ (zb_ps01 zb_mod2 h)
theorem zb_wr01 (h : ∀ i, s.1 i = 0 ∨ s.1 i = 1) : ∀ i, (zb_wr r c s).1 i = 0 ∨ (zb_wr r c s).1 i = 1 := by
  unfold zb_wr
  by_cases z : c < zb_u r
  · rw [if_pos z]; exact zb_wb01 _ _ h
  · rw [if_neg z]; exact zb_wb01 _ _ h
end
section
variable {K A B : Nat → Int32} {P C n : Nat} {w : Option Nat} {k x y : Int32} {s : (Nat → Int32) × Nat}
theorem zb_cw_all (Q : (Nat → Int32) × Nat → Prop) (hQ : ∀ r c s, Q s → Q (zb_wr r c s)) (h : Q s) : Q (zb_cw K C n w k x y s) := by
  have wo : ∀ t p v s, Q s → Q (zb_wo K n t p v s) := fun t p v s hs => hQ _ _ _ (hQ _ _ _ hs)
  have w1 : Q (zb_w1 K C n w k x s) := by
    unfold zb_w1
    by_cases k1 : k = 1
    · rw [if_pos k1]; exact hQ _ _ _ (hQ _ _ _ h)
    · rw [if_neg k1]; exact hQ _ _ _ h
  have w2 : Q (zb_w2 K n w k x (zb_w1 K C n w k x s)) := by
    unfold zb_w2
    by_cases t0 : zp_tA K n w k = 0
    · rw [if_pos t0]; exact w1
    · rw [if_neg t0]; exact wo _ _ _ _ w1
  unfold zb_cw zb_w3
  by_cases t0 : zp_tB K n k = 0
  · rw [if_pos t0]; exact w2
  · rw [if_neg t0]; exact wo _ _ _ _ w2
theorem zb_cwb (h : s.2 ≤ 256) : (zb_cw K C n w k x y s).2 ≤ 256 := zb_cw_all (fun s => s.2 ≤ 256) (fun _ _ _ hs => zb_wrb hs) h
theorem zb_cw01 (h : ∀ i, s.1 i = 0 ∨ s.1 i = 1) : ∀ i, (zb_cw K C n w k x y s).1 i = 0 ∨ (zb_cw K C n w k x y s).1 i = 1 := zb_cw_all (fun s => ∀ i, s.1 i = 0 ∨ s.1 i = 1) (fun _ _ _ hs => zb_wr01 hs) h
theorem zi_x10 {m : Nat} (I : zp_I P C n (some m) K A B) (hF : zp_FT K n (some m) 10 x y) : x ≠ -1 := by
  have hn := zi_16 I
  obtain ⟨o, a1, a2, a3, a4, _⟩ := zi_og I
  have t0 : zp_tA K n (some m) 10 ≠ 0 := by rw [zt_A10]; exact zp_tyM a4
  exact zs_SN hn (hF.2.1 t0)
variable {bo lk dm ma mb ji op bf tr : Nat → Int32} {bn rp tn : Nat}
/-- a filled merge keeps the relation -/
theorem zr_nxt {m p4 : Nat} (R : zr_R P C n bn rp tn (some m) K A B bo lk dm ma mb ji op bf tr) (hl : zp_lg K C n (some m) k = true) (hF : zp_FT K n (some m) k x y) (hp : p4 ≤ 256) : zr_R P C n bn p4 (zb_cw K C n (some m) k x y (tr, tn)).2 (zp_ma K n (m + 1)) K A (upd B m x) bo lk dm ma mb ji op bf (zb_cw K C n (some m) k x y (tr, tn)).1 := by
  obtain ⟨I, S, hb, hrp, ht, h01, ht01, L, hP⟩ := R
  have k10 : k = 10 := (zg_s.mp hl).2
  subst k10
  exact ⟨zs_nxt I (zi_x10 I hF), S, hb, hp, zb_cwb ht, h01, zb_cw01 ht01, L + 1, n, some m, K, A, B, tr, tn, 10, x, y, hP, hl, hF, rfl, Or.inl ⟨m, rfl, rfl, rfl, rfl, rfl, rfl, rfl⟩⟩
/-- an appended item keeps the relation -/
theorem zr_app {p4 : Nat} {bo' lk' dm' ma' mb' ji' op' : Nat → Int32} (R : zr_R P C n bn rp tn none K A B bo lk dm ma mb ji op bf tr) (hl : zp_lg K C n none k = true) (hF : zp_FT K n none k x y) (hp : p4 ≤ 256) (k10 : k ≠ 10) (hS : zx_S (n + 1) (zx_cp (upd K n k) (n + 1)) (upd K n k) bo' lk' dm' ma' mb' ji' op') : zr_R P C (n + 1) bn p4 (zb_cw K C n none k x y (tr, tn)).2 (zp_nw K n k) (upd K n k) (upd A n (zp_nA K n none k x)) (upd B n (zp_nB K n k y)) bo' lk' dm' ma' mb' ji' op' bf (zb_cw K C n none k x y (tr, tn)).1 := by
  obtain ⟨I, S, hb, hrp, ht, h01, ht01, L, hP⟩ := R
  exact ⟨zs_app I hl hF, hS, hb, hp, zb_cwb ht, h01, zb_cw01 ht01, L + 1, n, none, K, A, B, tr, tn, k, x, y, hP, hl, hF, rfl, Or.inr ⟨rfl, k10, rfl, rfl, rfl, rfl, rfl⟩⟩
end
section
variable {u0 u1 u2 fS : Int32} {bf va mr fr oK oA oB ro we : Nat → Int32} {P C bn : Nat}
/-- both sides make their choices alike -/
theorem zz_mc {post : SX → Prop} : ∀ (d i n rp tn : Nat) (w : Option Nat) (K A B bo lk dm ma mb ji op tr : Nat → Int32), i + d = 64 → zr_R P C n bn rp tn w K A B bo lk dm ma mb ji op bf tr →
    (∀ (n' rp' tn' : Nat) (w' : Option Nat) (K' A' B' bo' lk' dm' ma' mb' ji' op' tr' : Nat → Int32), zr_R P C n' bn rp' tn' w' K' A' B' bo' lk' dm' ma' mb' ji' op' bf tr' → (∀ postY : SY → Prop, postY (nI P, nI C, fS, nI n', nI bn, nI rp', K', A', B', va, oK, oA, oB, ro, fr, bf, we) → wY_build_2 postY (d + 1) (nI i) (nI P) (nI C) fS (nI n) (nI bn) (nI rp) K A B va oK oA oB ro fr bf we) →
      post (u0, u1, u2, nI P, nI C, fS, nI n', nI (zp_bk K' (zx_cp K' n')), nI (zp_sk K' n').length, nI (zp_ow K' n'), oI w', nI bn, nI rp', nI tn', K', A', B', bo', lk', dm', ma', mb', ji', op', bf, tr', va, mr, fr)) →
    wX_makeChoices_2 post (d + 1) (nI i) u0 u1 u2 (nI P) (nI C) fS (nI n) (nI (zp_bk K (zx_cp K n))) (nI (zp_sk K n).length) (nI (zp_ow K n)) (oI w) (nI bn) (nI rp) (nI tn) K A B bo lk dm ma mb ji op bf tr va mr fr := by
  intro d
  induction d with
  | zero =>
    intro i n rp tn w K A B bo lk dm ma mb ji op tr hi R h
    have : i = 64 := by omega
    subst this
    exact br_t (by decide) (h n rp tn w K A B bo lk dm ma mb ji op tr R (fun postY hY => br_t (by decide) hY))
  | succ d ih =>
    intro i n rp tn w K A B bo lk dm ma mb ji op tr hi R h
    have R' := R
    obtain ⟨I, S, hb, hrp, ht, h01, ht01, L, hP⟩ := R'
    have hn := zi_16 I
    cases hf : zp_fi K n with
    | true =>
      have H := h n rp tn w K A B bo lk dm ma mb ji op tr R (fun postY hY => br_f (nI_ge (b := 64) (by omega) (by omega)) (y_owed hn I.2.2.2.1 (by rw [zp_ow_t hf]; exact br_t (by decide) hY)))
      refine br_f (nI_ge (b := 64) (by omega) (by omega)) ?_
      rw [zp_ow_t hf] at H ⊢
      exact br_t rfl H
    | false =>
      have ec := zx_cpf hf
      rw [ec] at S ⊢
      obtain ⟨kl, kp, _⟩ := zb_kF (K := K) (C := C) (n := n) (w := w) (bf := bf) (M := 256) hf hb hrp
      have pa := zb_paF (bf := bf) (nb := bn) (ps := zb_k2 K C n w bf bn rp) I kl hb kp
      have pb := zb_pbF (bf := bf) (nb := bn) I kl hb pa.2.2
      refine x_mc I hf S hb hrp ht (by omega) rfl rfl rfl rfl rfl rfl ⟨fun m e1 e2 => ?_, fun e1 e2 bo' lk' dm' ma' mb' ji' op' hS' => ?_⟩
      · subst e1
        have R2 := zr_nxt R kl ⟨pa.1, pa.2.1, pb.1⟩ pb.2
        have Q := ih (i + 1) n _ _ _ K A _ bo lk dm ma mb ji op _ (by omega) R2 (fun n' rp' tn' w' K' A' B' bo' lk' dm' ma' mb' ji' op' tr' R3 hY => h n' rp' tn' w' K' A' B' bo' lk' dm' ma' mb' ji' op' tr' R3 (fun postY hp => y_bd I hf h01 hb hrp (by omega) rfl rfl rfl rfl rfl rfl (fun m' e _ => by injection e with e; subst e; exact hY postY hp) (fun e => by cases e)))
        rw [ec] at Q
        exact Q
      · subst e1
        have R2 := zr_app R kl ⟨pa.1, pa.2.1, pb.1⟩ pb.2 e2 hS'
        exact ih (i + 1) (n + 1) _ _ _ _ _ _ bo' lk' dm' ma' mb' ji' op' _ (by omega) R2 (fun n' rp' tn' w' K' A' B' bo' lk' dm' ma' mb' ji' op' tr' R3 hY => h n' rp' tn' w' K' A' B' bo' lk' dm' ma' mb' ji' op' tr' R3 (fun postY hp => y_bd I hf h01 hb hrp (by omega) rfl rfl rfl rfl rfl rfl (fun m' e => by cases e) (fun _ _ => hY postY hp)))
end
end
section
/-! clear: both sides alike -/
def zr_z (f : Nat → Int32) : Nat → (Nat → Int32)
  | 0 => f
  | i + 1 => upd (zr_z f i) i 0
section
variable {u0 u1 u2 fP fC fS fn cu dp ow aw nb ps tb : Int32} {K A B bo lk dm ma mb ji op bf tr va mr fr oK oA oB ro we : Nat → Int32}
theorem x_zero {post : SX → Prop} (h : post (u0, u1, u2, fP, fC, fS, fn, cu, dp, ow, aw, nb, ps, tb, K, A, B, bo, lk, dm, ma, mb, ji, op, bf, tr, zr_z va 16, mr, fr)) : wpX_zeroValues post (u0, u1, u2, fP, fC, fS, fn, cu, dp, ow, aw, nb, ps, tb, K, A, B, bo, lk, dm, ma, mb, ji, op, bf, tr, va, mr, fr) := by
  have key : ∀ d i, i + d = 16 → wX_zeroValues_2 post u0 u1 u2 fP fC fS fn cu dp ow aw nb ps tb (d + 1) (nI i) K A B bo lk dm ma mb ji op bf tr (zr_z va i) mr fr := by
    intro d
    induction d with
    | zero =>
      intro i hi
      have : i = 16 := by omega
      subst this
      exact br_t (by decide) h
    | succ d ih =>
      intro i hi
      refine br_f (nI_ge (b := 16) (by omega) (by omega)) ⟨vp_in_nI (by omega) (by omega), ?_⟩
      rw [nI_clamp (by omega)]
      exact nm_e (nm_r (nI_1 i) (ih (i + 1) (by omega)))
  exact Exists.intro 17 (key 16 0 rfl)
theorem y_zero {post : SY → Prop} (h : post (fP, fC, fS, fn, nb, ps, K, A, B, zr_z va 16, oK, oA, oB, ro, fr, bf, we)) : ∃ d, wY_clear_6 post fP fC fS fn nb ps d 0 K A B va oK oA oB ro fr bf we := by
  have key : ∀ d i, i + d = 16 → wY_clear_6 post fP fC fS fn nb ps (d + 1) (nI i) K A B (zr_z va i) oK oA oB ro fr bf we := by
    intro d
    induction d with
    | zero =>
      intro i hi
      have : i = 16 := by omega
      subst this
      exact br_t (by decide) h
    | succ d ih =>
      intro i hi
      refine br_f (nI_ge (b := 16) (by omega) (by omega)) ⟨vp_in_nI (by omega) (by omega), ?_⟩
      rw [nI_clamp (by omega)]
      exact nm_e (nm_r (nI_1 i) (ih (i + 1) (by omega)))
  exact ⟨17, key 16 0 rfl⟩
theorem x_begin0 {post : SX → Prop} {p0 p1 p2 p3 : Int32} (h : post (u0, u1, u2, fP, fC, fS, fn, nI 0, dp, ow, aw, nb, ps, tb, K, A, B, bo, lk, upd dm 0 p0, upd ma 0 p1, upd mb 0 p2, upd ji 0 p3, op, bf, tr, va, mr, fr)) : wpX_begin post (u0, u1, u2, fP, fC, fS, fn, -1, dp, ow, aw, nb, ps, tb, K, A, B, bo, lk, dm, ma, mb, ji, op, bf, tr, va, mr, fr) p0 p1 p2 p3 := by
  have V : vp_in (nI 0) 17 := vp_in_nI (by omega) (by omega)
  refine nm_r (show (-1 : Int32) + 1 = nI 0 from by decide) (And.intro V ?_)
  rw [nI_clamp (by omega)]
  exact nm_e ⟨V, nm_e ⟨V, nm_e ⟨V, nm_e h⟩⟩⟩
end
section
variable {u0 u1 u2 fC fS nb ps : Int32} {bf tr va mr fr oK oA oB ro we : Nat → Int32} {P : Nat}
theorem zz_cl {post : SX → Prop} (hP : P ≤ 3) : ∀ (d i : Nat) (K A B bo lk dm ma mb ji op : Nat → Int32), i + d = P → (∀ j, j < i → K j = 11 ∧ A j = -1 ∧ B j = -1) → zx_S i i K bo lk dm ma mb ji op →
    (∀ (K' A' B' bo' lk' dm' ma' mb' ji' op' : Nat → Int32), (∀ j, j < P → K' j = 11 ∧ A' j = -1 ∧ B' j = -1) → zx_S P P K' bo' lk' dm' ma' mb' ji' op' → (∀ postY : SY → Prop, postY (nI P, fC, fS, nI P, nb, ps, K', A', B', va, oK, oA, oB, ro, fr, bf, we) → wY_initial_10 postY (nI P) fC fS (nI P) nb ps (d + 1) (nI i) K A B va oK oA oB ro fr bf we) →
      post (u0, u1, u2, nI P, fC, fS, nI P, nI (zp_bk K' P), nI (zp_sk K' P).length, nI (zp_ow K' P), -1, nb, ps, 0, K', A', B', bo', lk', dm', ma', mb', ji', op', bf, tr, zr_z va 16, mr, fr)) →
    wX_clear_40 post (d + 1) (nI i) u0 u1 u2 (nI P) fC fS (nI i) (nI (zp_bk K i)) (nI (zp_sk K i).length) (nI (zp_ow K i)) (-1) nb ps 0 K A B bo lk dm ma mb ji op bf tr va mr fr := by
  intro d
  induction d with
  | zero =>
    intro i K A B bo lk dm ma mb ji op hi hK hS h
    have : i = P := by omega
    subst this
    refine br_t (nI_le (Nat.le_refl _) (by omega)) (x_zero ?_)
    exact h K A B bo lk dm ma mb ji op hK hS (fun postY hY => br_t (nI_le (Nat.le_refl _) (by omega)) hY)
  | succ d ih =>
    intro i K A B bo lk dm ma mb ji op hi hK hS h
    have Z := zs_par (K := K) (P := i) (fun j hj => (hK j hj).1) i (Nat.le_refl _)
    have V : vp_in (nI i) 16 := vp_in_nI (by omega) (by omega)
    refine br_f (nI_ge (by omega) (by omega)) (x_append (by omega) Z.2.2.2 hS (by rw [Z.2.2.1]; exact Nat.zero_le _) (fun z => absurd z (by decide)) (fun bo' lk' dm' ma' mb' ji' op' hS' => nm_r (nI_1 i) ?_))
    have hK' : ∀ j, j < i + 1 → upd K i 11 j = 11 ∧ upd A i (-1) j = -1 ∧ upd B i (-1) j = -1 := by
      intro j hj
      rcases Nat.lt_or_ge j i with z | z
      · rw [pk_un (by omega), pk_un (by omega), pk_un (by omega)]; exact hK j z
      · have : j = i := by omega
        subst this
        rw [pk_us, pk_us, pk_us]; exact ⟨rfl, rfl, rfl⟩
    have Z' := zs_par (K := upd K i 11) (P := i + 1) (fun j hj => (hK' j hj).1) (i + 1) (Nat.le_refl _)
    rw [zx_cpf Z'.2.2.2] at hS' ⊢
    rw [zp_nw_n (K := K) (n := i) (k := 11) (by rintro ⟨z, _⟩; exact absurd z (by decide))]
    refine ih (i + 1) _ _ _ bo' lk' dm' ma' mb' ji' op' (by omega) hK' hS' (fun K2 A2 B2 bo2 lk2 dm2 ma2 mb2 ji2 op2 q1 q2 q3 => h K2 A2 B2 bo2 lk2 dm2 ma2 mb2 ji2 op2 q1 q2 (fun postY hY => ?_))
    refine br_f (nI_ge (by omega) (by omega)) ⟨V, ?_⟩
    rw [nI_clamp (by omega)]
    exact nm_e ⟨V, nm_e ⟨V, nm_e (nm_r (nI_1 i) (q3 postY hY))⟩⟩
end
section
variable {u0 u1 u2 fS fn fm cu dp ow aw tb : Int32} {K A B bo lk dm ma mb ji op bf tr va mr fr oK oA oB ro we : Nat → Int32} {P C bn rp : Nat}
theorem zz_clear {post : SX → Prop} (hP : P ≤ 3) (h8 : 8 ≤ C) (h16 : C ≤ 16) (hb : bn ≤ 256) (hrp : rp ≤ 256) (h01 : ∀ i, bf i = 0 ∨ bf i = 1) (ht01 : ∀ i, tr i = 0 ∨ tr i = 1)
    (h : ∀ (K' A' B' bo' lk' dm' ma' mb' ji' op' : Nat → Int32), zr_R P C P bn rp 0 none K' A' B' bo' lk' dm' ma' mb' ji' op' bf tr → (∀ postY : SY → Prop, postY (nI P, nI C, fS, nI P, nI bn, nI rp, K', A', B', zr_z va 16, oK, oA, oB, ro, fr, bf, we) → wpY_clear postY (nI P, nI C, fS, fm, nI bn, nI rp, K, A, B, va, oK, oA, oB, ro, fr, bf, we)) →
      post (u0, u1, u2, nI P, nI C, fS, nI P, nI (zp_bk K' (zx_cp K' P)), nI (zp_sk K' P).length, nI (zp_ow K' P), oI none, nI bn, nI rp, nI 0, K', A', B', bo', lk', dm', ma', mb', ji', op', bf, tr, zr_z va 16, mr, fr)) :
    wpX_clear post (u0, u1, u2, nI P, nI C, fS, fn, cu, dp, ow, aw, nI bn, nI rp, tb, K, A, B, bo, lk, dm, ma, mb, ji, op, bf, tr, va, mr, fr) := by
  unfold wpX_clear
  dsimp only
  refine x_begin0 ⟨P + 1, ?_⟩
  have S0 : zx_S 0 0 K bo lk (upd dm 0 (-1)) (upd ma 0 (-1)) (upd mb 0 (-1)) (upd ji 0 (-1)) op := by
    refine ⟨fun i hi => by omega, fun p hp => ?_, trivial, fun i hi => by omega⟩
    have : p = 0 := by omega
    subst this
    exact ⟨rfl, rfl, rfl, rfl⟩
  refine zz_cl (oK := oK) (oA := oA) (oB := oB) (ro := ro) (we := we) hP P 0 K A B bo lk _ _ _ _ op (by omega) (fun j hj => by omega) S0 (fun K2 A2 B2 bo2 lk2 dm2 ma2 mb2 ji2 op2 q1 q2 q3 => ?_)
  have Z := zs_par (K := K2) (P := P) (fun j hj => (q1 j hj).1) P (Nat.le_refl _)
  have I := zs_new hP h8 h16 q1
  have ec := zx_cpf Z.2.2.2
  have H := h K2 A2 B2 bo2 lk2 dm2 ma2 mb2 ji2 op2 ⟨I, by rw [ec]; exact q2, hb, hrp, by omega, h01, ht01, 0, rfl, rfl, rfl, I⟩ (fun postY hY => ?_)
  · rw [ec] at H
    exact H
  · unfold wpY_clear wpY_initial
    dsimp only
    exact ⟨P + 1, q3 _ (y_zero hY)⟩
end
end
section
/-! feed; dominators of any number -/
def zf_b (x : Int32) (i : Nat) : Int32 := if bt x i = true then 1 else 0
theorem zf_1 : ∀ j, j < 32 → bt 1 j = decide (j = 0) := by decide +kernel
theorem zf_0 : ∀ j, j < 32 → bt 0 j = false := by decide +kernel
theorem zf_bt (x : Int32) (i : Nat) : ∀ j, j < 32 → bt (zf_b x i) j = (bt x i && decide (j = 0)) := by
  intro j hj
  unfold zf_b
  cases bt x i with
  | true => rw [if_pos rfl, zf_1 j hj, Bool.true_and]
  | false => rw [if_neg (by decide), zf_0 j hj, Bool.false_and]
theorem zf_u (x : Int32) {i : Nat} (hi : i < 32) : ((x.toUInt32 >>> ((nI i).toUInt32 &&& Int32.toUInt32 31)).toInt32) &&& 1 = zf_b x i := by
  apply b_ext
  intro j hj
  rw [b_and, b_ushr i hi, zf_1 j hj, zf_bt x i j hj]
  by_cases e : j = 0
  · subst e; rfl
  · rw [decide_eq_false e, Bool.and_false, Bool.and_false]
theorem zf_s (x : Int32) {i : Nat} (hi : i < 32) : (x >>> (nI i &&& 31)) &&& 1 = zf_b x i := by
  apply b_ext
  intro j hj
  rw [b_and, b_sshr i hi x hj, zf_1 j hj, zf_bt x i j hj]
  by_cases e : j = 0
  · subst e
    rw [if_pos (by omega)]; rfl
  · rw [decide_eq_false e, Bool.and_false, Bool.and_false]
theorem zf_01 (x : Int32) (i : Nat) : zf_b x i = 0 ∨ zf_b x i = 1 := by
  unfold zf_b
  cases bt x i with
  | true => rw [if_pos rfl]; exact Or.inr rfl
  | false => rw [if_neg (by decide)]; exact Or.inl rfl
def zf_fb (x : Int32) : Nat → (Nat → Int32) → Nat → (Nat → Int32)
  | 0, bf, _ => bf
  | j + 1, bf, bn => zf_fb x j (upd bf bn (zf_b x j)) (bn + 1)
theorem zf_fb01 (x : Int32) : ∀ j bf bn, (∀ i, bf i = 0 ∨ bf i = 1) → ∀ i, zf_fb x j bf bn i = 0 ∨ zf_fb x j bf bn i = 1 := by
  intro j
  induction j with
  | zero => intro bf bn h; exact h
  | succ j ih =>
    intro bf bn h
    refine ih _ _ (fun i => ?_)
    by_cases e : i = bn
    · rw [e, pk_us]; exact zf_01 x j
    · rw [pk_un e]; exact h i
section
variable {u0 u1 u2 fP fC fS fn cu dp ow aw ps tb x : Int32} {K A B bo lk dm ma mb ji op tr va mr fr oK oA oB ro we : Nat → Int32}
theorem x_feedL {post : Int32 → SX → Prop} : ∀ j bf bn, j ≤ 32 → bn + j ≤ 256 → post (nI (bn + j)) (u0, u1, u2, fP, fC, fS, fn, cu, dp, ow, aw, nI (bn + j), ps, tb, K, A, B, bo, lk, dm, ma, mb, ji, op, zf_fb x j bf bn, tr, va, mr, fr) → wX_feed_29 post x u0 u1 u2 fP fC fS fn cu dp ow aw ps tb (j + 1) (nI j - 1) (nI bn) K A B bo lk dm ma mb ji op bf tr va mr fr := by
  intro j
  induction j with
  | zero => intro bf bn _ _ h; exact br_t (by decide) h
  | succ j ih =>
    intro bf bn hj hb h
    rw [nI_pred]
    refine br_f (nI_pos (by omega)) ?_
    rw [zf_u x (by omega)]
    have e : bn + (j + 1) = bn + 1 + j := by omega
    rw [e] at h
    have go : ∀ b : Int32, zf_b x j = b → vp_nar .boolean b = b → wX_feed_55 post (wX_feed_29 post x u0 u1 u2 fP fC fS fn cu dp ow aw ps tb (j + 1)) x (nI j) b (nI bn) u0 u1 u2 fP fC fS fn cu dp ow aw (nI bn) ps tb K A B bo lk dm ma mb ji op bf tr va mr fr := by
      intro b hb' hv
      refine And.intro (vp_in_nI (by omega) (by omega)) ?_
      rw [nI_clamp (by omega), hv, ← hb']
      exact nm_e (nm_r (nI_1 bn) (nm_r (zp_m1s _) (ih (upd bf bn (zf_b x j)) (bn + 1) (by omega) (by omega) h)))
    rcases zf_01 x j with e | e
    · rw [e]; exact br_f (by decide) (go 0 e zb_n0)
    · rw [e]; exact br_t rfl (go 1 e zb_n1)
theorem y_feedL {post : Int32 → SY → Prop} : ∀ j bf bn, j ≤ 32 → bn + j ≤ 256 → post (nI (bn + j)) (fP, fC, fS, fn, nI (bn + j), ps, K, A, B, va, oK, oA, oB, ro, fr, zf_fb x j bf bn, we) → wY_feed_29 post x fP fC fS fn ps (j + 1) (nI j - 1) (nI bn) K A B va oK oA oB ro fr bf we := by
  intro j
  induction j with
  | zero => intro bf bn _ _ h; exact br_t (by decide) h
  | succ j ih =>
    intro bf bn hj hb h
    rw [nI_pred]
    refine br_f (nI_pos (by omega)) ⟨vp_in_nI (by omega) (by omega), ?_⟩
    rw [zf_s x (by omega), nI_clamp (by omega)]
    have e : bn + (j + 1) = bn + 1 + j := by omega
    rw [e] at h
    exact nm_e (nm_r (nI_1 bn) (nm_r (zp_m1s _) (ih (upd bf bn (zf_b x j)) (bn + 1) (by omega) (by omega) h)))
end
theorem zp_iv {K : Nat → Int32} : ∀ N b, b ≤ zp_bk K N → ∃ p, p ≤ N ∧ zp_bk K p = b := by
  intro N
  induction N with
  | zero => intro b hb; exact ⟨0, Nat.le_refl _, (Nat.le_zero.mp hb).symm⟩
  | succ N ih =>
    intro b hb
    by_cases h : b ≤ zp_bk K N
    · obtain ⟨p, h1, h2⟩ := ih b h
      exact ⟨p, by omega, h2⟩
    · by_cases hB : zp_B (K N)
      · rw [zp_bk_b hB] at hb
        exact ⟨N + 1, Nat.le_refl _, by rw [zp_bk_b hB]; omega⟩
      · rw [zp_bk_n hB] at hb
        exact absurd hb h
section
variable {fP fC fS nb ps : Int32} {K A B va oK oA oB ro fr bf we : Nat → Int32} {n : Nat} {post : Int32 → Prop}
theorem y_domN {x : Int32} (hn : n ≤ 16) (hx : ∀ j, j < n → ¬ (zp_B (K j) ∧ nI (zp_bk K j) + 1 = x)) (h : post (-1)) : wpY_dominator post (fP, fC, fS, nI n, nb, ps, K, A, B, va, oK, oA, oB, ro, fr, bf, we) x := by
  unfold wpY_dominator
  dsimp only
  exact y_starterG hn none (fun s hs => by cases hs) (fun _ => hx) (br_t rfl h)
end
end
section
/-! only the items ahead matter: legality, operands, written bits, the invariant -/
section
variable {K K' A A' B B' : Nat → Int32} {P C n : Nat} {w : Option Nat} {k x y : Int32}
theorem ee_vs {t p : Nat} (E : ∀ j, j < n → K j = K' j) (hp : p ≤ n) : zp_vs K n t p = zp_vs K' n t p := by unfold zp_vs; rw [ze_ct hp E]
theorem ee_vo {t : Nat} {q : Option Nat} {d : Bool} (E : ∀ j, j < n → K j = K' j) (hq : ∀ p, q = some p → p ≤ n) : zp_vo K n t q d = zp_vo K' n t q d := by
  cases q with
  | none => rfl
  | some p => exact ee_vs E (hq p rfl)
theorem ee_mp (E : ∀ j, j < n → K j = K' j) : zp_mp K n = zp_mp K' n := by
  unfold zp_mp
  rw [ze_og E, ze_bk n E]
  rcases Nat.eq_zero_or_pos n with z | z
  · subst z
    by_cases h : zp_og K' 0 ≠ none
    · rw [decide_eq_true ⟨h, Or.inl rfl⟩, decide_eq_true ⟨h, Or.inl rfl⟩]
    · rw [decide_eq_false (fun z => h z.1), decide_eq_false (fun z => h z.1)]
  · rw [E (n - 1) (by omega), ze_bk (n - 1) (fun j hj => E j (by omega))]
theorem ee_lg (E : ∀ j, j < n → K j = K' j) : zp_lg K C n w k = zp_lg K' C n w k := by
  have mA : ∀ p, zp_mA K' n = some p → p ≤ n := fun p hp => Nat.le_of_lt (zt_mle.1 hp)
  have mB : ∀ p, zp_mB K' n = some p → p ≤ n := fun p hp => Nat.le_of_lt (zt_mle.2 hp)
  unfold zp_lg
  rw [ze_fi n E, ze_ow E, ee_vs E (Nat.le_refl n), ee_vs E (Nat.le_refl n), ze_sk n E, ee_mp E, ze_mA E, ze_mB E, ee_vo E mA, ee_vo E mB]
theorem ee_tA (E : ∀ j, j < n → K j = K' j) (hw : ∀ m, w = some m → m < n) : zp_tA K n w k = zp_tA K' n w k := by
  unfold zp_tA
  rw [ze_top E]
  have e1 : (zp_top K' n).elim 0 (fun o => if K o = 7 then 2 else 0) = (zp_top K' n).elim 0 (fun o => if K' o = 7 then 2 else 0) := by
    cases ht : zp_top K' n with
    | none => rfl
    | some o =>
      show (if K o = 7 then 2 else 0) = (if K' o = 7 then 2 else 0)
      rw [E o (zp_top_lt ht)]
  have e2 : w.elim 0 (fun m => zp_ty (K m)) = w.elim 0 (fun m => zp_ty (K' m)) := by
    cases w with
    | none => rfl
    | some m =>
      show zp_ty (K m) = zp_ty (K' m)
      rw [E m (hw m rfl)]
  rw [e1, e2]
theorem ee_tB (E : ∀ j, j < n → K j = K' j) : zp_tB K n k = zp_tB K' n k := by unfold zp_tB; rw [ze_mB E]
theorem ee_vA (E : ∀ j, j < n → K j = K' j) : zp_vA K n k = zp_vA K' n k := by unfold zp_vA; rw [ze_mA E]
theorem ee_vB (E : ∀ j, j < n → K j = K' j) : zp_vB K n k = zp_vB K' n k := by unfold zp_vB; rw [ze_mB E]
theorem ee_SN {t p : Nat} {v : Int32} (E : ∀ j, j < n → K j = K' j) (hp : p ≤ n) (h : zp_SN K n t p v) : zp_SN K' n t p v := by
  obtain ⟨j, h1, h2, h3, h4⟩ := h
  rw [E j h1] at h3
  rw [ze_bk j (fun i hi => E i (by omega)), ze_ch p (fun i hi => E i (by omega))] at h4
  exact ⟨j, h1, h2, h3, h4⟩
theorem ee_FT (E : ∀ j, j < n → K j = K' j) (hw : ∀ m, w = some m → m < n) (h : zp_FT K n w k x y) : zp_FT K' n w k x y := by
  obtain ⟨h1, h2, h3⟩ := h
  refine ⟨h1, fun z => ?_, fun z => ?_⟩
  · have := ee_SN E (zt_vA k) (h2 (by rw [ee_tA E hw]; exact z))
    rw [ee_tA E hw, ee_vA E] at this; exact this
  · have := ee_SN E (zt_vB k) (h3 (by rw [ee_tB E]; exact z))
    rw [ee_tB E, ee_vB E] at this; exact this
theorem ee_kl (E : ∀ j, j < n → K j = K' j) (l : Nat) : zb_kl K C n w l = zb_kl K' C n w l := by
  unfold zb_kl
  exact congrArg (fun f => (List.range l).filter f) (funext fun i => ee_lg E)
theorem ee_wo {t p v : Nat} {s : (Nat → Int32) × Nat} (E : ∀ j, j < n → K j = K' j) (hp : p ≤ n) (hv : v < n) : zb_wo K n t p v s = zb_wo K' n t p v s := by
  unfold zb_wo
  rw [ze_bk v (fun i hi => E i (by omega)), ze_it n E, ze_it v (fun i hi => E i (by omega)), ze_ct hp E, ze_bi hp E]
theorem ee_cw {s : (Nat → Int32) × Nat} (hn : n ≤ 16) (E : ∀ j, j < n → K j = K' j) (hw : ∀ m, w = some m → m < n) (hF : zp_FT K n w k x y) : zb_cw K C n w k x y s = zb_cw K' C n w k x y s := by
  have e1 : ∀ s, zb_w1 K C n w k x s = zb_w1 K' C n w k x s := fun s => by unfold zb_w1; rw [ee_kl E, ee_kl E]
  have e2 : ∀ s, zb_w2 K n w k x s = zb_w2 K' n w k x s := fun s => by
    unfold zb_w2
    rw [← ee_tA E hw, ← ee_vA E]
    by_cases t0 : zp_tA K n w k = 0
    · rw [if_pos t0, if_pos t0]
    · rw [if_neg t0, if_neg t0]
      obtain ⟨j, hj, ex, _⟩ := hF.2.1 t0
      exact ee_wo E (zt_vA k) (by rw [ex, nI_clamp (by omega)]; exact hj)
  have e3 : ∀ s, zb_w3 K n k y s = zb_w3 K' n k y s := fun s => by
    unfold zb_w3
    rw [← ee_tB E, ← ee_vB E]
    by_cases t0 : zp_tB K n k = 0
    · rw [if_pos t0, if_pos t0]
    · rw [if_neg t0, if_neg t0]
      obtain ⟨j, hj, ex, _⟩ := hF.2.2 t0
      exact ee_wo E (zt_vB k) (by rw [ex, nI_clamp (by omega)]; exact hj)
  unfold zb_cw
  rw [e1, e2, e3]
theorem ee_nA (E : ∀ j, j < n → K j = K' j) (hw : ∀ m, w = some m → m < n) : zp_nA K n w k x = zp_nA K' n w k x := by unfold zp_nA; rw [ee_tA E hw]
theorem ee_nB (E : ∀ j, j < n → K j = K' j) : zp_nB K n k y = zp_nB K' n k y := by unfold zp_nB; rw [ee_tB E]
theorem ee_ma {i : Nat} (E : ∀ j, j < n → K j = K' j) : zp_ma K n i = zp_ma K' n i := by
  unfold zp_ma
  rcases Nat.lt_or_ge i n with z | z
  · rw [E i z]
  · rw [if_neg (by omega), if_neg (by omega)]
theorem ee_nw (E : ∀ j, j < n → K j = K' j) : zp_nw K n k = zp_nw K' n k := by
  unfold zp_nw
  rw [ze_top E]
  cases ht : zp_top K' n with
  | none => rfl
  | some o =>
    by_cases k0 : k = 0
    · rw [if_pos k0, if_pos k0]
      show (if K o = 7 then zp_ma K n (o + 1) else none) = (if K' o = 7 then zp_ma K' n (o + 1) else none)
      rw [E o (zp_top_lt ht), ee_ma E]
    · rw [if_neg k0, if_neg k0]
theorem ee_I (E : ∀ j, j < n → K j = K' j) (EA : ∀ j, j < n → A j = A' j) (EB : ∀ j, j < n → B j = B' j) (I : zp_I P C n w K A B) : zp_I P C n w K' A' B' := by
  obtain ⟨⟨i1, i2, i3, i4, i5, i6⟩, iP, iK, iF, iM, iL, iB, iA, iW⟩ := I
  have E' : ∀ i, i ≤ n → ∀ j, j < i → K j = K' j := fun i hi j hj => E j (by omega)
  refine ⟨⟨i1, i2, i3, i4, by rw [← ze_ow E]; exact i5, by rw [← ze_sk n E]; exact i6⟩, ?_, ?_, ?_, ?_, ?_, ?_, ?_, ?_, ?_⟩
  · intro i hi
    rw [← E i (by omega), ← EA i (by omega), ← EB i (by omega)]; exact iP i hi
  · intro i h1 h2
    rw [← E i h2]; exact iK i h1 h2
  · intro i hi
    rw [← ze_fi i (E' i (by omega))]; exact iF i hi
  · intro j hj hm
    rw [← E j hj] at hm
    rw [← ze_og (E' j (by omega)), ← ze_bk j (E' j (by omega))]
    refine ⟨(iM j hj hm).1, fun i hi hb => ?_⟩
    rw [← ze_bk i (E' i (by omega))] at hb
    rw [← E i (by omega)]
    exact (iM j hj hm).2 i hi hb
  · intro o ho h7
    rw [← E o ho] at h7
    rw [← ze_ct (Nat.le_refl o) (E' o (by omega))]
    exact iL o ho h7
  · intro j o hj hm ho
    rw [← E j hj] at hm ⊢
    rw [← ze_og (E' j (by omega))] at ho
    have q := (zp_og_lt ho).1
    rw [← E o (by omega), ← EB j hj, ← ze_ct (by omega) (E' j (by omega)), ← ze_ac n E]
    exact iB j o hj hm ho
  · intro e he h0
    rw [← E e he] at h0
    rw [← EA e he, iA e he h0, ← ze_top (E' e (by omega))]
    constructor
    · intro h o ho
      rw [← E o (by have := zp_top_lt ho; omega)]; exact h o ho
    · intro h o ho
      have := h o ho
      rw [← E o (by have := zp_top_lt ho; omega)] at this; exact this
  · intro hw j o hj hm ho hb
    rw [← E j hj] at hm
    rw [← ze_og (E' j (by omega))] at ho
    rw [← EB j hj] at hb
    rw [← ze_ac n E]
    exact iW.1 hw j o hj hm ho hb
  · intro m hm
    obtain ⟨e, o, r, w1, w2, w3, w4, w5, w6, w7, w8, w9⟩ := iW.2 m hm
    have so := (zp_st e o 0 r w3).1
    refine ⟨e, o, r, w1, by rw [← E e (by omega)]; exact w2, by rw [← ze_sk e (E' e (by omega))]; exact w3, by rw [← E o (by omega)]; exact w4, w5, w6, ?_, ?_, ?_⟩
    · intro j h1 h2
      rw [← E j (by omega)]; exact w7 j h1 h2
    · intro j o' hj hmj ho hb ha
      rw [← E j hj] at hmj
      rw [← ze_og (E' j (by omega))] at ho
      rw [← EB j hj] at hb
      rw [← ze_ac n E] at ha
      exact w8 j o' hj hmj ho hb ha
    · intro j ho hj hmj hM
      rw [← E j hj] at hM
      rw [← ze_og (E' j (by omega))] at ho
      rw [← EB j hj]
      exact w9 j ho hj hmj hM
end
/-- sinks that agree so far go on agreeing -/
theorem zb_ps2 {b : Int32} {s s' : (Nat → Int32) × Nat} (h : s.2 = s'.2 ∧ ∀ i, i < s.2 → s.1 i = s'.1 i) : (zb_ps b s).2 = (zb_ps b s').2 ∧ ∀ i, i < (zb_ps b s).2 → (zb_ps b s).1 i = (zb_ps b s').1 i := by
  unfold zb_ps
  rw [← h.1]
  by_cases c : s.2 < 256
  · rw [if_pos c, if_pos c]
    refine ⟨rfl, fun i hi => ?_⟩
    show upd s.1 s.2 b i = upd s'.1 s.2 b i
    by_cases e : i = s.2
    · rw [e, pk_us, pk_us]
    · have hi' : i < s.2 + 1 := hi
      rw [pk_un e, pk_un e]; exact h.2 i (by omega)
  · rw [if_neg c, if_neg c]; exact h
theorem zb_wb2 {x : Nat} : ∀ j (s s' : (Nat → Int32) × Nat), (s.2 = s'.2 ∧ ∀ i, i < s.2 → s.1 i = s'.1 i) → ((zb_wb x j s).2 = (zb_wb x j s').2 ∧ ∀ i, i < (zb_wb x j s).2 → (zb_wb x j s).1 i = (zb_wb x j s').1 i) := by
  intro j
  induction j with
  | zero => intro s s' h; exact h
  | succ j ih => intro s s' h; exact ih _ _ (zb_ps2 h)
theorem zb_wr2 {r c : Nat} {s s' : (Nat → Int32) × Nat} (h : s.2 = s'.2 ∧ ∀ i, i < s.2 → s.1 i = s'.1 i) : (zb_wr r c s).2 = (zb_wr r c s').2 ∧ ∀ i, i < (zb_wr r c s).2 → (zb_wr r c s).1 i = (zb_wr r c s').1 i := by
  unfold zb_wr
  by_cases z : c < zb_u r
  · rw [if_pos z, if_pos z]; exact zb_wb2 _ _ _ h
  · rw [if_neg z, if_neg z]; exact zb_wb2 _ _ _ h
section
variable {K : Nat → Int32} {C n : Nat} {w : Option Nat} {k x y : Int32} {s s' : (Nat → Int32) × Nat}
theorem zb_cw2 (h : s.2 = s'.2 ∧ ∀ i, i < s.2 → s.1 i = s'.1 i) : (zb_cw K C n w k x y s).2 = (zb_cw K C n w k x y s').2 ∧ ∀ i, i < (zb_cw K C n w k x y s).2 → (zb_cw K C n w k x y s).1 i = (zb_cw K C n w k x y s').1 i := by
  have w1 : (zb_w1 K C n w k x s).2 = (zb_w1 K C n w k x s').2 ∧ ∀ i, i < (zb_w1 K C n w k x s).2 → (zb_w1 K C n w k x s).1 i = (zb_w1 K C n w k x s').1 i := by
    unfold zb_w1
    by_cases k1 : k = 1
    · rw [if_pos k1, if_pos k1]; exact zb_wr2 (zb_wr2 h)
    · rw [if_neg k1, if_neg k1]; exact zb_wr2 h
  have w2 : (zb_w2 K n w k x (zb_w1 K C n w k x s)).2 = (zb_w2 K n w k x (zb_w1 K C n w k x s')).2 ∧ ∀ i, i < (zb_w2 K n w k x (zb_w1 K C n w k x s)).2 → (zb_w2 K n w k x (zb_w1 K C n w k x s)).1 i = (zb_w2 K n w k x (zb_w1 K C n w k x s')).1 i := by
    unfold zb_w2
    by_cases t0 : zp_tA K n w k = 0
    · rw [if_pos t0, if_pos t0]; exact w1
    · rw [if_neg t0, if_neg t0]; exact zb_wr2 (zb_wr2 w1)
  unfold zb_cw zb_w3
  by_cases t0 : zp_tB K n k = 0
  · rw [if_pos t0, if_pos t0]; exact w2
  · rw [if_neg t0, if_neg t0]; exact zb_wr2 (zb_wr2 w2)
end
theorem zb_psO {b : Int32} {bf : Nat → Int32} {s : (Nat → Int32) × Nat} (h : ∀ i, s.2 ≤ i → s.1 i = bf i) : ∀ i, (zb_ps b s).2 ≤ i → (zb_ps b s).1 i = bf i := by
  unfold zb_ps
  by_cases c : s.2 < 256
  · rw [if_pos c]
    intro i hi
    have hi' : s.2 + 1 ≤ i := hi
    show upd s.1 s.2 b i = bf i
    rw [pk_un (by omega)]; exact h i (by omega)
  · rw [if_neg c]; exact h
theorem zb_wbO {bf : Nat → Int32} {x : Nat} : ∀ j (s : (Nat → Int32) × Nat), (∀ i, s.2 ≤ i → s.1 i = bf i) → ∀ i, (zb_wb x j s).2 ≤ i → (zb_wb x j s).1 i = bf i := by
  intro j
  induction j with
  | zero => intro s h; exact h
  | succ j ih => intro s h; exact ih _ (zb_psO h)
theorem zb_wrO {bf : Nat → Int32} {r c : Nat} {s : (Nat → Int32) × Nat} (h : ∀ i, s.2 ≤ i → s.1 i = bf i) : ∀ i, (zb_wr r c s).2 ≤ i → (zb_wr r c s).1 i = bf i := by
  unfold zb_wr
  by_cases z : c < zb_u r
  · rw [if_pos z]; exact zb_wbO _ _ h
  · rw [if_neg z]; exact zb_wbO _ _ h
/-- how many choices there were -/
def zc (K B : Nat → Int32) : Nat → Nat
  | 0 => 0
  | i + 1 => zc K B i + (if zp_M (K i) ∧ B i ≠ -1 then 1 else 0)
theorem zc_le {K B : Nat → Int32} : ∀ i, zc K B i ≤ i := by
  intro i
  induction i with
  | zero => exact Nat.le_refl _
  | succ i ih =>
    show zc K B i + (if zp_M (K i) ∧ B i ≠ -1 then 1 else 0) ≤ i + 1
    by_cases c : zp_M (K i) ∧ B i ≠ -1
    · rw [if_pos c]; omega
    · rw [if_neg c]; omega
theorem zc_ext {K K' B B' : Nat → Int32} : ∀ i, (∀ j, j < i → K j = K' j) → (∀ j, j < i → B j = B' j) → zc K B i = zc K' B' i := by
  intro i
  induction i with
  | zero => intro _ _; rfl
  | succ i ih =>
    intro h1 h2
    show zc K B i + (if zp_M (K i) ∧ B i ≠ -1 then 1 else 0) = zc K' B' i + (if zp_M (K' i) ∧ B' i ≠ -1 then 1 else 0)
    rw [ih (fun j hj => h1 j (by omega)) (fun j hj => h2 j (by omega)), h1 i (by omega), h2 i (by omega)]
theorem zc_up {K B : Nat → Int32} {m : Nat} {x : Int32} (hM : zp_M (K m)) (hB : B m = -1) (hx : x ≠ -1) : ∀ i, m < i → zc K (upd B m x) i = zc K B i + 1 := by
  intro i
  induction i with
  | zero => intro h; omega
  | succ i ih =>
    intro h
    show zc K (upd B m x) i + (if zp_M (K i) ∧ upd B m x i ≠ -1 then 1 else 0) = zc K B i + (if zp_M (K i) ∧ B i ≠ -1 then 1 else 0) + 1
    rcases Nat.lt_or_ge m i with z | z
    · rw [ih z, pk_un (by omega)]; omega
    · have : m = i := by omega
      subst this
      rw [zc_ext m (fun _ _ => rfl) (fun j hj => pk_un (by omega)), pk_us, if_pos ⟨hM, hx⟩, if_neg (fun z => z.2 hB)]
theorem zr_PI {P C : Nat} : ∀ L n w K A B T m, zr_P P C L n w K A B T m → zp_I P C n w K A B ∧ L + P ≤ n + zc K B n := by
  intro L
  induction L with
  | zero =>
    rintro n w K A B T m ⟨rfl, _, _, I⟩
    exact ⟨I, by omega⟩
  | succ L ih =>
    rintro n' w' K' A' B' T' m' ⟨n, w, K, A, B, T, m, k, x, y, hP, hl, hF, hT, h⟩
    obtain ⟨I, hL⟩ := ih n w K A B T m hP
    rcases h with ⟨q, rfl, rfl, rfl, rfl, rfl, rfl, rfl⟩ | ⟨rfl, k10, rfl, rfl, rfl, rfl, rfl⟩
    · obtain ⟨o, a1, a2, a3, a4, a5, _⟩ := zi_og I
      refine ⟨zs_nxt I (zi_x10 I hF), ?_⟩
      rw [zc_up a4 a5 (zi_x10 I hF) n' a2]; omega
    · refine ⟨zs_app I hl hF, ?_⟩
      have e : zc (upd K n k) (upd B n (zp_nB K n k y)) n = zc K B n := zc_ext n (fun j hj => pk_un (by omega)) (fun j hj => pk_un (by omega))
      have : zc (upd K n k) (upd B n (zp_nB K n k y)) n ≤ zc (upd K n k) (upd B n (zp_nB K n k y)) (n + 1) := Nat.le_add_right _ _
      omega
end
section
/-! encode -/
theorem zr_Pm {P C : Nat} : ∀ L n w K A B T m, zr_P P C L n w K A B T m → m ≤ 256 := by
  intro L
  induction L with
  | zero =>
    rintro n w K A B T m ⟨_, _, rfl, _⟩
    omega
  | succ L ih =>
    rintro n' w' K' A' B' T' m' ⟨n, w, K, A, B, T, m, k, x, y, hP, hl, hF, hT, h⟩
    have e : m' = (zb_cw K C n w k x y (T, m)).2 := congrArg Prod.snd hT
    rw [e]
    exact zb_cwb (ih n w K A B T m hP)
def zq_cp (f g : Nat → Int32) (m : Nat) : Nat → Int32 := fun i => if i < m then g i else f i
theorem zq_cps (f g : Nat → Int32) (m : Nat) : upd (zq_cp f g m) m (g m) = zq_cp f g (m + 1) := by
  funext i
  show (if i = m then g m else zq_cp f g m i) = _
  unfold zq_cp
  by_cases e : i = m
  · rw [if_pos e, if_pos (by omega), e]
  · rw [if_neg e]
    by_cases h : i < m
    · rw [if_pos h, if_pos (by omega)]
    · rw [if_neg h, if_neg (by omega)]
theorem zq_cp0 (f g : Nat → Int32) : zq_cp f g 0 = f := by
  funext i
  unfold zq_cp
  rw [if_neg (by omega)]
theorem zq_self {f : Nat → Int32} {i : Nat} {v : Int32} (h : f i = v) : upd f i v = f := by
  funext j
  show (if j = i then v else f j) = f j
  by_cases e : j = i
  · rw [if_pos e, e, h]
  · rw [if_neg e]
section
variable {u0 u1 u2 fP fC fS fn cu dp ow aw nb ps : Int32} {K A B bo lk dm ma mb ji op bf tr va mr fr : Nat → Int32} {tn : Nat}
theorem x_enc {post : Int32 → SX → Prop} (ht : tn ≤ 256) (h01 : ∀ i, tr i = 0 ∨ tr i = 1) (h : post (nI tn) (u0, u1, u2, fP, fC, fS, fn, cu, dp, ow, aw, nI tn, ps, nI tn, K, A, B, bo, lk, dm, ma, mb, ji, op, zq_cp bf tr tn, tr, va, mr, fr)) : wpX_encode post (u0, u1, u2, fP, fC, fS, fn, cu, dp, ow, aw, nb, ps, nI tn, K, A, B, bo, lk, dm, ma, mb, ji, op, bf, tr, va, mr, fr) := by
  have key : ∀ d i, i + d = tn → wX_encode_2 post u0 u1 u2 fP fC fS fn cu dp ow aw nb ps (nI tn) (d + 1) (nI i) K A B bo lk dm ma mb ji op (zq_cp bf tr i) tr va mr fr := by
    intro d
    induction d with
    | zero =>
      intro i hi
      have : i = tn := by omega
      subst this
      exact br_t (nI_le (Nat.le_refl _) (by omega)) h
    | succ d ih =>
      intro i hi
      have V : vp_in (nI i) 256 := vp_in_nI (by omega) (by omega)
      have e : vp_nar .boolean (tr i) = tr i := by rcases h01 i with z | z <;> rw [z] <;> rfl
      refine br_f (nI_ge (by omega) (by omega)) ⟨V, V, ?_⟩
      rw [nI_clamp (by omega), e, zq_cps]
      exact nm_e (nm_r (nI_1 i) (ih (i + 1) (by omega)))
  have k0 := key tn 0 (by omega)
  rw [zq_cp0] at k0
  exact Exists.intro (tn + 1) k0
end
section
variable {fP fS ps : Int32} {K A B va oK oA oB ro fr we : Nat → Int32} {P C n : Nat} {w : Option Nat} {k x y : Int32}
theorem y_wo0 {post : SY → Prop} {t : Nat} {nb wh v : Int32} {bf : Nat → Int32} (ht : t ≤ 2) (t0 : t = 0) (hd : ∀ Q : Int32 → Prop, Q (zp_yt t) → wpY_demand Q (fP, nI C, fS, nI n, nb, ps, K, A, B, va, oK, oA, oB, ro, fr, bf, we) k wh) (h : post (fP, nI C, fS, nI n, nb, ps, K, A, B, va, oK, oA, oB, ro, fr, bf, we)) : wpY_writeOperand post (fP, nI C, fS, nI n, nb, ps, K, A, B, va, oK, oA, oB, ro, fr, bf, we) k wh v := by
  unfold wpY_writeOperand
  dsimp only
  exact hd _ (br_t ((zp_yt0 ht).mpr t0) h)
theorem y_w2 {post : SY → Prop} {tn : Nat} {bf : Nat → Int32} (I : zp_I P C n w K A B) (hl : zp_lg K C n w k = true) (hF : zp_FT K n w k x y) (ht : tn ≤ 256) (h : post (fP, nI C, fS, nI n, nI (zb_w2 K n w k x (bf, tn)).2, ps, K, A, B, va, oK, oA, oB, ro, fr, (zb_w2 K n w k x (bf, tn)).1, we)) : wpY_writeOperand post (fP, nI C, fS, nI n, nI tn, ps, K, A, B, va, oK, oA, oB, ro, fr, bf, we) k 0 x := by
  have hn := zi_16 I
  unfold zb_w2 at h
  by_cases t0 : zp_tA K n w k = 0
  · rw [if_pos t0] at h
    exact y_wo0 (t := zp_tA K n w k) (zt_A3 k) t0 (fun Q hQ => y_dem0 I hQ) h
  · rw [if_neg t0] at h
    obtain ⟨j, hj, ex, hty, hm⟩ := hF.2.1 t0
    have ej : x.toNatClampNeg = j := by rw [ex]; exact nI_clamp (by omega)
    rw [ej] at h
    rw [ex]
    exact y_wop I (zt_A3 k) (zt_vA k) ht t0 hj hm hty (fun Q hQ => y_dem0 I hQ) (fun Q hQ => y_vw0 I (zi_lM hl) (zi_lw hl).mp hQ) h
theorem y_w3 {post : SY → Prop} {tn : Nat} {bf : Nat → Int32} (I : zp_I P C n w K A B) (hl : zp_lg K C n w k = true) (hF : zp_FT K n w k x y) (ht : tn ≤ 256) (h : post (fP, nI C, fS, nI n, nI (zb_w3 K n k y (bf, tn)).2, ps, K, A, B, va, oK, oA, oB, ro, fr, (zb_w3 K n k y (bf, tn)).1, we)) : wpY_writeOperand post (fP, nI C, fS, nI n, nI tn, ps, K, A, B, va, oK, oA, oB, ro, fr, bf, we) k 1 y := by
  have hn := zi_16 I
  unfold zb_w3 at h
  by_cases t0 : zp_tB K n k = 0
  · rw [if_pos t0] at h
    exact y_wo0 (t := zp_tB K n k) (zt_B3 k) t0 (fun Q hQ => y_dem1 I hQ) h
  · rw [if_neg t0] at h
    obtain ⟨j, hj, ex, hty, hm⟩ := hF.2.2 t0
    have ej : y.toNatClampNeg = j := by rw [ex]; exact nI_clamp (by omega)
    rw [ej] at h
    rw [ex]
    exact y_wop I (zt_B3 k) (zt_vB k) ht t0 hj hm hty (fun Q hQ => y_dem1 I hQ) (fun Q hQ => y_vw1 I (zi_lM hl) (zi_lw hl).mp (fun q hq => by rw [hq t0]; exact hQ)) h
/-- one choice written and made again -/
theorem y_e185 {post : Int32 → SY → Prop} {J : Int32 → Int32 → Int32 → Int32 → Int32 → Int32 → Int32 → Int32 → (Nat → Int32) → (Nat → Int32) → (Nat → Int32) → (Nat → Int32) → (Nat → Int32) → (Nat → Int32) → (Nat → Int32) → (Nat → Int32) → (Nat → Int32) → (Nat → Int32) → (Nat → Int32) → Prop} {x1 : Int32} {tn L : Nat} {bf : Nat → Int32} (I : zp_I P C n w K A B) (hl : zp_lg K C n w k = true) (hF : zp_FT K n w k x y) (ht : tn ≤ 256)
    (h3 : ∀ m, w = some m → k = 10 → J 1 (nI (L + 1)) fP (nI C) fS (nI n) (nI (zb_cw K C n w k x y (bf, tn)).2) ps K A (upd B m x) va oK oA oB ro fr ((zb_cw K C n w k x y (bf, tn)).1) we)
    (h4 : w = none → k ≠ 10 → J 1 (nI (L + 1)) fP (nI C) fS (nI (n + 1)) (nI (zb_cw K C n w k x y (bf, tn)).2) ps (upd K n k) (upd A n (zp_nA K n w k x)) (upd B n (zp_nB K n k y)) va oK oA oB ro fr ((zb_cw K C n w k x y (bf, tn)).1) we) :
    wY_encode_185 post J x1 (nI L) k x y 1 fP (nI C) fS (nI n) (nI tn) ps K A B va oK oA oB ro fr bf we := by
  have hw := zi_lw hl
  obtain ⟨kk, hkk, ek⟩ := zi_kk hl
  have ekc : k.toNatClampNeg = kk := by rw [ek]; exact nI_clamp (by omega)
  have l1 := zb_kl_len (K := K) (C := C) (n := n) (w := w) 11
  have l2 := zb_kl_len (K := K) (C := C) (n := n) (w := w) kk
  have s1 : (zb_wr (zb_kl K C n w 11).length (zb_kl K C n w kk).length (bf, tn)).2 ≤ 256 := zb_wrb ht
  have F : ∀ s : (Nat → Int32) × Nat, s.2 ≤ 256 → zb_w3 K n k y (zb_w2 K n w k x s) = zb_cw K C n w k x y (bf, tn) → wY_encode_228 post J x1 1 (nI L) k x y fP (nI C) fS (nI n) (nI s.2) ps K A B va oK oA oB ro fr s.1 we := by
    intro s hs e
    unfold wY_encode_228
    have s2 : (zb_w2 K n w k x s).2 ≤ 256 := by
      unfold zb_w2
      by_cases t0 : zp_tA K n w k = 0
      · rw [if_pos t0]; exact hs
      · rw [if_neg t0]; exact zb_wrb (zb_wrb hs)
    refine y_w2 I hl hF hs (y_w3 I hl hF s2 ?_)
    have e' : zb_w3 K n k y ((zb_w2 K n w k x (s.1, s.2)).1, (zb_w2 K n w k x (s.1, s.2)).2) = zb_cw K C n w k x y (bf, tn) := e
    rw [e']
    refine y_add I (fun z => by rw [hl] at z; cases z) (fun _ z => absurd hF z) (fun m _ _ e1 e2 => nm_r (nI_1 L) (h3 m e1 e2)) (fun _ _ e2 => nm_r (nI_1 L) ?_)
    cases w with
    | none => exact h4 rfl e2
    | some m => exact absurd (hw.mpr (fun z => by cases z)) e2
  have lB : ∀ Q : Int32 → Prop, Q (nI (zb_kl K C n w kk).length) → wpY_legalBelow Q (fP, nI C, fS, nI n, nI tn, ps, K, A, B, va, oK, oA, oB, ro, fr, bf, we) k := by
    intro Q hQ
    rw [ek]
    exact y_legB I (by omega) hQ
  refine br_f (by decide) (y_legB (l := 11) I (by omega) (lB _ (y_write (by omega) (by omega) ht ?_)))
  have ew : zb_w1 K C n w k x (bf, tn) = if k = 1 then zb_wr 8 x.toNatClampNeg (zb_wr (zb_kl K C n w 11).length (zb_kl K C n w kk).length (bf, tn)) else zb_wr (zb_kl K C n w 11).length (zb_kl K C n w kk).length (bf, tn) := by
    unfold zb_w1; rw [ekc]
  by_cases k1 : k = 1
  · rw [if_pos k1] at ew
    obtain ⟨j, hj, ex⟩ := hF.1 k1
    have ej : x.toNatClampNeg = j := by rw [ex]; exact nI_clamp (by omega)
    rw [ej] at ew
    refine br_t k1 ?_
    have F' := F (zb_wr 8 j (zb_wr (zb_kl K C n w 11).length (zb_kl K C n w kk).length (bf, tn))) (zb_wrb s1) (by unfold zb_cw; rw [ew])
    subst ex
    exact y_write (r := 8) (by omega) (by omega) s1 F'
  · rw [if_neg k1] at ew
    exact br_f k1 (F _ s1 (by unfold zb_cw; rw [ew]))
end
section
variable {fS ps : Int32} {K A B va oK oA oB ro fr bf we : Nat → Int32} {P C n : Nat} {w : Option Nat}
theorem zq_in {f g : Nat → Int32} {m i : Nat} (h : i < m) : zq_cp f g m i = g i := if_pos h
/-- the reference makes the program once more, up to every earlier state -/
theorem y_rep (I : zp_I P C n w K A B) : ∀ (L n0 : Nat) (w0 : Option Nat) (K0 A0 B0 T0 : Nat → Int32) (m0 : Nat), zr_P P C L n0 w0 K0 A0 B0 T0 m0 → m0 ≤ 256 → L < 64 → n0 ≤ n → (∀ i, i < n0 → K0 i = K i ∧ A0 i = A i ∧ (B0 i ≠ -1 → B i = B0 i)) →
    ∃ Bc bc : Nat → Int32, (∀ i, i < n0 → B0 i = Bc i) ∧ (∀ i, n0 ≤ i → Bc i = B i) ∧ (∀ i, i < m0 → T0 i = bc i) ∧ (∀ i, m0 ≤ i → bc i = bf i) ∧
      ∀ (post : Int32 → SY → Prop) (d : Nat), wY_encode_67 post (nI n) d 1 (nI L) (nI P) (nI C) fS (nI n0) (nI m0) ps K A Bc va (zq_cp oK K n) (zq_cp oA A n) (zq_cp oB B n) ro fr bc we → wY_encode_67 post (nI n) (d + L) 1 (nI 0) (nI P) (nI C) fS (nI P) (nI 0) ps K A B va (zq_cp oK K n) (zq_cp oA A n) (zq_cp oB B n) ro fr bf we := by
  have hn := zi_16 I
  intro L
  induction L with
  | zero =>
    rintro n0 w0 K0 A0 B0 T0 m0 ⟨rfl, rfl, rfl, I0⟩ _ _ _ hpre
    refine ⟨B, bf, fun i hi => ?_, fun _ _ => rfl, fun i hi => by omega, fun _ _ => rfl, fun post d h => h⟩
    rw [(I0.2.1 i hi).2.2, (I.2.1 i hi).2.2]
  | succ L ih =>
    rintro n' w' K' A' B' T' m' ⟨n0, w0, K0, A0, B0, T0, m0, k, x, y, hP, hl, hF, hT, h⟩ hm' hL hn' hpre
    obtain ⟨I0, _⟩ := zr_PI L n0 w0 K0 A0 B0 T0 m0 hP
    have hn0 := zi_16 I0
    have n0n : n0 ≤ n := by
      rcases h with ⟨q, _, _, e, _⟩ | ⟨_, _, e, _⟩ <;> omega
    have m0' : m0 ≤ 256 := zr_Pm L n0 w0 K0 A0 B0 T0 m0 hP
    have pre0 : ∀ i, i < n0 → K0 i = K i ∧ A0 i = A i ∧ (B0 i ≠ -1 → B i = B0 i) := by
      intro i hi
      rcases h with ⟨q, e1, e2, e3, e4, e5, e6, e7⟩ | ⟨e1, e2, e3, e4, e5, e6, e7⟩
      · have p := hpre i (by omega)
        rw [e5, e6, e7] at p
        refine ⟨p.1, p.2.1, fun z => ?_⟩
        have iq : i ≠ q := by
          intro iq
          subst iq e1
          obtain ⟨_, _, _, _, _, a5, _⟩ := zi_og I0
          exact z a5
        rw [pk_un iq] at p
        exact p.2.2 z
      · have p := hpre i (by omega)
        rw [e5, e6, e7, pk_un (by omega), pk_un (by omega), pk_un (by omega)] at p
        exact p
    obtain ⟨Bc, bc, c1, c2, c3, c4, c5⟩ := ih n0 w0 K0 A0 B0 T0 m0 hP m0' (by omega) n0n pre0
    have E : ∀ j, j < n0 → K0 j = K j := fun j hj => (pre0 j hj).1
    have Ir : zp_I P C n0 w0 K A Bc := ee_I E (fun j hj => (pre0 j hj).2.1) c1 I0
    have hw0 : ∀ m, w0 = some m → m < n0 := fun m e => by subst e; obtain ⟨_, _, a2, _⟩ := zi_og I0; exact a2
    have lr : zp_lg K C n0 w0 k = true := by rw [← ee_lg E]; exact hl
    have Fr : zp_FT K n0 w0 k x y := ee_FT E hw0 hF
    have hT' : (T', m') = zb_cw K C n0 w0 k x y (T0, m0) := by rw [← ee_cw hn0 E hw0 hF]; exact hT
    have ag := zb_cw2 (K := K) (C := C) (n := n0) (w := w0) (k := k) (x := x) (y := y) (s := (T0, m0)) (s' := (bc, m0)) ⟨rfl, c3⟩
    rw [← hT'] at ag
    have ag1 : m' = (zb_cw K C n0 w0 k x y (bc, m0)).2 := ag.1
    have ag2 : ∀ i, i < m' → T' i = (zb_cw K C n0 w0 k x y (bc, m0)).1 i := ag.2
    have out := zb_cw_all (K := K) (C := C) (n := n0) (w := w0) (k := k) (x := x) (y := y) (s := (bc, m0)) (fun s => ∀ i, s.2 ≤ i → s.1 i = bf i) (fun r c s hs => zb_wrO hs) c4
    rw [← ag1] at out
    have hf0 := (zp_lg_t lr).1
    have lt16 := zi_lt Ir hf0
    rcases h with ⟨q, e1, e2, e3, e4, e5, e6, e7⟩ | ⟨e1, e2, e3, e4, e5, e6, e7⟩
    · subst e1 e2 e3 e5 e6 e7
      obtain ⟨o, a1, a2, a3, a4, a5, _⟩ := zi_og Ir
      have xn := zi_x10 Ir Fr
      have Bq : B q = x := by
        have := (hpre q (by omega)).2.2 (by rw [pk_us]; exact xn)
        rw [pk_us] at this; exact this
      refine ⟨upd Bc q x, (zb_cw K C n' (some q) 10 x y (bc, m0)).1, fun i hi => ?_, fun i hi => ?_, ag2, out, fun post d h => ?_⟩
      · by_cases iq : i = q
        · rw [iq, pk_us, pk_us]
        · rw [pk_un iq, pk_un iq]; exact c1 i hi
      · rw [pk_un (by omega)]; exact c2 i hi
      · rw [show d + (L + 1) = (d + 1) + L from by omega]
        refine c5 post (d + 1) ?_
        refine br_f (nI_ge (b := 64) (by omega) (by omega)) (br_f (by decide) (y_awaited Ir (br_f (zp_nm1 (by omega)) ⟨vp_in_nI (by omega) (by omega), ?_⟩)))
        rw [oI_s, nI_clamp (by omega), zq_in (by omega), Bq]
        refine nm_e (br_f (zp_nm1 (by omega)) (br_f xn ?_))
        refine y_e185 Ir lr ⟨Fr.1, Fr.2.1, fun z => absurd (zt_Be (by decide) (fun z => absurd z.1 (by decide))) z⟩ m0' (fun m em _ => ?_) (fun em => by cases em)
        injection em with em
        subst em
        have ecw : zb_cw K C n' (some q) 10 x (-1) (bc, m0) = zb_cw K C n' (some q) 10 x y (bc, m0) := by
          have t0 : zp_tB K n' 10 = 0 := zt_Be (by decide) (fun z => absurd z.1 (by decide))
          unfold zb_cw zb_w3
          rw [if_pos t0, if_pos t0]
        rw [ecw, ← ag1]
        exact h
    · subst e1 e3 e5 e6 e7
      have pn := hpre n0 (by omega)
      rw [pk_us, pk_us, pk_us] at pn
      have eA : zp_nA K0 n0 none k x = zp_nA K n0 none k x := ee_nA E hw0
      have eB : zp_nB K0 n0 k y = zp_nB K n0 k y := ee_nB E
      rw [eA, eB] at pn
      have Kn : K n0 = k := pn.1.symm
      have An : A n0 = zp_nA K n0 none k x := pn.2.1.symm
      have xA : (k = 1 ∨ zp_tA K n0 none k ≠ 0) → A n0 = x := fun z => by rw [An]; unfold zp_nA; rw [if_pos z]
      have yB : zp_tB K n0 k ≠ 0 → B n0 = y := fun z => by
        have e : zp_nB K n0 k y = y := by unfold zp_nB; rw [if_pos z]
        rw [e] at pn
        exact pn.2.2 (zs_SN (by omega) (Fr.2.2 z))
      have Fr' : zp_FT K n0 none k (A n0) (B n0) := ⟨fun z => by rw [xA (Or.inl z)]; exact Fr.1 z, fun z => by rw [xA (Or.inr z)]; exact Fr.2.1 z, fun z => by rw [yB z]; exact Fr.2.2 z⟩
      have ecw : zb_cw K C n0 none k (A n0) (B n0) (bc, m0) = zb_cw K C n0 none k x y (bc, m0) := by
        unfold zb_cw zb_w1 zb_w2 zb_w3
        have q3 : ∀ s, (if zp_tB K n0 k = 0 then s else zb_wo K n0 (zp_tB K n0 k) (zp_vB K n0 k) (B n0).toNatClampNeg s) = (if zp_tB K n0 k = 0 then s else zb_wo K n0 (zp_tB K n0 k) (zp_vB K n0 k) y.toNatClampNeg s) := fun s => by
          by_cases t0 : zp_tB K n0 k = 0
          · rw [if_pos t0, if_pos t0]
          · rw [if_neg t0, if_neg t0, yB t0]
        have q2 : ∀ s, (if zp_tA K n0 none k = 0 then s else zb_wo K n0 (zp_tA K n0 none k) (zp_vA K n0 k) (A n0).toNatClampNeg s) = (if zp_tA K n0 none k = 0 then s else zb_wo K n0 (zp_tA K n0 none k) (zp_vA K n0 k) x.toNatClampNeg s) := fun s => by
          by_cases t0 : zp_tA K n0 none k = 0
          · rw [if_pos t0, if_pos t0]
          · rw [if_neg t0, if_neg t0, xA (Or.inr t0)]
        rw [q3, q2]
        by_cases k1 : k = 1
        · rw [if_pos k1, if_pos k1, xA (Or.inl k1)]
        · rw [if_neg k1, if_neg k1]
      have nA' : zp_nA K n0 none k (A n0) = A n0 := by
        unfold zp_nA
        by_cases z : k = 1 ∨ zp_tA K n0 none k ≠ 0
        · rw [if_pos z]
        · rw [if_neg z, An]; unfold zp_nA; rw [if_neg z]
      have nB' : zp_nB K n0 k (B n0) = zp_nB K n0 k y := by
        unfold zp_nB
        by_cases z : zp_tB K n0 k ≠ 0
        · rw [if_pos z, if_pos z, yB z]
        · rw [if_neg z, if_neg z]
      refine ⟨upd Bc n0 (zp_nB K n0 k y), (zb_cw K C n0 none k x y (bc, m0)).1, fun i hi => ?_, fun i hi => ?_, ag2, out, fun post d h => ?_⟩
      · by_cases iq : i = n0
        · rw [iq, pk_us, pk_us, eB]
        · rw [pk_un iq, pk_un iq]; exact c1 i (by omega)
      · rw [pk_un (by omega)]; exact c2 i (by omega)
      · rw [show d + (L + 1) = (d + 1) + L from by omega]
        refine c5 post (d + 1) ?_
        have V : vp_in (nI n0) 16 := vp_in_nI (by omega) (by omega)
        refine br_f (nI_ge (b := 64) (by omega) (by omega)) (br_f (by decide) (y_awaited Ir (br_t rfl (br_f (nI_ge (by omega) (by omega)) ⟨V, ?_⟩))))
        rw [nI_clamp (by omega), zq_in (by omega), zq_in (by omega), zq_in (by omega)]
        refine nm_e ⟨V, nm_e ⟨V, nm_e (br_t rfl (br_f (nI_ge (by omega) (by omega)) ?_))⟩⟩
        rw [Kn]
        refine y_e185 Ir lr Fr' m0' (fun m em => by cases em) (fun _ _ => ?_)
        rw [ecw, ← ag1, nA', nB', zq_self Kn, zq_self rfl]
        exact h
theorem y_ini {post : SY → Prop} {nb fm : Int32} (hP : P ≤ 3) (hK : ∀ i, i < P → K i = 11 ∧ A i = -1 ∧ B i = -1) (h : post (nI P, nI C, fS, nI P, nb, ps, K, A, B, va, oK, oA, oB, ro, fr, bf, we)) : wpY_initial post (nI P, nI C, fS, fm, nb, ps, K, A, B, va, oK, oA, oB, ro, fr, bf, we) := by
  have key : ∀ d i, i + d = P → wY_initial_10 post (nI P) (nI C) fS (nI P) nb ps (d + 1) (nI i) K A B va oK oA oB ro fr bf we := by
    intro d
    induction d with
    | zero =>
      intro i hi
      have : i = P := by omega
      subst this
      exact br_t (nI_le (Nat.le_refl _) (by omega)) h
    | succ d ih =>
      intro i hi
      have V : vp_in (nI i) 16 := vp_in_nI (by omega) (by omega)
      have k := hK i (by omega)
      refine br_f (nI_ge (by omega) (by omega)) ⟨V, ?_⟩
      rw [nI_clamp (by omega), zq_self k.1, zq_self k.2.1, zq_self k.2.2]
      exact nm_e ⟨V, nm_e ⟨V, nm_e (nm_r (nI_1 i) (ih (i + 1) (by omega)))⟩⟩
  exact Exists.intro (P + 1) (key P 0 (by omega))
theorem y_enc {post : Int32 → SY → Prop} {nb : Int32} {L tn : Nat} {tr : Nat → Int32} (I : zp_I P C n w K A B) (hP : zr_P P C L n w K A B tr tn) (h : post (nI tn) (nI P, nI C, fS, nI n, nI tn, ps, K, A, B, va, zq_cp oK K n, zq_cp oA A n, zq_cp oB B n, ro, fr, zq_cp bf tr tn, we)) : wpY_encode post (nI P, nI C, fS, nI n, nb, ps, K, A, B, va, oK, oA, oB, ro, fr, bf, we) := by
  have hn := zi_16 I
  have LB := (zr_PI L n w K A B tr tn hP).2
  have LC := zc_le (K := K) (B := B) n
  have E67 : ∃ d, wY_encode_67 post (nI n) d 1 0 (nI P) (nI C) fS (nI P) 0 ps K A B va (zq_cp oK K n) (zq_cp oA A n) (zq_cp oB B n) ro fr bf we := by
    obtain ⟨Bc, bc, c1, c2, c3, c4, c5⟩ := y_rep (fS := fS) (ps := ps) (va := va) (oK := oK) (oA := oA) (oB := oB) (ro := ro) (fr := fr) (bf := bf) (we := we) I L n w K A B tr tn hP (zr_Pm L n w K A B tr tn hP) (by omega) (Nat.le_refl _) (fun i hi => ⟨rfl, rfl, fun _ => rfl⟩)
    have eB : Bc = B := by
      funext i
      rcases Nat.lt_or_ge i n with z | z
      · exact (c1 i z).symm
      · exact c2 i z
    have eb : bc = zq_cp bf tr tn := by
      funext i
      unfold zq_cp
      rcases Nat.lt_or_ge i tn with z | z
      · rw [if_pos z]; exact (c3 i z).symm
      · rw [if_neg (by omega)]; exact c4 i z
    subst eB eb
    refine ⟨2 + L, c5 post 2 ?_⟩
    have fin : wY_encode_67 post (nI n) 1 0 (nI (L + 1)) (nI P) (nI C) fS (nI n) (nI tn) ps K A Bc va (zq_cp oK K n) (zq_cp oA A n) (zq_cp oB Bc n) ro fr (zq_cp bf tr tn) we := br_c (fun _ => h) (fun _ => br_t rfl h)
    refine br_f (nI_ge (b := 64) (by omega) (by omega)) (br_f (by decide) (y_awaited I ?_))
    cases w with
    | none =>
      exact br_t rfl (br_t (nI_le (Nat.le_refl _) (by omega)) (br_t rfl (br_t (nI_le (Nat.le_refl _) (by omega)) (br_t rfl (nm_r (nI_1 L) fin)))))
    | some m =>
      obtain ⟨o, a1, a2, a3, a4, a5, _⟩ := zi_og I
      refine br_f (zp_nm1 (by omega)) ⟨vp_in_nI (by omega) (by omega), ?_⟩
      rw [oI_s, nI_clamp (by omega), zq_in a2, a5]
      exact nm_e (br_f (zp_nm1 (by omega)) (br_t rfl (br_t rfl (nm_r (nI_1 L) fin))))
  have key : ∀ d i, i + d = n → wY_encode_7 post (nI n) (nI P) (nI C) fS (nI n) nb ps (d + 1) (nI i) K A B va (zq_cp oK K i) (zq_cp oA A i) (zq_cp oB B i) ro fr bf we := by
    intro d
    induction d with
    | zero =>
      intro i hi
      have : i = n := by omega
      subst this
      exact br_t (nI_le (Nat.le_refl _) (by omega)) (y_ini I.1.1 I.2.1 E67)
    | succ d ih =>
      intro i hi
      have V : vp_in (nI i) 16 := vp_in_nI (by omega) (by omega)
      refine br_f (nI_ge (by omega) (by omega)) ⟨V, V, ?_⟩
      rw [nI_clamp (by omega), zq_cps, zq_cps, zq_cps]
      exact nm_e ⟨V, V, nm_e ⟨V, V, nm_e (nm_r (nI_1 i) (ih (i + 1) (by omega)))⟩⟩
  have k0 := key n 0 (by omega)
  rw [zq_cp0, zq_cp0, zq_cp0] at k0
  exact Exists.intro (n + 1) k0
end
end
section
/-! running: values, the marks, one walked item -/
def zv (va : Nat → Int32) (n : Nat) (a : Int32) : Int32 := if a < 0 then 0 else if a < nI n then va a.toNatClampNeg else 0
def zw_sy (K mr ro we : Nat → Int32) (o : Nat) : Prop := (K o = 7 → mr o = ro o) ∧ (K o = 6 → mr o = we o ∧ (we o = 0 ∨ we o = 1))
def zw_G (K mr ro we : Nat → Int32) (p : Nat) : Prop := (∀ o t, (o, t) ∈ zp_sk K p → zw_sy K mr ro we o) ∧ (∀ o, zp_jf K p = some o → zw_sy K mr ro we o)
def zw_ff (va B : Nat → Int32) (n o : Nat) (fr : Nat → Int32) : Nat → (Nat → Int32)
  | 0 => fr
  | c + 1 => upd (zw_ff va B n o fr c) (o + 1 + c) (zv va n (B (o + 1 + c)))
def zw_vv (f : Nat → Int32) (o : Nat) (va : Nat → Int32) : Nat → (Nat → Int32)
  | 0 => va
  | c + 1 => upd (zw_vv f o va c) (o + 1 + c) (f (o + 1 + c))
theorem zw_run {K : Nat → Int32} {o : Nat} : ∀ i, o < i → ¬ zp_M (K i) → ∃ c, o + 1 + c ≤ i ∧ (∀ j, j < c → zp_M (K (o + 1 + j))) ∧ ¬ zp_M (K (o + 1 + c)) := by
  intro i hi hM
  obtain ⟨r, r1, r2⟩ := zl_first (fun c => ¬ zp_M (K (o + 1 + c))) (i - o)
  cases r with
  | none => exact absurd (r2 rfl (i - o - 1) (by omega)) (fun z => z (by rw [show o + 1 + (i - o - 1) = i from by omega]; exact hM))
  | some c =>
    obtain ⟨a, b, d⟩ := r1 c rfl
    exact ⟨c, by omega, fun j hj => Decidable.of_not_not (d j hj), b⟩
section
variable {K mr ro we : Nat → Int32} {n : Nat}
theorem zw_up {o i : Nat} {a b : Int32} (h : zw_sy K mr ro we o) (hi : o ≠ i) : zw_sy K (upd mr i a) ro we o ∧ zw_sy K (upd mr i a) (upd ro i b) we o ∧ zw_sy K (upd mr i a) ro (upd we i b) o := by
  refine ⟨⟨fun z => ?_, fun z => ?_⟩, ⟨fun z => ?_, fun z => ?_⟩, ⟨fun z => ?_, fun z => ?_⟩⟩
  · rw [pk_un hi]; exact h.1 z
  · rw [pk_un hi]; exact h.2 z
  · rw [pk_un hi, pk_un hi]; exact h.1 z
  · rw [pk_un hi]; exact h.2 z
  · rw [pk_un hi]; exact h.1 z
  · rw [pk_un hi, pk_un hi]; exact h.2 z
theorem zw_pl {p : Nat} (h : ¬ zp_B (K p)) (G : zw_G K mr ro we p) : zw_G K mr ro we (p + 1) := by
  refine ⟨fun o t hm => G.1 o t (by rw [zp_skp h] at hm; exact hm), fun o ho => G.2 o ?_⟩
  unfold zp_jf at ho ⊢
  rw [zp_ls_n h] at ho; exact ho
theorem zw_jb {p o : Nat} (hb : zp_B (K p)) (h : zp_jf K (p + 1) = some o) : ∃ t r, K p = 0 ∧ zp_sk K p = (o, t) :: r ∧ K o = 6 ∧ t ≠ 0 := by
  unfold zp_jf at h
  rw [zp_ls_b hb] at h
  simp only [Option.bind_some] at h
  cases he : zp_el K p with
  | none => rw [he] at h; cases h
  | some e =>
    obtain ⟨o', t⟩ := e
    rw [he] at h
    injection h with h
    obtain ⟨a, r, b, c, d⟩ := zp_el_some he
    have h' : o' = o := h
    subst h'
    exact ⟨t, r, a, b, c, d⟩
theorem zw_top {p o t : Nat} {r : List (Nat × Nat)} (hs : zp_sk K p = (o, t) :: r) (G : zw_G K mr ro we p) : zw_sy K mr ro we o ∧ ∀ o' t', (o', t') ∈ zp_sk K o → zw_sy K mr ro we o' := by
  have S := zp_st p o t r hs
  refine ⟨G.1 o t (by rw [hs]; exact List.mem_cons_self), fun o' t' hm => G.1 o' t' ?_⟩
  rw [hs, S.2.2.1]; exact List.mem_cons_of_mem _ hm
/-- an end of an inner part: what stands behind it -/
theorem zw_e1 {e o t : Nat} {r : List (Nat × Nat)} (h0 : K e = 0) (hs : zp_sk K e = (o, t) :: r) (hso : zw_sy K mr ro we o) (hr : ∀ o' t', (o', t') ∈ zp_sk K o → zw_sy K mr ro we o') : zw_G K mr ro we (e + 1) := by
  have S := zp_st e o t r hs
  refine ⟨fun o' t' hm => ?_, fun o' ho => ?_⟩
  · rw [zp_sk0 h0, hs] at hm
    by_cases hc : K o = 6 ∧ t = 0
    · rw [zp_pop2 hc] at hm
      rcases List.mem_cons.mp hm with z | z
      · injection z with z1 z2
        subst z1; exact hso
      · rw [S.2.2.1] at z; exact hr o' t' z
    · rw [zp_pop1 hc, S.2.2.1] at hm
      exact hr o' t' hm
  · obtain ⟨t2, r2, _, h2, _⟩ := zw_jb (Or.inl h0) ho
    rw [hs] at h2
    injection h2 with h2 _
    injection h2 with h2 _
    subst h2; exact hso
theorem zw_ini {P : Nat} (hK : ∀ i, i < P → K i = 11) : zw_G K mr ro we P := by
  have Z := zs_par hK P (Nat.le_refl _)
  refine ⟨fun o t hm => ?_, fun o ho => ?_⟩
  · rw [Z.2.2.1] at hm; cases hm
  · unfold zp_jf at ho
    rw [Z.2.1] at ho; cases ho
end
section
variable {u0 u1 u2 fP fC fS cu dp ow aw nb ps tb : Int32} {K A B bo lk dm ma mb ji op bf tr va mr fr oK oA oB ro we : Nat → Int32} {n : Nat} {a : Int32}
theorem x_value {post : Int32 → Prop} (hn : n ≤ 16) (h : post (zv va n a)) : wpX_value post (u0, u1, u2, fP, fC, fS, nI n, cu, dp, ow, aw, nb, ps, tb, K, A, B, bo, lk, dm, ma, mb, ji, op, bf, tr, va, mr, fr) a := by
  unfold zv at h
  by_cases h0 : a < 0
  · rw [if_pos h0] at h; exact br_t h0 h
  · rw [if_neg h0] at h
    refine br_f h0 ?_
    by_cases h1 : a < nI n
    · rw [if_pos h1] at h
      refine br_t h1 ⟨?_, h⟩
      obtain ⟨j, hj, rfl⟩ := nI_of h0
      rw [nI_ltI hj (by omega)] at h1
      exact vp_in_nI (by omega) (by omega)
    · rw [if_neg h1] at h; exact br_f h1 h
theorem y_value {post : Int32 → Prop} (hn : n ≤ 16) (h : post (zv va n a)) : wpY_value post (fP, fC, fS, nI n, nb, ps, K, A, B, va, oK, oA, oB, ro, fr, bf, we) a := by
  unfold zv at h
  by_cases h0 : a < 0
  · rw [if_pos h0] at h; exact br_t h0 h
  · rw [if_neg h0] at h
    refine br_f h0 ?_
    by_cases h1 : a < nI n
    · rw [if_pos h1] at h
      refine br_t h1 ⟨?_, h⟩
      obtain ⟨j, hj, rfl⟩ := nI_of h0
      rw [nI_ltI hj (by omega)] at h1
      exact vp_in_nI (by omega) (by omega)
    · rw [if_neg h1] at h; exact br_f h1 h
/-- another pass: fresh values, then all set -/
theorem x_pass {post : Int32 → SX → Prop} {i o c : Nat} (hn : n ≤ 16) (hi : i < n) (hc : o + 1 + c ≤ i) (hM : ∀ j, j < c → zp_M (K (o + 1 + j))) (hX : ¬ zp_M (K (o + 1 + c)))
    (h : post (nI (o + 1 + c)) (u0, u1, u2, fP, fC, fS, nI n, cu, dp, ow, aw, nb, ps, tb, K, A, B, bo, lk, dm, ma, mb, ji, op, bf, tr, zw_vv (zw_ff va B n o fr c) o va c, mr, zw_ff va B n o fr c)) : ∃ d, wX_walkLoopEnd_57 post (nI i) (nI o) u0 u1 u2 fP fC fS (nI n) cu dp ow aw nb ps tb d (nI (o + 1)) (nI (o + 1)) K A B bo lk dm ma mb ji op bf tr va mr fr := by
  have L2 : ∀ d j, j + d = c → wX_walkLoopEnd_111 post (nI (o + 1 + c)) u0 u1 u2 fP fC fS (nI n) cu dp ow aw nb ps tb (d + 1) (nI (o + 1 + j)) K A B bo lk dm ma mb ji op bf tr (zw_vv (zw_ff va B n o fr c) o va j) mr (zw_ff va B n o fr c) := by
    intro d
    induction d with
    | zero =>
      intro j hj
      have : j = c := by omega
      subst this
      exact br_t (nI_le (Nat.le_refl _) (by omega)) h
    | succ d ih =>
      intro j hj
      have V : vp_in (nI (o + 1 + j)) 16 := vp_in_nI (by omega) (by omega)
      refine br_f (nI_ge (by omega) (by omega)) ⟨V, V, ?_⟩
      rw [nI_clamp (by omega)]
      exact nm_e (nm_r (nI_1 _) (ih (j + 1) (by omega)))
  have ex : ∃ d, wX_walkLoopEnd_111 post (nI (o + 1 + c)) u0 u1 u2 fP fC fS (nI n) cu dp ow aw nb ps tb d (nI (o + 1)) K A B bo lk dm ma mb ji op bf tr va mr (zw_ff va B n o fr c) := ⟨c + 1, L2 c 0 (by omega)⟩
  have L1 : ∀ d j, j + d = c → wX_walkLoopEnd_57 post (nI i) (nI o) u0 u1 u2 fP fC fS (nI n) cu dp ow aw nb ps tb (d + 1) (nI (o + 1 + j)) (nI (o + 1 + j)) K A B bo lk dm ma mb ji op bf tr va mr (zw_ff va B n o fr j) := by
    intro d
    induction d with
    | zero =>
      intro j hj
      have : j = c := by omega
      subst this
      refine br_c (fun _ => nm_r (nI_1 o) ex) (fun _ => ⟨vp_in_nI (by omega) (by omega), ?_⟩)
      rw [nI_clamp (by omega)]
      exact x_isM_f hX (br_t rfl (nm_r (nI_1 o) ex))
    | succ d ih =>
      intro j hj
      have V : vp_in (nI (o + 1 + j)) 16 := vp_in_nI (by omega) (by omega)
      refine br_f (nI_ge (by omega) (by omega)) ⟨V, ?_⟩
      rw [nI_clamp (by omega)]
      refine x_isM_t (hM j (by omega)) (br_f (by decide) ⟨V, x_value hn ⟨V, ?_⟩⟩)
      exact nm_e (nm_r (nI_1 _) (nm_r (nI_1 _) (ih (j + 1) (by omega))))
  exact ⟨c + 1, L1 c 0 (by omega)⟩
theorem y_pass {post : Int32 → SY → Prop} {i o c : Nat} (hn : n ≤ 16) (hi : i < n) (hc : o + 1 + c ≤ i) (hM : ∀ j, j < c → zp_M (K (o + 1 + j))) (hX : ¬ zp_M (K (o + 1 + c)))
    (h : post (nI (o + 1 + c)) (fP, fC, fS, nI n, nb, ps, K, A, B, zw_vv (zw_ff va B n o fr c) o va c, oK, oA, oB, upd ro o (ro o + 1), zw_ff va B n o fr c, bf, we)) : wpY_again post (fP, fC, fS, nI n, nb, ps, K, A, B, va, oK, oA, oB, ro, fr, bf, we) (nI o) := by
  have L2 : ∀ d j, j + d = c → wY_again_59 post (nI o) (nI (o + 1 + c)) fP fC fS (nI n) nb ps (d + 1) (nI (o + 1 + j)) K A B (zw_vv (zw_ff va B n o fr c) o va j) oK oA oB ro (zw_ff va B n o fr c) bf we := by
    intro d
    induction d with
    | zero =>
      intro j hj
      have : j = c := by omega
      subst this
      have V : vp_in (nI o) 16 := vp_in_nI (by omega) (by omega)
      refine br_t (nI_le (Nat.le_refl _) (by omega)) ⟨V, V, ?_⟩
      rw [nI_clamp (by omega)]
      exact nm_e h
    | succ d ih =>
      intro j hj
      have V : vp_in (nI (o + 1 + j)) 16 := vp_in_nI (by omega) (by omega)
      refine br_f (nI_ge (by omega) (by omega)) ⟨V, V, ?_⟩
      rw [nI_clamp (by omega)]
      exact nm_e (nm_r (nI_1 _) (ih (j + 1) (by omega)))
  have ex : ∃ d, wY_again_59 post (nI o) (nI (o + 1 + c)) fP fC fS (nI n) nb ps d (nI (o + 1)) K A B va oK oA oB ro (zw_ff va B n o fr c) bf we := ⟨c + 1, L2 c 0 (by omega)⟩
  have L1 : ∀ d j, j + d = c → wY_again_8 post (nI o) fP fC fS (nI n) nb ps (d + 1) (nI (o + 1 + j)) (nI (o + 1 + j)) K A B va oK oA oB ro (zw_ff va B n o fr j) bf we := by
    intro d
    induction d with
    | zero =>
      intro j hj
      have : j = c := by omega
      subst this
      refine br_c (fun _ => nm_r (nI_1 o) ex) (fun _ => ⟨vp_in_nI (by omega) (by omega), ?_⟩)
      rw [nI_clamp (by omega)]
      exact y_isM_f hX (br_t rfl (nm_r (nI_1 o) ex))
    | succ d ih =>
      intro j hj
      have V : vp_in (nI (o + 1 + j)) 16 := vp_in_nI (by omega) (by omega)
      refine br_f (nI_ge (by omega) (by omega)) ⟨V, ?_⟩
      rw [nI_clamp (by omega)]
      refine y_isM_t (hM j (by omega)) (br_f (by decide) ⟨V, y_value hn ⟨V, ?_⟩⟩)
      exact nm_e (nm_r (nI_1 _) (nm_r (nI_1 _) (ih (j + 1) (by omega))))
  refine nm_r (nI_1 o) (nm_r (nI_1 o) ⟨c + 1, ?_⟩)
  exact L1 c 0 (by omega)
end
end
section
/-! running: one item walked on both sides -/
def zw_cv (va : Nat → Int32) (n : Nat) (k a b : Int32) : Int32 := if k = 1 then a else if k = 2 then zv va n a + zv va n b else if k = 3 then zv va n a - zv va n b else if k = 4 then (if zv va n b ≤ zv va n a then 0 else 1) else 1 - zv va n a
section
variable {K A B : Nat → Int32} {P C n : Nat} {w : Option Nat}
theorem zw_fin (I : zp_I P C n w K A B) (hf : zp_fi K n = true) : zp_sk K n = [] ∧ 1 ≤ n ∧ ∃ n', n = n' + 1 ∧ K n' = 0 ∧ zp_sk K n' = [] := by
  cases n with
  | zero => cases hf
  | succ n' =>
    have f := I.2.2.2.1 n' (by omega)
    rw [zp_fi_s f] at hf
    have h := of_decide_eq_true hf
    exact ⟨by rw [zp_sk0 h.1, h.2]; rfl, by omega, n', rfl, h.1, h.2⟩
theorem zw_acm {o e : Nat} (h : e ∈ zp_ac K o n) : e < n ∧ K e = 0 ∧ zp_top K e = some o := by
  have m := List.mem_filter.mp h
  exact ⟨List.mem_range.mp m.1, of_decide_eq_true m.2⟩
theorem zw_ac2 {o t e : Nat} (h : zp_ac K o n = [t, e]) : K t = 0 ∧ zp_sk K t = (o, 0) :: zp_sk K o ∧ t < n ∧ K e = 0 ∧ zp_sk K e = (o, t) :: zp_sk K o ∧ e < n ∧ t ≠ 0 := by
  have mt := zw_acm (K := K) (n := n) (o := o) (e := t) (by rw [h]; exact List.mem_cons_self)
  have me := zw_acm (K := K) (n := n) (o := o) (e := e) (by rw [h]; exact List.mem_cons_of_mem _ List.mem_cons_self)
  have nd : (zp_ac K o n).Nodup := List.Nodup.sublist List.filter_sublist List.nodup_range
  rw [h] at nd
  have te : t ≠ e := fun z => (List.nodup_cons.mp nd).1 (by rw [z]; exact List.mem_cons_self)
  obtain ⟨t1, r1, s1⟩ := zp_top_s mt.2.2
  obtain ⟨t2, r2, s2⟩ := zp_top_s me.2.2
  have S1 := zp_st t o t1 r1 s1
  have S2 := zp_st e o t2 r2 s2
  obtain ⟨l1, p1⟩ := zp_ac_pre (K := K) (o := o) (m := t + 1) (n := n) (by omega)
  obtain ⟨l2, p2⟩ := zp_ac_pre (K := K) (o := o) (m := e + 1) (n := n) (by omega)
  rw [zp_ac_y ⟨mt.2.1, mt.2.2⟩, zp_ac_top t o t1 r1 s1, h] at p1
  rw [zp_ac_y ⟨me.2.1, me.2.2⟩, zp_ac_top e o t2 r2 s2, h] at p2
  have e1 : t1 = 0 := by
    by_cases z : t1 = 0
    · exact z
    · rw [if_neg z] at p1
      have q := (S1.2.2.2 z).2.2.1
      injection p1 with p1 _
      omega
  have e2 : t2 = t := by
    by_cases z : t2 = 0
    · rw [if_pos z] at p2
      injection p2 with p2 _
      exact absurd p2 te
    · rw [if_neg z] at p2
      injection p2 with p2 _
      exact p2.symm
  subst e1 e2
  rw [S1.2.2.1] at s1
  rw [S2.2.2.1] at s2
  exact ⟨mt.2.1, s1, mt.1, me.2.1, s2, me.1, by omega⟩
theorem zw_c6 (I : zp_I P C n w K A B) (hf : zp_fi K n = true) {o : Nat} (ho : o < n) (h6 : K o = 6) : ∃ t e, zp_ac K o n = [t, e] := by
  have F := zw_fin I hf
  rcases zp_cl n o ho (Or.inl h6) with ⟨t, h⟩ | ⟨h, _⟩ | ⟨_, h⟩
  · rw [F.1] at h; cases h
  · rw [h6] at h; exact absurd h (by decide)
  · exact h
end
section
variable {u0 u1 u2 fP fC fS cu dp ow aw nb ps tb : Int32} {K A B bo lk dm ma mb ji op bf tr va mr fr oK oA oB ro we : Nat → Int32} {n i : Nat}
theorem xw_7 {post : Int32 → SX → Prop} (hn : n ≤ 16) (hi : i < n) (hk : K i = 7) (h : post (nI (i + 1)) (u0, u1, u2, fP, fC, fS, nI n, cu, dp, ow, aw, nb, ps, tb, K, A, B, bo, lk, dm, ma, mb, ji, op, bf, tr, va, upd mr i 1, fr)) : wpX_walk post (u0, u1, u2, fP, fC, fS, nI n, cu, dp, ow, aw, nb, ps, tb, K, A, B, bo, lk, dm, ma, mb, ji, op, bf, tr, va, mr, fr) (nI i) := by
  have V : vp_in (nI i) 16 := vp_in_nI (by omega) (by omega)
  refine And.intro V ?_
  rw [nI_clamp (by omega), nI_1]
  exact nm_r hk (br_f (by decide) (br_f (by decide) (br_t rfl ⟨V, nm_e h⟩)))
theorem xw_c {post : Int32 → SX → Prop} (hn : n ≤ 16) (hi : i < n) (hk : K i = 1 ∨ K i = 2 ∨ K i = 3 ∨ K i = 4 ∨ K i = 5) (h : post (nI (i + 1)) (u0, u1, u2, fP, fC, fS, nI n, cu, dp, ow, aw, nb, ps, tb, K, A, B, bo, lk, dm, ma, mb, ji, op, bf, tr, upd va i (zw_cv va n (K i) (A i) (B i)), mr, fr)) : wpX_walk post (u0, u1, u2, fP, fC, fS, nI n, cu, dp, ow, aw, nb, ps, tb, K, A, B, bo, lk, dm, ma, mb, ji, op, bf, tr, va, mr, fr) (nI i) := by
  have V : vp_in (nI i) 16 := vp_in_nI (by omega) (by omega)
  have C1 : ∀ {Q : Int32 → Prop}, Q (zw_cv va n (K i) (A i) (B i)) → wpX_computed Q (u0, u1, u2, fP, fC, fS, nI n, cu, dp, ow, aw, nb, ps, tb, K, A, B, bo, lk, dm, ma, mb, ji, op, bf, tr, va, mr, fr) (nI i) := by
    intro Q hQ
    refine And.intro V ?_
    rw [nI_clamp (by omega)]
    unfold zw_cv at hQ
    by_cases k1 : K i = 1
    · rw [if_pos k1] at hQ
      exact br_t k1 ⟨V, hQ⟩
    · rw [if_neg k1] at hQ
      refine br_f k1 ⟨V, x_value hn ⟨V, x_value hn ⟨V, ?_⟩⟩⟩
      rcases hk with z | z | z | z | z
      · exact absurd z k1
      · rw [z] at hQ
        rw [if_pos rfl] at hQ
        exact nm_r z (br_f (by decide) (br_f (by decide) (br_t rfl hQ)))
      · rw [z] at hQ
        rw [if_neg (by decide), if_pos rfl] at hQ
        exact nm_r z (br_f (by decide) (br_f (by decide) (br_f (by decide) (br_t rfl hQ))))
      · rw [z] at hQ
        rw [if_neg (by decide), if_neg (by decide), if_pos rfl] at hQ
        refine nm_r z (br_f (by decide) (br_f (by decide) (br_f (by decide) (br_f (by decide) (br_t rfl ?_)))))
        by_cases c : zv va n (B i) ≤ zv va n (A i)
        · rw [if_pos c] at hQ; exact br_t c hQ
        · rw [if_neg c] at hQ; exact br_f c hQ
      · rw [z] at hQ
        rw [if_neg (by decide), if_neg (by decide), if_neg (by decide)] at hQ
        exact nm_r z (br_f (by decide) (br_t (by decide) hQ))
  have n6 : ¬ K i = 6 := by rcases hk with z | z | z | z | z <;> rw [z] <;> decide
  have n0 : ¬ K i = 0 := by rcases hk with z | z | z | z | z <;> rw [z] <;> decide
  have n7 : ¬ K i = 7 := by rcases hk with z | z | z | z | z <;> rw [z] <;> decide
  have nM : ¬ zp_M (K i) := by rcases hk with z | z | z | z | z <;> rw [z] <;> decide
  refine And.intro V ?_
  have cl : (nI i).toNatClampNeg = i := nI_clamp (by omega)
  rw [cl, nI_1]
  exact nm_e (br_f n6 (br_f n0 (br_f n7 (x_isM_f nM (br_t rfl (C1 ⟨V, nm_e h⟩))))))
theorem xw_M {post : Int32 → SX → Prop} {N : Nat} (hn : n ≤ 16) (hi : i < n) (hS : zx_S n N K bo lk dm ma mb ji op) (hN : i ≤ N) (hk : zp_M (K i)) (hj : ∀ o, zp_jf K i = some o → o < 16)
    (h : post (nI (i + 1)) (u0, u1, u2, fP, fC, fS, nI n, cu, dp, ow, aw, nb, ps, tb, K, A, B, bo, lk, dm, ma, mb, ji, op, bf, tr, upd va i (if zp_jf K i = none ∨ mr ((zp_jf K i).getD 0) = 1 then zv va n (A i) else zv va n (B i)), mr, fr)) : wpX_walk post (u0, u1, u2, fP, fC, fS, nI n, cu, dp, ow, aw, nb, ps, tb, K, A, B, bo, lk, dm, ma, mb, ji, op, bf, tr, va, mr, fr) (nI i) := by
  have V : vp_in (nI i) 16 := vp_in_nI (by omega) (by omega)
  have bi := zp_bk_le (K := K) i
  have C1 : ∀ {Q : Int32 → Prop}, Q (if zp_jf K i = none ∨ mr ((zp_jf K i).getD 0) = 1 then zv va n (A i) else zv va n (B i)) → wpX_mergeValue Q (u0, u1, u2, fP, fC, fS, nI n, cu, dp, ow, aw, nb, ps, tb, K, A, B, bo, lk, dm, ma, mb, ji, op, bf, tr, va, mr, fr) (nI i) := by
    intro Q hQ
    refine And.intro V ?_
    rw [nI_clamp (by omega), hS.1 i hi, nI_clamp (by omega), (hS.2.1 i hN).2.2.2]
    have T : Q (zv va n (A i)) → wX_mergeValue_27 Q (nI i) u0 u1 u2 fP fC fS (nI n) cu dp ow aw nb ps tb K A B bo lk dm ma mb ji op bf tr va mr fr := by
      intro q
      refine And.intro V ?_
      rw [nI_clamp (by omega)]
      exact x_value hn q
    refine ⟨vp_in_nI (by omega) (by omega), ?_⟩
    cases hz : zp_jf K i with
    | none =>
      rw [hz, if_pos (Or.inl rfl)] at hQ
      exact nm_e (br_t rfl (T hQ))
    | some o =>
      have o16 := hj o hz
      rw [hz] at hQ
      have hQ' : Q (if some o = none ∨ mr o = 1 then zv va n (A i) else zv va n (B i)) := hQ
      refine nm_r (oI_s o) (br_f (zp_nm1 (by omega)) ⟨vp_in_nI o16 (by omega), ?_⟩)
      rw [nI_clamp (by omega)]
      by_cases m1 : mr o = 1
      · rw [if_pos (Or.inr m1)] at hQ'
        exact br_t m1 (T hQ')
      · rw [if_neg (by rintro (z | z); cases z; exact m1 z)] at hQ'
        exact br_f m1 ⟨V, x_value hn hQ'⟩
  have n6 : ¬ K i = 6 := by rcases hk with z | z <;> rw [z] <;> decide
  have n0 : ¬ K i = 0 := by rcases hk with z | z <;> rw [z] <;> decide
  have n7 : ¬ K i = 7 := by rcases hk with z | z <;> rw [z] <;> decide
  refine And.intro V ?_
  have cl : (nI i).toNatClampNeg = i := nI_clamp (by omega)
  rw [cl, nI_1]
  exact nm_e (br_f n6 (br_f n0 (br_f n7 (x_isM_t hk (br_f (by decide) (C1 ⟨V, nm_e h⟩))))))
theorem xw_6 {post : Int32 → SX → Prop} {t : Nat} (hn : n ≤ 16) (hi : i < n) (hk : K i = 6) (hl : lk i = nI t)
    (h0 : zv va n (A i) = 0 → post (nI (t + 1)) (u0, u1, u2, fP, fC, fS, nI n, cu, dp, ow, aw, nb, ps, tb, K, A, B, bo, lk, dm, ma, mb, ji, op, bf, tr, va, upd mr i 0, fr)) (h1 : ¬ zv va n (A i) = 0 → post (nI (i + 1)) (u0, u1, u2, fP, fC, fS, nI n, cu, dp, ow, aw, nb, ps, tb, K, A, B, bo, lk, dm, ma, mb, ji, op, bf, tr, va, upd mr i 1, fr)) : wpX_walk post (u0, u1, u2, fP, fC, fS, nI n, cu, dp, ow, aw, nb, ps, tb, K, A, B, bo, lk, dm, ma, mb, ji, op, bf, tr, va, mr, fr) (nI i) := by
  have V : vp_in (nI i) 16 := vp_in_nI (by omega) (by omega)
  have cl : (nI i).toNatClampNeg = i := nI_clamp (by omega)
  refine And.intro V ?_
  rw [cl]
  refine nm_r hk (br_t rfl (And.intro V ?_))
  rw [cl]
  refine x_value hn ?_
  by_cases c : zv va n (A i) = 0
  · refine br_t c (br_t rfl (And.intro V ?_))
    rw [cl, hl, nI_1]
    exact nm_e (br_t rfl ⟨V, h0 c⟩)
  · refine br_f c (br_f (by decide) (And.intro V ?_))
    rw [cl, nI_1]
    exact nm_e (br_f (by decide) (h1 c))
theorem xw_0 {post : Int32 → SX → Prop} (hn : n ≤ 16) (hi : i < n) (hk : K i = 0) (h : wpX_walkEnd post (u0, u1, u2, fP, fC, fS, nI n, cu, dp, ow, aw, nb, ps, tb, K, A, B, bo, lk, dm, ma, mb, ji, op, bf, tr, va, mr, fr) (nI i)) : wpX_walk post (u0, u1, u2, fP, fC, fS, nI n, cu, dp, ow, aw, nb, ps, tb, K, A, B, bo, lk, dm, ma, mb, ji, op, bf, tr, va, mr, fr) (nI i) := by
  have V : vp_in (nI i) 16 := vp_in_nI (by omega) (by omega)
  refine And.intro V ?_
  rw [nI_clamp (by omega)]
  exact nm_r hk (br_f (by decide) (br_t rfl h))
theorem xw_0n {post : Int32 → SX → Prop} (hn : n ≤ 16) (hi : i < n) (hA : A i = -1) (hl : lk i = -1) (h : post (nI (i + 1)) (u0, u1, u2, fP, fC, fS, nI n, cu, dp, ow, aw, nb, ps, tb, K, A, B, bo, lk, dm, ma, mb, ji, op, bf, tr, va, mr, fr)) : wpX_walkEnd post (u0, u1, u2, fP, fC, fS, nI n, cu, dp, ow, aw, nb, ps, tb, K, A, B, bo, lk, dm, ma, mb, ji, op, bf, tr, va, mr, fr) (nI i) := by
  have V : vp_in (nI i) 16 := vp_in_nI (by omega) (by omega)
  refine And.intro V ?_
  rw [nI_clamp (by omega), nI_1]
  exact br_t hA ⟨V, br_t hl h⟩
theorem xw_0t {post : Int32 → SX → Prop} {e : Nat} (hn : n ≤ 16) (hi : i < n) (hA : A i = -1) (he : e < 16) (hl : lk i = nI e) (h : post (nI (e + 1)) (u0, u1, u2, fP, fC, fS, nI n, cu, dp, ow, aw, nb, ps, tb, K, A, B, bo, lk, dm, ma, mb, ji, op, bf, tr, va, mr, fr)) : wpX_walkEnd post (u0, u1, u2, fP, fC, fS, nI n, cu, dp, ow, aw, nb, ps, tb, K, A, B, bo, lk, dm, ma, mb, ji, op, bf, tr, va, mr, fr) (nI i) := by
  have V : vp_in (nI i) 16 := vp_in_nI (by omega) (by omega)
  refine And.intro V ?_
  rw [nI_clamp (by omega), hl, nI_1 e]
  exact br_t hA ⟨V, br_f (zp_nm1 (by omega)) ⟨V, h⟩⟩
theorem xw_0l {post : Int32 → SX → Prop} {o c : Nat} (hn : n ≤ 16) (hi : i < n) (hA : ¬ A i = -1) (ho : o < i) (hl : lk i = nI o) (hc : o + 1 + c ≤ i) (hM : ∀ j, j < c → zp_M (K (o + 1 + j))) (hX : ¬ zp_M (K (o + 1 + c)))
    (h0 : ¬ (zv va n (A i) = 1 ∧ mr o < fS) → post (nI (i + 1)) (u0, u1, u2, fP, fC, fS, nI n, cu, dp, ow, aw, nb, ps, tb, K, A, B, bo, lk, dm, ma, mb, ji, op, bf, tr, va, mr, fr))
    (h1 : zv va n (A i) = 1 ∧ mr o < fS → post (nI (o + 1 + c)) (u0, u1, u2, fP, fC, fS, nI n, cu, dp, ow, aw, nb, ps, tb, K, A, B, bo, lk, dm, ma, mb, ji, op, bf, tr, zw_vv (zw_ff va B n o fr c) o va c, upd mr o (mr o + 1), zw_ff va B n o fr c)) : wpX_walkEnd post (u0, u1, u2, fP, fC, fS, nI n, cu, dp, ow, aw, nb, ps, tb, K, A, B, bo, lk, dm, ma, mb, ji, op, bf, tr, va, mr, fr) (nI i) := by
  have V : vp_in (nI i) 16 := vp_in_nI (by omega) (by omega)
  have Vo : vp_in (nI o) 16 := vp_in_nI (by omega) (by omega)
  have cl : (nI i).toNatClampNeg = i := nI_clamp (by omega)
  refine And.intro V ?_
  rw [cl]
  refine br_f hA (And.intro V ?_)
  rw [cl, hl]
  refine nm_e ⟨V, x_value hn ?_⟩
  rw [nI_1 i]
  by_cases v1 : zv va n (A i) = 1
  · refine br_t v1 ⟨Vo, ?_⟩
    rw [nI_clamp (by omega)]
    by_cases m1 : mr o < fS
    · exact br_t m1 ⟨Vo, Vo, nm_e (nm_r (nI_1 o) (nm_r (nI_1 o) (x_pass hn hi hc hM hX (h1 ⟨v1, m1⟩))))⟩
    · exact br_f m1 (h0 (fun z => m1 z.2))
  · exact br_f v1 (h0 (fun z => v1 z.1))
theorem yw_h {post : Int32 → SY → Prop} (hn : n ≤ 16) (hi : i < n) (h1 : K i = 1 → wY_walk_47 post (nI i) 1 (zv va n (A i)) (zv va n (B i)) fP fC fS (nI n) nb ps K A B (upd va i (A i)) oK oA oB ro fr bf we) (h : ¬ K i = 1 → wY_walk_47 post (nI i) (K i) (zv va n (A i)) (zv va n (B i)) fP fC fS (nI n) nb ps K A B va oK oA oB ro fr bf we) : wpY_walk post (fP, fC, fS, nI n, nb, ps, K, A, B, va, oK, oA, oB, ro, fr, bf, we) (nI i) := by
  have V : vp_in (nI i) 16 := vp_in_nI (by omega) (by omega)
  refine And.intro V ?_
  rw [nI_clamp (by omega)]
  refine nm_e ⟨V, y_value hn ⟨V, y_value hn ?_⟩⟩
  by_cases k1 : K i = 1
  · have h := h1 k1
    refine br_t k1 ⟨V, V, nm_e ?_⟩
    rw [k1]; exact h
  · exact br_f k1 (h k1)
theorem yw_113 {post : Int32 → SY → Prop} {k a b : Int32} (hk : k = 1 ∨ k = 2 ∨ k = 3 ∨ k = 4 ∨ k = 5) (h : post (nI (i + 1)) (fP, fC, fS, nI n, nb, ps, K, A, B, va, oK, oA, oB, ro, fr, bf, we)) : wY_walk_113 post (nI i) k a b fP fC fS (nI n) nb ps K A B va oK oA oB ro fr bf we := by
  have n6 : ¬ k = 6 := by rcases hk with z | z | z | z | z <;> rw [z] <;> decide
  have n0 : ¬ k = 0 := by rcases hk with z | z | z | z | z <;> rw [z] <;> decide
  have n7 : ¬ k = 7 := by rcases hk with z | z | z | z | z <;> rw [z] <;> decide
  have nM : ¬ zp_M k := by rcases hk with z | z | z | z | z <;> rw [z] <;> decide
  rw [← nI_1] at h
  exact br_f n7 (br_f n6 (y_isM_f nM (br_t rfl (br_f n0 h))))
theorem yw_c {post : Int32 → SY → Prop} (hn : n ≤ 16) (hi : i < n) (hk : K i = 1 ∨ K i = 2 ∨ K i = 3 ∨ K i = 4 ∨ K i = 5) (h : post (nI (i + 1)) (fP, fC, fS, nI n, nb, ps, K, A, B, upd va i (zw_cv va n (K i) (A i) (B i)), oK, oA, oB, ro, fr, bf, we)) : wpY_walk post (fP, fC, fS, nI n, nb, ps, K, A, B, va, oK, oA, oB, ro, fr, bf, we) (nI i) := by
  have V : vp_in (nI i) 16 := vp_in_nI (by omega) (by omega)
  have cl : (nI i).toNatClampNeg = i := nI_clamp (by omega)
  unfold zw_cv at h
  refine yw_h hn hi (fun k1 => ?_) (fun k1 => ?_)
  · rw [if_pos k1] at h
    exact br_f (by decide) (br_f (by decide) (br_f (by decide) (br_f (by decide) (yw_113 (Or.inl rfl) h))))
  · rw [if_neg k1] at h
    rcases hk with z | z | z | z | z
    · exact absurd z k1
    · rw [z, if_pos rfl] at h
      rw [z]
      refine br_t rfl ⟨V, ?_⟩
      rw [cl]
      exact nm_e (br_f (by decide) (br_f (by decide) (br_f (by decide) (yw_113 (by decide) h))))
    · rw [z, if_neg (by decide), if_pos rfl] at h
      rw [z]
      refine br_f (by decide) (br_t rfl ⟨V, ?_⟩)
      rw [cl]
      exact nm_e (br_f (by decide) (br_f (by decide) (yw_113 (by decide) h)))
    · rw [z, if_neg (by decide), if_neg (by decide), if_pos rfl] at h
      rw [z]
      refine br_f (by decide) (br_f (by decide) (br_t rfl ?_))
      by_cases c : zv va n (B i) ≤ zv va n (A i)
      · rw [if_pos c] at h
        refine br_t c (And.intro V ?_)
        rw [cl]
        exact nm_e (br_f (by decide) (yw_113 (by decide) h))
      · rw [if_neg c] at h
        refine br_f c (And.intro V ?_)
        rw [cl]
        exact nm_e (br_f (by decide) (yw_113 (by decide) h))
    · rw [z, if_neg (by decide), if_neg (by decide), if_neg (by decide)] at h
      rw [z]
      refine br_f (by decide) (br_f (by decide) (br_f (by decide) (br_t rfl ⟨V, ?_⟩)))
      rw [cl]
      exact nm_e (yw_113 (by decide) h)
theorem yw_7 {post : Int32 → SY → Prop} (hn : n ≤ 16) (hi : i < n) (hk : K i = 7) (h : post (nI (i + 1)) (fP, fC, fS, nI n, nb, ps, K, A, B, va, oK, oA, oB, upd ro i 1, fr, bf, we)) : wpY_walk post (fP, fC, fS, nI n, nb, ps, K, A, B, va, oK, oA, oB, ro, fr, bf, we) (nI i) := by
  have V : vp_in (nI i) 16 := vp_in_nI (by omega) (by omega)
  refine yw_h hn hi (fun z => by rw [hk] at z; exact absurd z (by decide)) (fun _ => ?_)
  rw [hk]
  refine br_f (by decide) (br_f (by decide) (br_f (by decide) (br_f (by decide) (br_t rfl ⟨V, ?_⟩))))
  rw [nI_clamp (by omega)]
  rw [← nI_1] at h
  exact nm_e (br_f (by decide) (y_isM_f (by decide) (br_t rfl (br_f (by decide) h))))
theorem yw_6 {post : Int32 → SY → Prop} {t e : Nat} (hn : n ≤ 16) (hi : i < n) (hk : K i = 6) (hac : zp_ac K i n = [t, e])
    (h0 : zv va n (A i) = 0 → post (nI (t + 1)) (fP, fC, fS, nI n, nb, ps, K, A, B, va, oK, oA, oB, ro, fr, bf, upd we i 0)) (h1 : ¬ zv va n (A i) = 0 → post (nI (i + 1)) (fP, fC, fS, nI n, nb, ps, K, A, B, va, oK, oA, oB, ro, fr, bf, upd we i 1)) : wpY_walk post (fP, fC, fS, nI n, nb, ps, K, A, B, va, oK, oA, oB, ro, fr, bf, we) (nI i) := by
  have V : vp_in (nI i) 16 := vp_in_nI (by omega) (by omega)
  have cl : (nI i).toNatClampNeg = i := nI_clamp (by omega)
  refine yw_h hn hi (fun z => by rw [hk] at z; exact absurd z (by decide)) (fun _ => ?_)
  rw [hk]
  refine br_f (by decide) (br_f (by decide) (br_f (by decide) (br_f (by decide) (br_f (by decide) (br_t rfl ?_)))))
  by_cases c : zv va n (A i) = 0
  · refine br_t c (And.intro V ?_)
    rw [cl, zb_n0]
    refine nm_e (br_t c (y_endOf (q := 0) hn hi (by omega) ?_))
    rw [hac]
    show post (nI t + 1) _
    rw [nI_1]; exact h0 c
  · refine br_f c (And.intro V ?_)
    rw [cl, zb_n1]
    have h1 := h1 c
    rw [← nI_1] at h1
    exact nm_e (br_f c (y_isM_f (by decide) (br_t rfl (br_f (by decide) h1))))
theorem yw_M {post : Int32 → SY → Prop} (hn : n ≤ 16) (hi : i < n) (hk : zp_M (K i)) (hog : zp_og K i ≠ none)
    (h : post (nI (i + 1)) (fP, fC, fS, nI n, nb, ps, K, A, B, upd va i (if zp_jf K i = none ∨ ¬ we ((zp_jf K i).getD 0) = 0 then zv va n (A i) else zv va n (B i)), oK, oA, oB, ro, fr, bf, we)) : wpY_walk post (fP, fC, fS, nI n, nb, ps, K, A, B, va, oK, oA, oB, ro, fr, bf, we) (nI i) := by
  have V : vp_in (nI i) 16 := vp_in_nI (by omega) (by omega)
  have cl : (nI i).toNatClampNeg = i := nI_clamp (by omega)
  have nk : ∀ c : Int32, (c = 0 ∨ c = 1 ∨ c = 2 ∨ c = 3 ∨ c = 4 ∨ c = 5 ∨ c = 6 ∨ c = 7) → ¬ K i = c := by
    intro c hc z
    rcases hk with q | q <;> rw [q] at z <;> subst z <;> exact absurd hc (by decide)
  rw [← nI_1] at h
  refine yw_h hn hi (fun z => absurd z (nk 1 (by decide))) (fun _ => ?_)
  refine br_f (nk 2 (by decide)) (br_f (nk 3 (by decide)) (br_f (nk 4 (by decide)) (br_f (nk 5 (by decide)) (br_f (nk 7 (by decide)) (br_f (nk 6 (by decide)) (y_isM_t hk (br_f (by decide) (y_origin hn (by omega) ?_))))))))
  rcases zp_cls K i with c | ⟨o1, c1, c2, c3, c4, c5, c6⟩ | ⟨s, o1, t, r, c1, c2, c3, c4, c5, c6, c7, c8, c9⟩
  · exact absurd c.1 hog
  · rw [c6, if_pos (Or.inl rfl)] at h
    rw [c3]
    have := (zp_ls_some c1).1
    refine y_kind hn (by omega) (br_f (by rw [c2]; decide) (And.intro V ?_))
    rw [cl]
    exact nm_e (br_f (nk 0 (by decide)) h)
  · rw [c9] at h
    have h' : post (nI i + 1) (fP, fC, fS, nI n, nb, ps, K, A, B, upd va i (if some o1 = none ∨ ¬ we o1 = 0 then zv va n (A i) else zv va n (B i)), oK, oA, oB, ro, fr, bf, we) := h
    rw [c6]
    have a1 := (zp_ls_some c1).1
    have a2 := (zp_st s o1 t r c3).1
    refine y_kind hn (by omega) (br_t c4 ⟨vp_in_nI (by omega) (by omega), ?_⟩)
    rw [oI_s, nI_clamp (by omega)]
    by_cases w0 : we o1 = 0
    · rw [if_neg (by rintro (z | z); cases z; exact z w0)] at h'
      refine br_t w0 (And.intro V ?_)
      rw [cl]
      exact nm_e (br_f (nk 0 (by decide)) h')
    · rw [if_pos (Or.inr w0)] at h'
      refine br_f w0 (And.intro V ?_)
      rw [cl]
      exact nm_e (br_f (nk 0 (by decide)) h')
theorem yw_0 {post : Int32 → SY → Prop} (hn : n ≤ 16) (hi : i < n) (hk : K i = 0) (h : wpY_opener (fun r_68 => (wpY_kind (fun r_86 => (((r_86 = 6 → (wpY_endOf (fun r_145 => (((r_145 = (nI i) → (wpY_endOf (fun r_164 => (post (r_164 + 1) (fP, fC, fS, nI n, nb, ps, K, A, B, va, oK, oA, oB, ro, fr, bf, we))) (fP, fC, fS, nI n, nb, ps, K, A, B, va, oK, oA, oB, ro, fr, bf, we) r_68 2)) ∧ (¬ r_145 = (nI i) → (wY_walk_251 post (nI i) (zv va n (A i)) r_68 fP fC fS (nI n) nb ps K A B va oK oA oB ro fr bf we))))) (fP, fC, fS, nI n, nb, ps, K, A, B, va, oK, oA, oB, ro, fr, bf, we) r_68 1)) ∧ (¬ r_86 = 6 → (wY_walk_251 post (nI i) (zv va n (A i)) r_68 fP fC fS (nI n) nb ps K A B va oK oA oB ro fr bf we))))) (fP, fC, fS, nI n, nb, ps, K, A, B, va, oK, oA, oB, ro, fr, bf, we) r_68)) (fP, fC, fS, nI n, nb, ps, K, A, B, va, oK, oA, oB, ro, fr, bf, we) (nI i)) : wpY_walk post (fP, fC, fS, nI n, nb, ps, K, A, B, va, oK, oA, oB, ro, fr, bf, we) (nI i) := by
  refine yw_h hn hi (fun z => by rw [hk] at z; exact absurd z (by decide)) (fun _ => ?_)
  rw [hk]
  exact br_f (by decide) (br_f (by decide) (br_f (by decide) (br_f (by decide) (br_f (by decide) (br_f (by decide) (y_isM_f (by decide) (br_t rfl (br_t rfl h))))))))
end
end
section
/-! running: in lockstep -/
theorem zw_hd {K : Nat → Int32} {o c : Nat} (h7 : K o = 7) (hM : ∀ j, j < c → zp_M (K (o + 1 + j))) : zp_sk K (o + 1 + c) = (o, 0) :: zp_sk K o ∧ zp_jf K (o + 1 + c) = none := by
  have nb : ∀ j, o < j → j < o + 1 + c → ¬ zp_B (K j) := fun j h1 h2 => zp_MB (by have := hM (j - (o + 1)) (by omega); rw [show o + 1 + (j - (o + 1)) = j from by omega] at this; exact this)
  constructor
  · have key : ∀ j, j ≤ c → zp_sk K (o + 1 + j) = (o, 0) :: zp_sk K o := by
      intro j
      induction j with
      | zero => intro _; exact zp_sk6 (Or.inr h7)
      | succ j ih =>
        intro hj
        have := zp_skp (K := K) (i := o + 1 + j) (nb _ (by omega) (by omega))
        rw [show o + 1 + (j + 1) = o + 1 + j + 1 from by omega, this]
        exact ih (by omega)
    exact key c (Nat.le_refl _)
  · have hl := zp_ls_of (K := K) (s := o) (by rw [h7]; decide) (o + 1 + c) (by omega) nb
    unfold zp_jf
    rw [hl]
    simp only [Option.bind_some]
    rw [zp_el_no (by rintro ⟨z, _⟩; rw [h7] at z; exact absurd z (by decide))]
    rfl
section
variable {u0 u1 u2 fP fC fS cu dp ow aw nb ps tb : Int32} {K A B bo lk dm ma mb ji op bf tr va mr fr oK oA oB ro we : Nat → Int32} {P C n i : Nat} {w : Option Nat}
theorem zw_end (I : zp_I P C n w K A B) (hf : zp_fi K n = true) (hS : zx_S n (n - 1) K bo lk dm ma mb ji op) (hi : i < n) (hPi : P ≤ i) (G : zw_G K mr ro we i) (hk : K i = 0) :
    ∃ (p' : Nat) (va' mr' fr' ro' we' : Nat → Int32), P ≤ p' ∧ p' ≤ n ∧ zw_G K mr' ro' we' p' ∧ (∀ post : Int32 → SX → Prop, post (nI p') (u0, u1, u2, fP, fC, fS, nI n, cu, dp, ow, aw, nb, ps, tb, K, A, B, bo, lk, dm, ma, mb, ji, op, bf, tr, va', mr', fr') → wpX_walk post (u0, u1, u2, fP, fC, fS, nI n, cu, dp, ow, aw, nb, ps, tb, K, A, B, bo, lk, dm, ma, mb, ji, op, bf, tr, va, mr, fr) (nI i)) ∧ (∀ post : Int32 → SY → Prop, post (nI p') (fP, fC, fS, nI n, nb, ps, K, A, B, va', oK, oA, oB, ro', fr', bf, we') → wpY_walk post (fP, fC, fS, nI n, nb, ps, K, A, B, va, oK, oA, oB, ro, fr, bf, we) (nI i)) := by
  have hn := zi_16 I
  have hA := I.2.2.2.2.2.2.2.1 i hi hk
  have lki := hS.2.2.2 i hi
  have V : vp_in (nI i) 16 := vp_in_nI (by omega) (by omega)
  have lkv : lk i = (zp_top K i).elim (-1) (fun o => if K o = 7 then nI o else if zp_el K i = none then oI ((zp_ac K o n)[1]?) else -1) := by
    rw [lki]
    unfold zx_lk
    rw [if_neg (by rw [hk]; decide), if_pos hk]
  cases hs : zp_sk K i with
  | nil =>
    have ht := zp_top_e hs
    have A1 : A i = -1 := hA.mpr (fun o ho => by rw [ht] at ho; cases ho)
    rw [ht] at lkv
    refine ⟨i + 1, va, mr, fr, ro, we, by omega, by omega, ?_, fun post h => xw_0 hn hi hk (xw_0n hn hi A1 lkv h), fun post h => yw_0 hn hi hk (y_opener hn (by omega) ?_)⟩
    · refine ⟨fun o t hm => ?_, fun o ho => ?_⟩
      · rw [zp_sk0 hk, hs] at hm; cases hm
      · obtain ⟨t, r, _, z, _⟩ := zw_jb (Or.inl hk) ho
        rw [hs] at z; cases z
    · rw [ht]
      rw [← nI_1] at h
      exact y_kindN (br_f (by decide) (y_kindN (br_f (by decide) h)))
  | cons x r =>
    obtain ⟨o, t⟩ := x
    have S := zp_st i o t r hs
    have ht := zp_top_c hs
    have T := zw_top hs G
    have acT := zp_ac_top i o t r hs
    have acY := zp_ac_y (K := K) (o := o) (n := i) ⟨hk, ht⟩
    obtain ⟨l, hl⟩ := zp_ac_pre (K := K) (o := o) (m := i + 1) (n := n) (by omega)
    have lkv' : lk i = if K o = 7 then nI o else if zp_el K i = none then oI ((zp_ac K o n)[1]?) else -1 := by
      rw [ht] at lkv; exact lkv
    rcases S.2.1 with c6 | c7
    · have n7 : ¬ K o = 7 := by rw [c6]; decide
      have A1 : A i = -1 := hA.mpr (fun o' ho => by rw [ht] at ho; injection ho with ho; subst ho; exact n7)
      rw [if_neg n7] at lkv'
      obtain ⟨t', e, hac⟩ := zw_c6 I hf (by omega : o < n) c6
      have Q := zw_ac2 hac
      by_cases t0 : t = 0
      · have el : zp_el K i = none := zp_el_no (by rintro ⟨_, o', t2, r2, z, _, z2⟩; rw [hs] at z; injection z with z _; injection z with _ z; omega)
        rw [if_pos el, hac] at lkv'
        have lke : lk i = nI e := lkv'
        have ti : t' = i := by
          rw [acY, acT, if_pos t0, hac] at hl
          injection hl with hl _
        subst ti
        refine ⟨e + 1, va, mr, fr, ro, we, ?_, by omega, zw_e1 Q.2.2.2.1 Q.2.2.2.2.1 T.1 T.2, fun post h => xw_0 hn hi hk (xw_0t hn hi A1 (by omega) lke h), fun post h => yw_0 hn hi hk (y_opener hn (by omega) ?_)⟩
        · have z := (zp_st e o t' _ Q.2.2.2.2.1).2.2.2 Q.2.2.2.2.2.2
          omega
        · rw [ht]
          refine y_kind hn (by omega) (br_t c6 (y_endOf (q := 0) hn (by omega) (by omega) ?_))
          rw [hac]
          refine br_t rfl (y_endOf (q := 1) hn (by omega) (by omega) ?_)
          rw [hac]
          show post (nI e + 1) _
          rw [nI_1]; exact h
      · have el := zp_el_of hk hs c6 t0
        rw [if_neg (by rw [el]; exact fun z => by cases z)] at lkv'
        have tt : (zp_ac K o n)[0]? = some t := by rw [hl, acY, acT, if_neg t0]; rfl
        have ti := (S.2.2.2 t0).2.2.1
        refine ⟨i + 1, va, mr, fr, ro, we, by omega, by omega, zw_e1 hk hs T.1 T.2, fun post h => xw_0 hn hi hk (xw_0n hn hi A1 lkv' h), fun post h => yw_0 hn hi hk (y_opener hn (by omega) ?_)⟩
        rw [ht]
        refine y_kind hn (by omega) (br_t c6 (y_endOf (q := 0) hn (by omega) (by omega) ?_))
        rw [tt]
        rw [← nI_1] at h
        exact br_f (by rw [oI_s, nI_eq (by omega) (by omega)]; omega) (y_kind hn (by omega) (br_f n7 h))
    · have n6 : ¬ K o = 6 := by rw [c7]; decide
      have A1 : ¬ A i = -1 := fun z => hA.mp z o ht c7
      rw [if_pos c7] at lkv'
      obtain ⟨c, hc, hM, hX⟩ := zw_run (K := K) (o := o) i S.1 (by rw [hk]; decide)
      have oP : P ≤ o := by
        rcases Nat.lt_or_ge o P with z | z
        · have := (I.2.1 o z).1
          rw [c7] at this; exact absurd this (by decide)
        · exact z
      have sy := T.1.1 c7
      have Vo : vp_in (nI o) 16 := vp_in_nI (by omega) (by omega)
      by_cases cond : zv va n (A i) = 1 ∧ mr o < fS
      · have H := zw_hd (K := K) (c := c) c7 hM
        refine ⟨o + 1 + c, zw_vv (zw_ff va B n o fr c) o va c, upd mr o (mr o + 1), zw_ff va B n o fr c, upd ro o (ro o + 1), we, by omega, by omega, ⟨fun o' t' hm => ?_, fun o' ho => ?_⟩, fun post h => xw_0 hn hi hk (xw_0l hn hi A1 S.1 lkv' hc hM hX (fun z => absurd cond z) (fun _ => h)), fun post h => yw_0 hn hi hk (y_opener hn (by omega) ?_)⟩
        · rw [H.1] at hm
          rcases List.mem_cons.mp hm with z | z
          · injection z with z1 z2
            subst z1
            refine ⟨fun _ => ?_, fun z => absurd z n6⟩
            rw [pk_us, pk_us, sy]
          · have lt := zp_sk_lt o o' t' z
            exact (zw_up (T.2 o' t' z) (by omega)).2.1
        · rw [H.2] at ho; cases ho
        · rw [ht]
          refine y_kind hn (by omega) (br_f n6 (y_kind hn (by omega) (br_t c7 (br_t cond.1 ⟨Vo, ?_⟩))))
          rw [oI_s, nI_clamp (by omega), ← sy]
          refine br_f (by rw [Int32.not_le]; exact cond.2) (y_pass hn hi hc hM hX h)
      · refine ⟨i + 1, va, mr, fr, ro, we, by omega, by omega, zw_e1 hk hs T.1 T.2, fun post h => xw_0 hn hi hk (xw_0l hn hi A1 S.1 lkv' hc hM hX (fun _ => h) (fun z => absurd z cond)), fun post h => yw_0 hn hi hk (y_opener hn (by omega) ?_)⟩
        rw [ht]
        rw [← nI_1] at h
        refine y_kind hn (by omega) (br_f n6 (y_kind hn (by omega) (br_t c7 ?_)))
        by_cases v1 : zv va n (A i) = 1
        · refine br_t v1 ⟨Vo, ?_⟩
          rw [oI_s, nI_clamp (by omega), ← sy]
          exact br_t (Int32.not_lt.mp (fun z => cond ⟨v1, z⟩)) h
        · exact br_f v1 h
theorem zw_step (I : zp_I P C n w K A B) (hf : zp_fi K n = true) (hS : zx_S n (n - 1) K bo lk dm ma mb ji op) (hi : i < n) (hPi : P ≤ i) (G : zw_G K mr ro we i) :
    ∃ (p' : Nat) (va' mr' fr' ro' we' : Nat → Int32), P ≤ p' ∧ p' ≤ n ∧ zw_G K mr' ro' we' p' ∧ (∀ post : Int32 → SX → Prop, post (nI p') (u0, u1, u2, fP, fC, fS, nI n, cu, dp, ow, aw, nb, ps, tb, K, A, B, bo, lk, dm, ma, mb, ji, op, bf, tr, va', mr', fr') → wpX_walk post (u0, u1, u2, fP, fC, fS, nI n, cu, dp, ow, aw, nb, ps, tb, K, A, B, bo, lk, dm, ma, mb, ji, op, bf, tr, va, mr, fr) (nI i)) ∧ (∀ post : Int32 → SY → Prop, post (nI p') (fP, fC, fS, nI n, nb, ps, K, A, B, va', oK, oA, oB, ro', fr', bf, we') → wpY_walk post (fP, fC, fS, nI n, nb, ps, K, A, B, va, oK, oA, oB, ro, fr, bf, we) (nI i)) := by
  have hn := zi_16 I
  have comp : (K i = 1 ∨ K i = 2 ∨ K i = 3 ∨ K i = 4 ∨ K i = 5) → ∃ (p' : Nat) (va' mr' fr' ro' we' : Nat → Int32), P ≤ p' ∧ p' ≤ n ∧ zw_G K mr' ro' we' p' ∧ (∀ post : Int32 → SX → Prop, post (nI p') (u0, u1, u2, fP, fC, fS, nI n, cu, dp, ow, aw, nb, ps, tb, K, A, B, bo, lk, dm, ma, mb, ji, op, bf, tr, va', mr', fr') → wpX_walk post (u0, u1, u2, fP, fC, fS, nI n, cu, dp, ow, aw, nb, ps, tb, K, A, B, bo, lk, dm, ma, mb, ji, op, bf, tr, va, mr, fr) (nI i)) ∧ (∀ post : Int32 → SY → Prop, post (nI p') (fP, fC, fS, nI n, nb, ps, K, A, B, va', oK, oA, oB, ro', fr', bf, we') → wpY_walk post (fP, fC, fS, nI n, nb, ps, K, A, B, va, oK, oA, oB, ro, fr, bf, we) (nI i)) := by
    intro hk
    have nb : ¬ zp_B (K i) := by rcases hk with z | z | z | z | z <;> rw [z] <;> decide
    exact ⟨i + 1, upd va i (zw_cv va n (K i) (A i) (B i)), mr, fr, ro, we, by omega, by omega, zw_pl nb G, fun post h => xw_c hn hi hk h, fun post h => yw_c hn hi hk h⟩
  have merg : zp_M (K i) → ∃ (p' : Nat) (va' mr' fr' ro' we' : Nat → Int32), P ≤ p' ∧ p' ≤ n ∧ zw_G K mr' ro' we' p' ∧ (∀ post : Int32 → SX → Prop, post (nI p') (u0, u1, u2, fP, fC, fS, nI n, cu, dp, ow, aw, nb, ps, tb, K, A, B, bo, lk, dm, ma, mb, ji, op, bf, tr, va', mr', fr') → wpX_walk post (u0, u1, u2, fP, fC, fS, nI n, cu, dp, ow, aw, nb, ps, tb, K, A, B, bo, lk, dm, ma, mb, ji, op, bf, tr, va, mr, fr) (nI i)) ∧ (∀ post : Int32 → SY → Prop, post (nI p') (fP, fC, fS, nI n, nb, ps, K, A, B, va', oK, oA, oB, ro', fr', bf, we') → wpY_walk post (fP, fC, fS, nI n, nb, ps, K, A, B, va, oK, oA, oB, ro, fr, bf, we) (nI i)) := by
    intro hk
    have og := (I.2.2.2.2.1 i hi hk).1
    have jl : ∀ o, zp_jf K i = some o → o < i ∧ K o = 6 := by
      intro o ho
      rcases zp_cls K i with c | ⟨o1, c1, c2, c3, c4, c5, c6⟩ | ⟨s, o1, t, r, c1, c2, c3, c4, c5, c6, c7, c8, c9⟩
      · exact absurd c.1 og
      · rw [c6] at ho; cases ho
      · rw [c9] at ho
        injection ho with ho
        subst ho
        have a1 := (zp_ls_some c1).1
        have a2 := (zp_st s o1 t r c3).1
        exact ⟨by omega, c4⟩
    have ev : (if zp_jf K i = none ∨ mr ((zp_jf K i).getD 0) = 1 then zv va n (A i) else zv va n (B i)) = (if zp_jf K i = none ∨ ¬ we ((zp_jf K i).getD 0) = 0 then zv va n (A i) else zv va n (B i)) := by
      cases hj : zp_jf K i with
      | none => rw [if_pos (Or.inl rfl), if_pos (Or.inl rfl)]
      | some o =>
        have sy := (G.2 o hj).2 (jl o hj).2
        show (if some o = none ∨ mr o = 1 then _ else _) = (if some o = none ∨ ¬ we o = 0 then _ else _)
        rw [sy.1]
        rcases sy.2 with z | z
        · rw [z, if_neg (by rintro (q | q); cases q; exact absurd q (by decide)), if_neg (by rintro (q | q); cases q; exact q rfl)]
        · rw [z, if_pos (Or.inr rfl), if_pos (Or.inr (by decide))]
    refine ⟨i + 1, upd va i (if zp_jf K i = none ∨ mr ((zp_jf K i).getD 0) = 1 then zv va n (A i) else zv va n (B i)), mr, fr, ro, we, by omega, by omega, zw_pl (zp_MB hk) G, fun post h => xw_M hn hi hS (by omega) hk (fun o ho => by have := (jl o ho).1; omega) h, fun post h => yw_M hn hi hk og ?_⟩
    rw [← ev]; exact h
  rcases I.2.2.1 i hPi hi with hk | hk | hk | hk | hk | hk | hk | hk | hk | hk
  · exact zw_end I hf hS hi hPi G hk
  · exact comp (by rw [hk]; decide)
  · exact comp (by rw [hk]; decide)
  · exact comp (by rw [hk]; decide)
  · exact comp (by rw [hk]; decide)
  · exact comp (by rw [hk]; decide)
  · obtain ⟨t, e, hac⟩ := zw_c6 I hf hi hk
    have Q := zw_ac2 hac
    have lki : lk i = nI t := by
      rw [hS.2.2.2 i hi]
      unfold zx_lk
      rw [if_pos hk, hac]; rfl
    have low : ∀ (x : Int32) o' t', (o', t') ∈ zp_sk K i → zw_sy K (upd mr i x) ro (upd we i x) o' := fun x o' t' hm => (zw_up (G.1 o' t' hm) (by have := zp_sk_lt i o' t' hm; omega)).2.2
    have syi : ∀ x : Int32, (x = 0 ∨ x = 1) → zw_sy K (upd mr i x) ro (upd we i x) i := fun x hx => ⟨fun z => by rw [hk] at z; exact absurd z (by decide), fun _ => by rw [pk_us, pk_us]; exact ⟨rfl, hx⟩⟩
    by_cases c : zv va n (A i) = 0
    · have z := (zp_st t i 0 _ Q.2.1).1
      exact ⟨t + 1, va, upd mr i 0, fr, ro, upd we i 0, by omega, by omega, zw_e1 Q.1 Q.2.1 (syi 0 (Or.inl rfl)) (low 0), fun post h => xw_6 hn hi hk lki (fun _ => h) (fun z => absurd c z), fun post h => yw_6 hn hi hk hac (fun _ => h) (fun z => absurd c z)⟩
    · refine ⟨i + 1, va, upd mr i 1, fr, ro, upd we i 1, by omega, by omega, ⟨fun o' t' hm => ?_, fun o' ho => ?_⟩, fun post h => xw_6 hn hi hk lki (fun z => absurd z c) (fun _ => h), fun post h => yw_6 hn hi hk hac (fun z => absurd z c) (fun _ => h)⟩
      · rw [zp_sk6 (Or.inl hk)] at hm
        rcases List.mem_cons.mp hm with z | z
        · injection z with z1 _
          subst z1; exact syi 1 (Or.inr rfl)
        · exact low 1 o' t' z
      · obtain ⟨_, _, z, _⟩ := zw_jb (by rw [hk]; decide) ho
        rw [hk] at z; exact absurd z (by decide)
  · refine ⟨i + 1, va, upd mr i 1, fr, upd ro i 1, we, by omega, by omega, ⟨fun o' t' hm => ?_, fun o' ho => ?_⟩, fun post h => xw_7 hn hi hk h, fun post h => yw_7 hn hi hk h⟩
    · rw [zp_sk6 (Or.inr hk)] at hm
      rcases List.mem_cons.mp hm with z | z
      · injection z with z1 _
        subst z1
        exact ⟨fun _ => by rw [pk_us, pk_us], fun z => by rw [hk] at z; exact absurd z (by decide)⟩
      · exact (zw_up (G.1 o' t' z) (by have := zp_sk_lt i o' t' z; omega)).2.1
    · obtain ⟨_, _, z, _⟩ := zw_jb (by rw [hk]; decide) ho
      rw [hk] at z; exact absurd z (by decide)
  · exact merg (Or.inl hk)
  · exact merg (Or.inr hk)
theorem zz_run {post : Int32 → SX → Prop} (I : zp_I P C n w K A B) (hf : zp_fi K n = true) (hS : zx_S n (n - 1) K bo lk dm ma mb ji op) : ∀ (d s p : Nat) (va mr fr ro we : Nat → Int32), s + d = 10000 → P ≤ p → p ≤ n → zw_G K mr ro we p →
    (∀ va' mr' fr' ro' we' : Nat → Int32, (∀ postY : Int32 → SY → Prop, postY 1 (fP, fC, fS, nI n, nb, ps, K, A, B, va', oK, oA, oB, ro', fr', bf, we') → wY_run_86 postY (d + 1) (nI p) (nI s) fP fC fS (nI n) nb ps K A B va oK oA oB ro fr bf we) → post 1 (u0, u1, u2, fP, fC, fS, nI n, cu, dp, ow, aw, nb, ps, tb, K, A, B, bo, lk, dm, ma, mb, ji, op, bf, tr, va', mr', fr')) → wX_run_67 post (d + 1) (nI p) (nI s) u0 u1 u2 fP fC fS (nI n) cu dp ow aw nb ps tb K A B bo lk dm ma mb ji op bf tr va mr fr := by
  have hn := zi_16 I
  intro d
  induction d with
  | zero =>
    intro s p va mr fr ro we hs hP hp G h
    have : s = 10000 := by omega
    subst this
    exact br_t (by decide) (h va mr fr ro we (fun postY hY => br_t (by decide) hY))
  | succ d ih =>
    intro s p va mr fr ro we hs hP hp G h
    refine br_f (nI_ge (b := 10000) (by omega) (by omega)) ?_
    rcases Nat.lt_or_ge p n with z | z
    · obtain ⟨p', va', mr', fr', ro', we', h1, h2, G', hX, hY⟩ := zw_step (u0 := u0) (u1 := u1) (u2 := u2) (fP := fP) (fC := fC) (fS := fS) (cu := cu) (dp := dp) (ow := ow) (aw := aw) (nb := nb) (ps := ps) (tb := tb) (bf := bf) (tr := tr) (va := va) (fr := fr) (oK := oK) (oA := oA) (oB := oB) I hf hS z hP G
      refine br_f (nI_ge z (by omega)) (hX _ (nm_r (nI_1 s) ?_))
      refine ih (s + 1) p' va' mr' fr' ro' we' (by omega) h1 h2 G' (fun va2 mr2 fr2 ro2 we2 hY2 => h va2 mr2 fr2 ro2 we2 (fun postY hp => ?_))
      exact br_f (nI_ge (b := 10000) (by omega) (by omega)) (br_f (nI_pos (by omega)) (br_f (nI_ge z (by omega)) (hY _ (nm_r (nI_1 s) (hY2 postY hp)))))
    · refine br_t (nI_le z (by omega)) (h va mr fr ro we (fun postY hp => ?_))
      exact br_f (nI_ge (b := 10000) (by omega) (by omega)) (br_f (nI_pos (by omega)) (br_t (nI_le z (by omega)) hp))
end
end
section
/-! running: the parameters -/
def zw_pv (va : Nat → Int32) (P : Nat) (x y z : Int32) : Nat → Int32 := if P = 0 then va else if P = 1 then upd va 0 x else if P = 2 then upd (upd va 0 x) 1 y else upd (upd (upd va 0 x) 1 y) 2 z
section
variable {u0 u1 u2 fC fS fn cu dp ow aw nb ps tb : Int32} {K A B bo lk dm ma mb ji op bf tr va mr fr oK oA oB ro we : Nat → Int32} {P : Nat} {x y z : Int32}
theorem x_par {post : Int32 → SX → Prop} (hP : P ≤ 3) (h : ∃ d, wX_run_67 post d (nI P) 0 u0 u1 u2 (nI P) fC fS fn cu dp ow aw nb ps tb K A B bo lk dm ma mb ji op bf tr (zw_pv va P x y z) mr fr) : ∃ d, wX_run_16 post x y z u0 u1 u2 (nI P) fC fS fn cu dp ow aw nb ps tb d (nI 0) K A B bo lk dm ma mb ji op bf tr va mr fr := by
  have fin : ∀ va', va' = zw_pv va P x y z → wX_run_16 post x y z u0 u1 u2 (nI P) fC fS fn cu dp ow aw nb ps tb 1 (nI P) K A B bo lk dm ma mb ji op bf tr va' mr fr := fun va' e => by
    subst e
    exact br_t (nI_le (Nat.le_refl _) (by omega)) h
  have s0 : ∀ d va', 0 < P → wX_run_16 post x y z u0 u1 u2 (nI P) fC fS fn cu dp ow aw nb ps tb d (nI 1) K A B bo lk dm ma mb ji op bf tr (upd va' 0 x) mr fr → wX_run_16 post x y z u0 u1 u2 (nI P) fC fS fn cu dp ow aw nb ps tb (d + 1) (nI 0) K A B bo lk dm ma mb ji op bf tr va' mr fr := fun d va' hp hw => by
    refine br_f (nI_ge hp (by omega)) (br_t rfl ⟨vp_in_nI (by omega) (by omega), ?_⟩)
    rw [nI_clamp (by omega)]
    exact nm_e (nm_r (nI_1 0) hw)
  have s1 : ∀ d va', 1 < P → wX_run_16 post x y z u0 u1 u2 (nI P) fC fS fn cu dp ow aw nb ps tb d (nI 2) K A B bo lk dm ma mb ji op bf tr (upd va' 1 y) mr fr → wX_run_16 post x y z u0 u1 u2 (nI P) fC fS fn cu dp ow aw nb ps tb (d + 1) (nI 1) K A B bo lk dm ma mb ji op bf tr va' mr fr := fun d va' hp hw => by
    refine br_f (nI_ge hp (by omega)) (br_f (by decide) (br_t rfl ⟨vp_in_nI (by omega) (by omega), ?_⟩))
    rw [nI_clamp (by omega)]
    exact nm_e (nm_r (nI_1 1) hw)
  have s2 : ∀ d va', 2 < P → wX_run_16 post x y z u0 u1 u2 (nI P) fC fS fn cu dp ow aw nb ps tb d (nI 3) K A B bo lk dm ma mb ji op bf tr (upd va' 2 z) mr fr → wX_run_16 post x y z u0 u1 u2 (nI P) fC fS fn cu dp ow aw nb ps tb (d + 1) (nI 2) K A B bo lk dm ma mb ji op bf tr va' mr fr := fun d va' hp hw => by
    refine br_f (nI_ge hp (by omega)) (br_f (by decide) (br_f (by decide) ⟨vp_in_nI (by omega) (by omega), ?_⟩))
    rw [nI_clamp (by omega)]
    exact nm_e (nm_r (nI_1 2) hw)
  have : P = 0 ∨ P = 1 ∨ P = 2 ∨ P = 3 := by omega
  rcases this with rfl | rfl | rfl | rfl
  · exact ⟨1, fin _ rfl⟩
  · exact ⟨2, s0 1 va (by omega) (fin _ rfl)⟩
  · exact ⟨3, s0 2 va (by omega) (s1 1 _ (by omega) (fin _ rfl))⟩
  · exact ⟨4, s0 3 va (by omega) (s1 2 _ (by omega) (s2 1 _ (by omega) (fin _ rfl)))⟩
theorem y_par {post : Int32 → SY → Prop} (hP : P ≤ 3) (h : ∃ d, wY_run_86 post d (nI P) 0 (nI P) fC fS fn nb ps K A B (zw_pv (zr_z va 16) P x y z) oK oA oB ro fr bf we) : ∃ d, wY_run_12 post x y z (nI P) fC fS fn nb ps d 0 K A B va oK oA oB ro fr bf we := by
  have last : ((nI P ≤ 0 → wY_run_47 post y z (nI P) fC fS fn nb ps K A B (zr_z va 16) oK oA oB ro fr bf we) ∧ (¬ nI P ≤ 0 → ∀ v : Nat → Int32, v = upd (zr_z va 16) 0 x → wY_run_47 post y z (nI P) fC fS fn nb ps K A B v oK oA oB ro fr bf we)) := by
    have : P = 0 ∨ P = 1 ∨ P = 2 ∨ P = 3 := by omega
    rcases this with rfl | rfl | rfl | rfl
    · exact br_t (by decide) (br_t (by decide) (br_t (by decide) h))
    · exact br_f (by decide) (nm_e (br_t (by decide) (br_t (by decide) h)))
    · exact br_f (by decide) (nm_e (br_f (by decide) (nm_e (br_t (by decide) h))))
    · exact br_f (by decide) (nm_e (br_f (by decide) (nm_e (br_f (by decide) (nm_e h)))))
  have key : ∀ d i, i + d = 16 → wY_run_12 post x y z (nI P) fC fS fn nb ps (d + 1) (nI i) K A B (zr_z va i) oK oA oB ro fr bf we := by
    intro d
    induction d with
    | zero =>
      intro i hi
      have : i = 16 := by omega
      subst this
      exact br_t (by decide) last
    | succ d ih =>
      intro i hi
      refine br_f (nI_ge (b := 16) (by omega) (by omega)) ⟨vp_in_nI (by omega) (by omega), ?_⟩
      rw [nI_clamp (by omega)]
      exact nm_e (nm_r (nI_1 i) (ih (i + 1) (by omega)))
  exact ⟨17, key 16 0 rfl⟩
end
end
section
/-! what is owed -/
/-- both hold one program, one buffer, the same values; the component's tables and its trace are those of the program -/
def i_Rel (_ : Nat) (u : SX) (v : SY) : Prop :=
  ∃ (P C n bn rp tn : Nat) (w : Option Nat) (u0 u1 u2 fS : Int32) (K A B bo lk dm ma mb ji op bf tr va mr fr oK oA oB ro we : Nat → Int32), u = (u0, u1, u2, nI P, nI C, fS, nI n, nI (zp_bk K (zx_cp K n)), nI (zp_sk K n).length, nI (zp_ow K n), oI w, nI bn, nI rp, nI tn, K, A, B, bo, lk, dm, ma, mb, ji, op, bf, tr, va, mr, fr) ∧ v = (nI P, nI C, fS, nI n, nI bn, nI rp, K, A, B, va, oK, oA, oB, ro, fr, bf, we) ∧ zr_R P C n bn rp tn w K A B bo lk dm ma mb ji op bf tr
theorem zz_el {k : Nat} {u : SX} {v : SY} {Q : SX → SY → Prop} (h : ∀ (P C n bn rp tn : Nat) (w : Option Nat) (u0 u1 u2 fS : Int32) (K A B bo lk dm ma mb ji op bf tr va mr fr oK oA oB ro we : Nat → Int32), zr_R P C n bn rp tn w K A B bo lk dm ma mb ji op bf tr → Q (u0, u1, u2, nI P, nI C, fS, nI n, nI (zp_bk K (zx_cp K n)), nI (zp_sk K n).length, nI (zp_ow K n), oI w, nI bn, nI rp, nI tn, K, A, B, bo, lk, dm, ma, mb, ji, op, bf, tr, va, mr, fr) (nI P, nI C, fS, nI n, nI bn, nI rp, K, A, B, va, oK, oA, oB, ro, fr, bf, we)) (I : i_Rel k u v) : Q u v :=
  I.elim fun P I => I.elim fun C I => I.elim fun n I => I.elim fun bn I => I.elim fun rp I => I.elim fun tn I => I.elim fun w I => I.elim fun u0 I => I.elim fun u1 I => I.elim fun u2 I => I.elim fun fS I => I.elim fun K I => I.elim fun A I => I.elim fun B I => I.elim fun bo I => I.elim fun lk I => I.elim fun dm I => I.elim fun ma I => I.elim fun mb I => I.elim fun ji I => I.elim fun op I => I.elim fun bf I => I.elim fun tr I => I.elim fun va I => I.elim fun mr I => I.elim fun fr I => I.elim fun oK I => I.elim fun oA I => I.elim fun oB I => I.elim fun ro I => I.elim fun we I => by
    rw [I.1, I.2.1]
    exact h P C n bn rp tn w u0 u1 u2 fS K A B bo lk dm ma mb ji op bf tr va mr fr oK oA oB ro we I.2.2
theorem zz_in {k P C n bn rp tn : Nat} {w : Option Nat} {u0 u1 u2 fS : Int32} {K A B bo lk dm ma mb ji op bf tr va mr fr oK oA oB ro we : Nat → Int32} (R : zr_R P C n bn rp tn w K A B bo lk dm ma mb ji op bf tr) : i_Rel k (u0, u1, u2, nI P, nI C, fS, nI n, nI (zp_bk K (zx_cp K n)), nI (zp_sk K n).length, nI (zp_ow K n), oI w, nI bn, nI rp, nI tn, K, A, B, bo, lk, dm, ma, mb, ji, op, bf, tr, va, mr, fr) (nI P, nI C, fS, nI n, nI bn, nI rp, K, A, B, va, oK, oA, oB, ro, fr, bf, we) :=
  ⟨P, C, n, bn, rp, tn, w, u0, u1, u2, fS, K, A, B, bo, lk, dm, ma, mb, ji, op, bf, tr, va, mr, fr, oK, oA, oB, ro, we, rfl, rfl, R⟩
theorem i_up {k : Nat} {u : SX} {v : SY} (h : i_Rel k u v) : i_Rel (k + 4) u v := h
theorem zz_cut (x lo hi : Int32) (l h : Nat) (el : lo = nI l) (eh : hi = nI h) (hlh : l ≤ h) (h31 : h < 2 ^ 31) : ∃ j, l ≤ j ∧ j ≤ h ∧ (∀ (post : Int32 → Prop), post (nI j) → ((lo ≤ x → (((x ≤ hi → (post x)) ∧ (¬ x ≤ hi → (post hi))))) ∧ (¬ lo ≤ x → (post lo)))) := by
  subst el eh
  by_cases a : nI l ≤ x
  · have x0 : ¬ x < 0 := fun z => by
      have := Int32.lt_of_le_of_lt a z
      exact nI_pos (by omega) this
    obtain ⟨j, hj, rfl⟩ := nI_of x0
    rw [nI_leI (by omega) hj] at a
    by_cases b : j ≤ h
    · exact ⟨j, a, b, fun post hp => br_t (nI_le a hj) (br_t (nI_le b h31) hp)⟩
    · exact ⟨h, hlh, Nat.le_refl _, fun post hp => br_t (nI_le a hj) (br_f (nI_ge (by omega) hj) hp)⟩
  · exact ⟨l, Nat.le_refl _, hlh, fun post hp => br_f a hp⟩
theorem x_clamp {x lo hi : Int32} {j : Nat} (h : ∀ (post : Int32 → Prop), post (nI j) → ((lo ≤ x → (((x ≤ hi → (post x)) ∧ (¬ x ≤ hi → (post hi))))) ∧ (¬ lo ≤ x → (post lo)))) (post : Int32 → Prop) (u : SX) (hp : post (nI j)) : wpX_clamp post u x lo hi := match u with
  | (u0, u1, u2, fP, fC, fS, fn, cu, dp, ow, aw, nb, ps, tb, K, A, B, bo, lk, dm, ma, mb, ji, op, bf, tr, va, mr, fr) => h post hp
theorem i_vc0 (k0 : Int32) (k1 : Int32) (k2 : Int32) : wpX_init (fun u => wpY_init (fun v => i_Rel 3 u v) k0 k1 k2) k0 k1 k2 := by
  obtain ⟨P, p1, p2, pp⟩ := zz_cut k0 0 3 0 3 rfl rfl (by omega) (by omega)
  obtain ⟨C, c1, c2, cc⟩ := zz_cut k1 8 16 8 16 rfl rfl (by omega) (by omega)
  obtain ⟨S, s1, s2, ss⟩ := zz_cut k2 1 8 1 8 rfl rfl (by omega) (by omega)
  unfold wpX_init
  refine x_clamp pp _ _ (x_clamp cc _ _ (x_clamp ss _ _ ?_))
  refine zz_clear (bn := 0) (rp := 0) (fm := 0) (oK := fun _ => 0) (oA := fun _ => 0) (oB := fun _ => 0) (ro := fun _ => 0) (we := fun _ => 0) p2 c1 c2 (by omega) (by omega) (fun _ => Or.inl rfl) (fun _ => Or.inl rfl) (fun K' A' B' bo' lk' dm' ma' mb' ji' op' R hY => ?_)
  have H := hY (fun v => i_Rel 3 (0, 1, 2, nI P, nI C, nI S, nI P, nI (zp_bk K' (zx_cp K' P)), nI (zp_sk K' P).length, nI (zp_ow K' P), oI none, nI 0, nI 0, nI 0, K', A', B', bo', lk', dm', ma', mb', ji', op', fun _ => 0, fun _ => 0, zr_z (fun _ => 0) 16, fun _ => 0, fun _ => 0) v) (zz_in R)
  exact pp (fun p => wY_init_112 _ k1 k2 p 0 0 0 0 0 0 (fun _ => 0) (fun _ => 0) (fun _ => 0) (fun _ => 0) (fun _ => 0) (fun _ => 0) (fun _ => 0) (fun _ => 0) (fun _ => 0) (fun _ => 0) (fun _ => 0)) (cc (fun c => wY_init_139 _ k2 c (nI P) 0 0 0 0 0 (fun _ => 0) (fun _ => 0) (fun _ => 0) (fun _ => 0) (fun _ => 0) (fun _ => 0) (fun _ => 0) (fun _ => 0) (fun _ => 0) (fun _ => 0) (fun _ => 0)) (ss (fun s => wY_init_164 _ s (nI P) (nI C) 0 0 0 0 (fun _ => 0) (fun _ => 0) (fun _ => 0) (fun _ => 0) (fun _ => 0) (fun _ => 0) (fun _ => 0) (fun _ => 0) (fun _ => 0) (fun _ => 0) (fun _ => 0)) H))
end
section
/-! what is owed: the methods -/
section
variable {u0 u1 u2 fS : Int32} {K A B bo lk dm ma mb ji op bf tr va mr fr : Nat → Int32} {P C n bn rp tn : Nat} {w : Option Nat}
theorem x_legF {post : Int32 → Prop} {k : Int32} (hf : zp_fi K n = true) (h : post 0) : wpX_legal post (u0, u1, u2, nI P, nI C, fS, nI n, nI (zp_bk K (zx_cp K n)), nI (zp_sk K n).length, nI (zp_ow K n), oI w, nI bn, nI rp, nI tn, K, A, B, bo, lk, dm, ma, mb, ji, op, bf, tr, va, mr, fr) k := by
  rw [zp_ow_t hf]
  exact br_t rfl h
end
theorem i_vc_add {k : Nat} {u : SX} {v : SY} (I : i_Rel k u v) (hk : k + 4 ≤ 2051) (v1 : Int32) (v2 : Int32) (v3 : Int32) : wpX_add (fun r u' => wpY_add (fun r' v' => r' = r ∧ i_Rel (k + 4) u' v') v v1 v2 v3) u v1 v2 v3 := by
  refine zz_el (Q := fun u v => wpX_add (fun r u' => wpY_add (fun r' v' => r' = r ∧ i_Rel (k + 4) u' v') v v1 v2 v3) u v1 v2 v3) ?_ I
  intro P C n bn rp tn w u0 u1 u2 fS K A B bo lk dm ma mb ji op bf tr va mr fr oK oA oB ro we R
  have R' := R
  obtain ⟨J, S, hb, hrp, ht, h01, ht01, L, hL⟩ := R'
  have hn := zi_16 J
  cases hf : zp_fi K n with
  | true =>
    unfold wpX_add
    dsimp only
    refine x_legF hf (br_t rfl ?_)
    have z := zg_no (C := C) (k := v1) (m := w) hf
    exact y_add J (fun _ => ⟨rfl, zz_in R⟩) (fun hl => by rw [z] at hl; cases hl) (fun _ hl => by rw [z] at hl; cases hl) (fun hl => by rw [z] at hl; cases hl)
  | false =>
    have ec := zx_cpf hf
    have R0 := zz_in (k := k + 4) (u0 := u0) (u1 := u1) (u2 := u2) (fS := fS) (va := va) (mr := mr) (fr := fr) (oK := oK) (oA := oA) (oB := oB) (ro := ro) (we := we) R
    rw [ec] at S R0 ⊢
    refine x_add J hf S ht (fun hl => ?_) (fun hl hF => ?_) (fun hl hF => ⟨fun m e1 e2 => ?_, fun e1 e2 bo' lk' dm' ma' mb' ji' op' hS' => ?_⟩)
    · exact y_add J (fun _ => ⟨rfl, R0⟩) (fun q => by rw [hl] at q; cases q) (fun _ q => by rw [hl] at q; cases q) (fun q => by rw [hl] at q; cases q)
    · exact y_add J (fun q => by rw [hl] at q; cases q) (fun _ _ => ⟨rfl, R0⟩) (fun _ _ q => absurd q hF) (fun _ q => absurd q hF)
    · subst e1
      have R2 := zz_in (k := k + 4) (u0 := u0) (u1 := u1) (u2 := u2) (fS := fS) (va := va) (mr := mr) (fr := fr) (oK := oK) (oA := oA) (oB := oB) (ro := ro) (we := we) (zr_nxt R hl hF hrp)
      rw [ec] at R2
      refine y_add J (fun q => by rw [hl] at q; cases q) (fun _ q => absurd hF q) (fun m' _ _ e _ => ?_) (fun _ _ q => absurd e2 q)
      injection e with e
      subst e
      exact ⟨rfl, R2⟩
    · subst e1
      exact y_add J (fun q => by rw [hl] at q; cases q) (fun _ q => absurd hF q) (fun m' _ _ e => by cases e) (fun _ _ _ => ⟨rfl, zz_in (zr_app R hl hF hrp e2 hS')⟩)
theorem i_vc_legal {k : Nat} {u : SX} {v : SY} (I : i_Rel k u v) (hk : k + 4 ≤ 2051) (v1 : Int32) : wpX_legal (fun r => wpY_legal (fun r' => r' = r ∧ i_Rel (k + 4) u v) v v1) u v1 := by
  refine zz_el (Q := fun u v => wpX_legal (fun r => wpY_legal (fun r' => r' = r ∧ i_Rel (k + 4) u v) v v1) u v1) ?_ I
  intro P C n bn rp tn w u0 u1 u2 fS K A B bo lk dm ma mb ji op bf tr va mr fr oK oA oB ro we R
  have R' := R
  obtain ⟨J, S, hb, hrp, ht, h01, ht01, L, hL⟩ := R'
  have hn := zi_16 J
  cases hf : zp_fi K n with
  | true =>
    have z := zg_no (C := C) (k := v1) (m := w) hf
    exact x_legF hf (y_legal J (fun hl => by rw [z] at hl; cases hl) (fun _ => ⟨rfl, zz_in R⟩))
  | false =>
    have ec := zx_cpf hf
    have R0 := zz_in (k := k + 4) (u0 := u0) (u1 := u1) (u2 := u2) (fS := fS) (va := va) (mr := mr) (fr := fr) (oK := oK) (oA := oA) (oB := oB) (ro := ro) (we := we) R
    rw [ec] at S R0 ⊢
    exact x_legal J hf S (fun hl => y_legal J (fun _ => ⟨rfl, R0⟩) (fun q => by rw [hl] at q; cases q)) (fun hl => y_legal J (fun q => by rw [hl] at q; cases q) (fun _ => ⟨rfl, R0⟩))
theorem i_vc_finish {k : Nat} {u : SX} {v : SY} (I : i_Rel k u v) (hk : k + 4 ≤ 2051) : wpX_finish (fun r u' => wpY_finish (fun r' v' => r' = r ∧ i_Rel (k + 4) u' v') v) u := by
  refine zz_el (Q := fun u v => wpX_finish (fun r u' => wpY_finish (fun r' v' => r' = r ∧ i_Rel (k + 4) u' v') v) u) ?_ I
  intro P C n bn rp tn w u0 u1 u2 fS K A B bo lk dm ma mb ji op bf tr va mr fr oK oA oB ro we R
  have R' := R
  obtain ⟨J, S, hb, hrp, ht, h01, ht01, L, hL⟩ := R'
  have hn := zi_16 J
  unfold wpX_finish wpX_makeChoices
  dsimp only
  refine ⟨65, zz_mc (oK := oK) (oA := oA) (oB := oB) (ro := ro) (we := we) 64 0 n bn tn w K A B bo lk dm ma mb ji op tr rfl ⟨J, S, hb, hb, ht, h01, ht01, L, hL⟩ (fun n' rp' tn' w' K' A' B' bo' lk' dm' ma' mb' ji' op' tr' R3 hY => ?_)⟩
  unfold wpY_finish wpY_build
  dsimp only
  exact ⟨65, hY _ ⟨rfl, zz_in R3⟩⟩
theorem i_vc_clear {k : Nat} {u : SX} {v : SY} (I : i_Rel k u v) (hk : k + 4 ≤ 2051) : wpX_clear (fun u' => wpY_clear (fun v' => i_Rel (k + 4) u' v') v) u := by
  refine zz_el (Q := fun u v => wpX_clear (fun u' => wpY_clear (fun v' => i_Rel (k + 4) u' v') v) u) ?_ I
  intro P C n bn rp tn w u0 u1 u2 fS K A B bo lk dm ma mb ji op bf tr va mr fr oK oA oB ro we R
  have R' := R
  obtain ⟨J, S, hb, hrp, ht, h01, ht01, L, hL⟩ := R'
  have hn := zi_16 J
  exact zz_clear (oK := oK) (oA := oA) (oB := oB) (ro := ro) (we := we) J.1.1 J.1.2.1 J.1.2.2.1 hb hrp h01 ht01 (fun K' A' B' bo' lk' dm' ma' mb' ji' op' R2 hY => hY _ (zz_in R2))
theorem i_vc_decode {k : Nat} {u : SX} {v : SY} (I : i_Rel k u v) (hk : k + 4 ≤ 2051) : wpX_decode (fun r u' => wpY_decode (fun r' v' => r' = r ∧ i_Rel (k + 4) u' v') v) u := by
  refine zz_el (Q := fun u v => wpX_decode (fun r u' => wpY_decode (fun r' v' => r' = r ∧ i_Rel (k + 4) u' v') v) u) ?_ I
  intro P C n bn rp tn w u0 u1 u2 fS K A B bo lk dm ma mb ji op bf tr va mr fr oK oA oB ro we R
  have R' := R
  obtain ⟨J, S, hb, hrp, ht, h01, ht01, L, hL⟩ := R'
  have hn := zi_16 J
  unfold wpX_decode
  dsimp only
  refine zz_clear (fm := nI n) (oK := oK) (oA := oA) (oB := oB) (ro := ro) (we := we) J.1.1 J.1.2.1 J.1.2.2.1 hb hrp h01 ht01 (fun K' A' B' bo' lk' dm' ma' mb' ji' op' R2 hY => ?_)
  obtain ⟨J2, S2, _, _, ht2, _, _, L2, hL2⟩ := R2
  unfold wpX_makeChoices
  dsimp only
  refine ⟨65, zz_mc (oK := oK) (oA := oA) (oB := oB) (ro := ro) (we := we) 64 0 P 0 0 none K' A' B' bo' lk' dm' ma' mb' ji' op' tr rfl ⟨J2, S2, hb, by omega, ht2, h01, ht01, L2, hL2⟩ (fun n' rp' tn' w' K2 A2 B2 bo2 lk2 dm2 ma2 mb2 ji2 op2 tr2 R3 hY3 => ?_)⟩
  unfold wpY_decode
  dsimp only
  refine hY _ ?_
  unfold wpY_build
  dsimp only
  exact ⟨65, hY3 _ ⟨rfl, zz_in R3⟩⟩
theorem i_vc_encode {k : Nat} {u : SX} {v : SY} (I : i_Rel k u v) (hk : k + 4 ≤ 2051) : wpX_encode (fun r u' => wpY_encode (fun r' v' => r' = r ∧ i_Rel (k + 4) u' v') v) u := by
  refine zz_el (Q := fun u v => wpX_encode (fun r u' => wpY_encode (fun r' v' => r' = r ∧ i_Rel (k + 4) u' v') v) u) ?_ I
  intro P C n bn rp tn w u0 u1 u2 fS K A B bo lk dm ma mb ji op bf tr va mr fr oK oA oB ro we R
  have R' := R
  obtain ⟨J, S, hb, hrp, ht, h01, ht01, L, hL⟩ := R'
  have hn := zi_16 J
  refine x_enc ht ht01 (y_enc J hL ⟨rfl, zz_in ⟨J, S, ht, hrp, ht, fun i => ?_, ht01, L, hL⟩⟩)
  unfold zq_cp
  by_cases z : i < tn
  · rw [if_pos z]; exact ht01 i
  · rw [if_neg z]; exact h01 i
theorem i_vc_feed {k : Nat} {u : SX} {v : SY} (I : i_Rel k u v) (hk : k + 4 ≤ 2051) (v1 : Int32) (v2 : Int32) : wpX_feed (fun r u' => wpY_feed (fun r' v' => r' = r ∧ i_Rel (k + 4) u' v') v v1 v2) u v1 v2 := by
  refine zz_el (Q := fun u v => wpX_feed (fun r u' => wpY_feed (fun r' v' => r' = r ∧ i_Rel (k + 4) u' v') v v1 v2) u v1 v2) ?_ I
  intro P C n bn rp tn w u0 u1 u2 fS K A B bo lk dm ma mb ji op bf tr va mr fr oK oA oB ro we R
  have R' := R
  obtain ⟨J, S, hb, hrp, ht, h01, ht01, L, hL⟩ := R'
  have hn := zi_16 J
  by_cases c1 : v2 < 1
  · exact br_t c1 (br_t c1 ⟨rfl, zz_in R⟩)
  by_cases c2 : 32 < v2
  · exact br_f c1 (br_t c2 (br_f c1 (br_t c2 ⟨rfl, zz_in R⟩)))
  obtain ⟨j, hj, rfl⟩ := nI_of2 (M := 32) (n := 32) (by decide) (fun z => c1 (Int32.lt_trans z (by decide))) (Int32.not_lt.mp c2)
  refine br_f c1 (br_f c2 ?_)
  by_cases c3 : nI bn + nI j ≤ 256
  · have e : bn + j ≤ 256 := by
      rw [nI_add] at c3
      exact (nI_leI (b := 256) (by omega) (by decide)).mp c3
    refine br_t c3 (nm_e ⟨j + 1, x_feedL j bf bn hj e (br_f c1 (br_f c2 (br_t c3 (nm_e ⟨j + 1, y_feedL j bf bn hj e ⟨rfl, ?_⟩⟩))))⟩)
    exact zz_in ⟨J, S, e, hrp, ht, zf_fb01 v1 j bf bn h01, ht01, L, hL⟩
  · exact br_f c3 (br_f c1 (br_f c2 (br_f c3 ⟨rfl, zz_in R⟩)))
theorem i_vc_cut {k : Nat} {u : SX} {v : SY} (I : i_Rel k u v) (hk : k + 4 ≤ 2051) (v1 : Int32) : wpX_cut (fun r u' => wpY_cut (fun r' v' => r' = r ∧ i_Rel (k + 4) u' v') v v1) u v1 := by
  refine zz_el (Q := fun u v => wpX_cut (fun r u' => wpY_cut (fun r' v' => r' = r ∧ i_Rel (k + 4) u' v') v v1) u v1) ?_ I
  intro P C n bn rp tn w u0 u1 u2 fS K A B bo lk dm ma mb ji op bf tr va mr fr oK oA oB ro we R
  have R' := R
  obtain ⟨J, S, hb, hrp, ht, h01, ht01, L, hL⟩ := R'
  have hn := zi_16 J
  by_cases c1 : v1 < 0
  · exact br_t c1 (br_t c1 ⟨rfl, zz_in R⟩)
  by_cases c2 : v1 ≤ nI bn
  · obtain ⟨j, hj, rfl⟩ := nI_of2 (M := nI bn) (n := bn) (nI_toInt (by omega)) c1 c2
    exact br_f c1 (br_t c2 (br_f c1 (br_t c2 ⟨rfl, zz_in ⟨J, S, by omega, hrp, ht, h01, ht01, L, hL⟩⟩)))
  · exact br_f c1 (br_f c2 (br_f c1 (br_f c2 ⟨rfl, zz_in R⟩)))
theorem i_vc_bit {k : Nat} {u : SX} {v : SY} (I : i_Rel k u v) (hk : k + 4 ≤ 2051) (v1 : Int32) : wpX_bit (fun r => wpY_bit (fun r' => r' = r ∧ i_Rel (k + 4) u v) v v1) u v1 := by
  refine zz_el (Q := fun u v => wpX_bit (fun r => wpY_bit (fun r' => r' = r ∧ i_Rel (k + 4) u v) v v1) u v1) ?_ I
  intro P C n bn rp tn w u0 u1 u2 fS K A B bo lk dm ma mb ji op bf tr va mr fr oK oA oB ro we R
  have R' := R
  obtain ⟨J, S, hb, hrp, ht, h01, ht01, L, hL⟩ := R'
  have hn := zi_16 J
  by_cases c1 : v1 < 0
  · exact br_t c1 (br_t c1 ⟨rfl, zz_in R⟩)
  by_cases c2 : v1 < nI bn
  · obtain ⟨j, hj, rfl⟩ := nI_of c1
    have hj2 := (nI_ltI hj (by omega)).mp c2
    have V : vp_in (nI j) 256 := vp_in_nI (by omega) (by omega)
    refine br_f c1 (br_t c2 ⟨V, ?_⟩)
    rcases h01 j with z | z
    · have z' : bf (nI j).toNatClampNeg = 0 := by rw [nI_clamp (by omega)]; exact z
      exact br_t z' (br_f c1 (br_t c2 ⟨V, z', zz_in R⟩))
    · have z' : bf (nI j).toNatClampNeg = 1 := by rw [nI_clamp (by omega)]; exact z
      exact br_f (by rw [z']; decide) (br_f c1 (br_t c2 ⟨V, z', zz_in R⟩))
  · exact br_f c1 (br_f c2 (br_f c1 (br_f c2 ⟨rfl, zz_in R⟩)))
theorem i_vc_items {k : Nat} {u : SX} {v : SY} (I : i_Rel k u v) (hk : k + 4 ≤ 2051) : wpX_items (fun r => wpY_items (fun r' => r' = r ∧ i_Rel (k + 4) u v) v) u := by
  refine zz_el (Q := fun u v => wpX_items (fun r => wpY_items (fun r' => r' = r ∧ i_Rel (k + 4) u v) v) u) ?_ I
  intro P C n bn rp tn w u0 u1 u2 fS K A B bo lk dm ma mb ji op bf tr va mr fr oK oA oB ro we R
  exact And.intro rfl (zz_in R)
theorem i_vc_kind {k : Nat} {u : SX} {v : SY} (I : i_Rel k u v) (hk : k + 4 ≤ 2051) (v1 : Int32) : wpX_kind (fun r => wpY_kind (fun r' => r' = r ∧ i_Rel (k + 4) u v) v v1) u v1 := by
  refine zz_el (Q := fun u v => wpX_kind (fun r => wpY_kind (fun r' => r' = r ∧ i_Rel (k + 4) u v) v v1) u v1) ?_ I
  intro P C n bn rp tn w u0 u1 u2 fS K A B bo lk dm ma mb ji op bf tr va mr fr oK oA oB ro we R
  have R' := R
  obtain ⟨J, S, hb, hrp, ht, h01, ht01, L, hL⟩ := R'
  have hn := zi_16 J
  by_cases c1 : v1 < 0
  · exact br_t c1 (br_t c1 ⟨rfl, zz_in R⟩)
  by_cases c2 : v1 < nI n
  · obtain ⟨j, hj, rfl⟩ := nI_of c1
    have hj2 := (nI_ltI hj (by omega)).mp c2
    have V : vp_in (nI j) 16 := vp_in_nI (by omega) (by omega)
    exact br_f c1 (br_t c2 ⟨V, br_f c1 (br_t c2 ⟨V, rfl, zz_in R⟩)⟩)
  · exact br_f c1 (br_f c2 (br_f c1 (br_f c2 ⟨rfl, zz_in R⟩)))
theorem i_vc_operand {k : Nat} {u : SX} {v : SY} (I : i_Rel k u v) (hk : k + 4 ≤ 2051) (v1 : Int32) (v2 : Int32) : wpX_operand (fun r => wpY_operand (fun r' => r' = r ∧ i_Rel (k + 4) u v) v v1 v2) u v1 v2 := by
  refine zz_el (Q := fun u v => wpX_operand (fun r => wpY_operand (fun r' => r' = r ∧ i_Rel (k + 4) u v) v v1 v2) u v1 v2) ?_ I
  intro P C n bn rp tn w u0 u1 u2 fS K A B bo lk dm ma mb ji op bf tr va mr fr oK oA oB ro we R
  have R' := R
  obtain ⟨J, S, hb, hrp, ht, h01, ht01, L, hL⟩ := R'
  have hn := zi_16 J
  by_cases c1 : v1 < 0
  · exact br_t c1 (br_t c1 ⟨rfl, zz_in R⟩)
  by_cases c2 : v1 < nI n
  · obtain ⟨j, hj, rfl⟩ := nI_of c1
    have hj2 := (nI_ltI hj (by omega)).mp c2
    have V : vp_in (nI j) 16 := vp_in_nI (by omega) (by omega)
    by_cases d0 : v2 = 0
    · exact br_f c1 (br_t c2 (br_t d0 ⟨V, br_f c1 (br_t c2 (br_t d0 ⟨V, rfl, zz_in R⟩))⟩))
    by_cases d1 : v2 = 1
    · exact br_f c1 (br_t c2 (br_f d0 (br_t d1 ⟨V, br_f c1 (br_t c2 (br_f d0 (br_t d1 ⟨V, rfl, zz_in R⟩)))⟩)))
    · exact br_f c1 (br_t c2 (br_f d0 (br_f d1 (br_f c1 (br_t c2 (br_f d0 (br_f d1 ⟨rfl, zz_in R⟩)))))))
  · exact br_f c1 (br_f c2 (br_f c1 (br_f c2 ⟨rfl, zz_in R⟩)))
theorem i_vc_block {k : Nat} {u : SX} {v : SY} (I : i_Rel k u v) (hk : k + 4 ≤ 2051) (v1 : Int32) : wpX_block (fun r => wpY_block (fun r' => r' = r ∧ i_Rel (k + 4) u v) v v1) u v1 := by
  refine zz_el (Q := fun u v => wpX_block (fun r => wpY_block (fun r' => r' = r ∧ i_Rel (k + 4) u v) v v1) u v1) ?_ I
  intro P C n bn rp tn w u0 u1 u2 fS K A B bo lk dm ma mb ji op bf tr va mr fr oK oA oB ro we R
  have R' := R
  obtain ⟨J, S, hb, hrp, ht, h01, ht01, L, hL⟩ := R'
  have hn := zi_16 J
  by_cases c1 : v1 < 0
  · exact br_t c1 (br_t c1 ⟨rfl, zz_in R⟩)
  by_cases c2 : v1 < nI n
  · obtain ⟨j, hj, rfl⟩ := nI_of c1
    have hj2 := (nI_ltI hj (by omega)).mp c2
    have V : vp_in (nI j) 16 := vp_in_nI (by omega) (by omega)
    refine br_f c1 (br_t c2 ⟨V, br_f c1 (br_t c2 (y_blockOf hn (by omega) ⟨?_, zz_in R⟩))⟩)
    rw [nI_clamp (by omega), S.1 j hj2]
  · exact br_f c1 (br_f c2 (br_f c1 (br_f c2 ⟨rfl, zz_in R⟩)))
theorem i_vc_value {k : Nat} {u : SX} {v : SY} (I : i_Rel k u v) (hk : k + 4 ≤ 2051) (v1 : Int32) : wpX_value (fun r => wpY_value (fun r' => r' = r ∧ i_Rel (k + 4) u v) v v1) u v1 := by
  refine zz_el (Q := fun u v => wpX_value (fun r => wpY_value (fun r' => r' = r ∧ i_Rel (k + 4) u v) v v1) u v1) ?_ I
  intro P C n bn rp tn w u0 u1 u2 fS K A B bo lk dm ma mb ji op bf tr va mr fr oK oA oB ro we R
  have R' := R
  obtain ⟨J, S, hb, hrp, ht, h01, ht01, L, hL⟩ := R'
  have hn := zi_16 J
  exact x_value hn (y_value hn ⟨rfl, zz_in R⟩)
theorem i_vc_dominator {k : Nat} {u : SX} {v : SY} (I : i_Rel k u v) (hk : k + 4 ≤ 2051) (v1 : Int32) : wpX_dominator (fun r => wpY_dominator (fun r' => r' = r ∧ i_Rel (k + 4) u v) v v1) u v1 := by
  refine zz_el (Q := fun u v => wpX_dominator (fun r => wpY_dominator (fun r' => r' = r ∧ i_Rel (k + 4) u v) v v1) u v1) ?_ I
  intro P C n bn rp tn w u0 u1 u2 fS K A B bo lk dm ma mb ji op bf tr va mr fr oK oA oB ro we R
  have R' := R
  obtain ⟨J, S, hb, hrp, ht, h01, ht01, L, hL⟩ := R'
  have hn := zi_16 J
  have cpn : zx_cp K n ≤ n := by
    cases hf : zp_fi K n with
    | true => rw [zx_cpt hf]; omega
    | false => rw [zx_cpf hf]; exact Nat.le_refl _
  have bcp := zp_bk_le (K := K) (zx_cp K n)
  have bkj : ∀ j, zp_bk K j ≤ j := zp_bk_le
  by_cases c1 : v1 < 0
  · refine br_t c1 (y_domN hn (fun j hj z => ?_) ⟨rfl, zz_in R⟩)
    rw [← z.2, nI_1] at c1
    exact nI_pos (by have := bkj j; omega) c1
  by_cases c2 : v1 ≤ nI (zp_bk K (zx_cp K n))
  · obtain ⟨b, hb', rfl⟩ := nI_of2 (M := nI (zp_bk K (zx_cp K n))) (n := zp_bk K (zx_cp K n)) (nI_toInt (by omega)) c1 c2
    obtain ⟨p, hp, rfl⟩ := zp_iv (K := K) (zx_cp K n) b hb'
    have V : vp_in (nI (zp_bk K p)) 17 := vp_in_nI (by omega) (by omega)
    refine br_f c1 (br_t c2 ⟨V, y_dom hn (by omega) ⟨?_, zz_in R⟩⟩)
    rw [nI_clamp (by omega), (S.2.1 p hp).1]
  · obtain ⟨b, hb', rfl⟩ := nI_of c1
    have c2' : zp_bk K (zx_cp K n) < b := by
      rcases Nat.lt_or_ge (zp_bk K (zx_cp K n)) b with z | z
      · exact z
      · exact absurd (nI_le z (by omega)) c2
    refine br_f c1 (br_f c2 ?_)
    rcases Nat.lt_or_ge (zp_bk K n) b with z | z
    · refine y_domN hn (fun j hj q => ?_) ⟨rfl, zz_in R⟩
      have q2 := q.2
      rw [nI_1, nI_eq (by have := bkj j; omega) hb'] at q2
      have := zp_bk_lt (K := K) q.1 hj
      omega
    · cases hf : zp_fi K n with
      | false => rw [zx_cpf hf] at c2'; omega
      | true =>
        obtain ⟨f1, f2, n', rfl, f3, f4⟩ := zw_fin J hf
        have nb : zp_B (K n') := Or.inl f3
        have ecp : zx_cp K (n' + 1) = n' := by rw [zx_cpt hf]; rfl
        have eb : b = zp_bk K (n' + 1) := by
          rw [ecp] at c2'
          rw [zp_bk_b nb] at z ⊢
          omega
        subst eb
        have e : zp_nx K (n' + 1) = -1 := zp_nx_n (by rw [zp_dq_s (zp_ls_b nb), zp_dp_e f3 (zp_top_e f4)])
        exact y_dom hn (Nat.le_refl _) ⟨e, zz_in R⟩
theorem i_vc_run {k : Nat} {u : SX} {v : SY} (I : i_Rel k u v) (hk : k + 4 ≤ 2051) (v1 : Int32) (v2 : Int32) (v3 : Int32) : wpX_run (fun r u' => wpY_run (fun r' v' => r' = r ∧ i_Rel (k + 4) u' v') v v1 v2 v3) u v1 v2 v3 := by
  refine zz_el (Q := fun u v => wpX_run (fun r u' => wpY_run (fun r' v' => r' = r ∧ i_Rel (k + 4) u' v') v v1 v2 v3) u v1 v2 v3) ?_ I
  intro P C n bn rp tn w u0 u1 u2 fS K A B bo lk dm ma mb ji op bf tr va mr fr oK oA oB ro we R
  have R' := R
  obtain ⟨J, S, hb, hrp, ht, h01, ht01, L, hL⟩ := R'
  have hn := zi_16 J
  cases hf : zp_fi K n with
  | false =>
    have ow1 : 1 ≤ zp_ow K n := by rw [zp_ow_f hf]; omega
    have i5 := J.1.2.2.2.2.1
    have i3 := J.1.2.2.1
    refine br_f (nI_ne0 (by omega) (by omega)) ?_
    unfold wpY_run
    dsimp only
    exact y_owed hn J.2.2.2.1 (br_f (nI_ne0 (by omega) (by omega)) ⟨rfl, zz_in R⟩)
  | true =>
    have e0 := zp_ow_t hf
    have P3 := J.1.1
    have S' : zx_S n (n - 1) K bo lk dm ma mb ji op := by rw [← zx_cpt hf]; exact S
    refine br_t (by rw [e0]; rfl) (x_zero (x_par P3 ⟨10001, ?_⟩))
    refine zz_run (P := P) (C := C) (w := w) (oK := oK) (oA := oA) (oB := oB) J hf S' 10000 0 P _ mr fr ro we rfl (Nat.le_refl _) J.1.2.2.2.1 (zw_ini (fun i hi => (J.2.1 i hi).1)) (fun va' mr' fr' ro' we' hY => ?_)
    unfold wpY_run
    dsimp only
    refine y_owed hn J.2.2.2.1 (br_t (by rw [e0]; rfl) (y_par P3 ⟨10001, hY _ ⟨rfl, zz_in R⟩⟩))
end
