section
theorem pk_us {f : Nat → Int32} {k : Nat} {x : Int32} : upd f k x k = x := if_pos rfl
theorem pk_un {f : Nat → Int32} {k j : Nat} {x : Int32} (h : j ≠ k) : upd f k x j = f j := if_neg h
theorem pk_sub {a b : Nat} (h : b ≤ a) : nI a - nI b = nI (a - b) := by
  obtain ⟨c, rfl⟩ : ∃ c, a = c + b := ⟨a - b, by omega⟩
  rw [← nI_add, Int32.add_sub_cancel, Nat.add_sub_cancel]
theorem pk_m1 (n : Nat) : nI (n + 1) + (-1) = nI n := by
  rw [← nI_1, Int32.add_assoc, show (1 : Int32) + (-1) = 0 from rfl, Int32.add_zero]
theorem pk_mul (a b : Nat) : nI a * nI b = nI (a * b) := (Int32.ofNat_mul a b).symm
theorem pk_sub_toInt {a b : Nat} (ha : a < 2 ^ 30) (hb : b < 2 ^ 30) : (nI a - nI b).toInt = (a : Int) - b := by
  rw [Int32.toInt_sub, nI_toInt (by omega), nI_toInt (by omega)]
  exact Int.bmod_eq_of_le (by omega) (by omega)
theorem pk_sneg {a b : Nat} (hb : b < 2 ^ 30) (h : a < b) : nI a - nI b < 0 := by
  rw [Int32.lt_iff_toInt_lt, pk_sub_toInt (by omega) hb, show (0 : Int32).toInt = 0 from by decide]
  omega
theorem pk_ix (x : Int32) {n : Nat} (hn : n < 2 ^ 31) : x < 0 ∨ nI n ≤ x ∨ ∃ j : Nat, j < n ∧ x = nI j := by
  by_cases h : x < 0
  · exact Or.inl h
  · obtain ⟨j, hj, rfl⟩ := nI_of h
    by_cases h2 : j < n
    · exact Or.inr (Or.inr ⟨j, h2, rfl⟩)
    · exact Or.inr (Or.inl (nI_le (by omega) hj))
theorem pk_le {x y : Int32} {A B : Prop} (a b : Nat) (f : a ≤ b → A) (g : b < a → B) (hx : x = nI a := by rfl) (hy : y = nI b := by rfl) (ha : a < 2 ^ 31 := by omega) (hb : b < 2 ^ 31 := by omega) : (x ≤ y → A) ∧ (¬ x ≤ y → B) := by
  subst hx hy
  rw [nI_leI ha hb]
  exact ⟨f, fun z => g (by omega)⟩
theorem pk_lt {x y : Int32} {A B : Prop} (a b : Nat) (f : a < b → A) (g : b ≤ a → B) (hx : x = nI a := by rfl) (hy : y = nI b := by rfl) (ha : a < 2 ^ 31 := by omega) (hb : b < 2 ^ 31 := by omega) : (x < y → A) ∧ (¬ x < y → B) := by
  subst hx hy
  rw [nI_ltI ha hb]
  exact ⟨f, fun z => g (by omega)⟩
theorem pk_eq {x y : Int32} {A B : Prop} (a b : Nat) (f : a = b → A) (g : a ≠ b → B) (hx : x = nI a := by rfl) (hy : y = nI b := by rfl) (ha : a < 2 ^ 31 := by omega) (hb : b < 2 ^ 31 := by omega) : (x = y → A) ∧ (¬ x = y → B) := by
  subst hx hy
  rw [nI_eq ha hb]
  exact ⟨f, g⟩
theorem pk_in {x : Int32} (n N : Nat) (h : n < N) (hx : x = nI n := by rfl) (hN : N < 2 ^ 31 := by omega) : vp_in x N := by
  subst hx
  exact vp_in_nI h hN
theorem pk_cl {x : Int32} (n : Nat) (hx : x = nI n := by rfl) (h : n < 2 ^ 31 := by omega) : x.toNatClampNeg = n := by
  subst hx
  exact nI_clamp h
theorem pk_tn {n : Nat} (h : n < 2 ^ 32) : (nI n).toBitVec.toNat = n := Nat.mod_eq_of_lt h
theorem pk_and (x : Int32) {m : Int32} (k : Nat) (hm : m.toBitVec.toNat = 2 ^ k - 1) : x &&& m = nI (x.toBitVec.toNat % 2 ^ k) := by
  apply Int32.toBitVec_inj.mp
  apply BitVec.eq_of_toNat_eq
  rw [Int32.toBitVec_and, BitVec.toNat_and, hm, Nat.and_two_pow_sub_one_eq_mod]
  show _ = (BitVec.ofNat 32 _).toNat
  rw [BitVec.toNat_ofNat]
  exact (Nat.mod_eq_of_lt (Nat.lt_of_le_of_lt (Nat.mod_le _ _) x.toBitVec.isLt)).symm
theorem pk_andN {n : Nat} (h : n < 2 ^ 32) {m : Int32} (k : Nat) (hm : m.toBitVec.toNat = 2 ^ k - 1) : nI n &&& m = nI (n % 2 ^ k) := by
  rw [pk_and _ k hm, pk_tn h]
theorem pk_shr (a s : Int32) (k : Nat) (hs : (s.toBitVec.smod 32).toNat = k) : (a >>> s).toInt = a.toInt >>> k := by
  show (a.toBitVec.sshiftRight (s.toBitVec.smod 32).toNat).toInt = _
  rw [hs, BitVec.toInt_sshiftRight]
  rfl
theorem pk_shrN {n : Nat} (h : n < 2 ^ 31) (s : Int32) (k : Nat) (hs : (s.toBitVec.smod 32).toNat = k) : nI n >>> s = nI (n / 2 ^ k) := by
  apply Int32.toInt_inj.mp
  have h2 : n / 2 ^ k ≤ n := Nat.div_le_self _ _
  rw [pk_shr _ _ k hs, nI_toInt h, nI_toInt (by omega), Int.shiftRight_eq_div_pow]
  rfl
theorem pk_charN {q : Nat} (hq : q < 65536) : narrow .char (.int (nI q)) = .int (nI q) ∧ fits .char (.int (nI q)) = true := by
  constructor
  · have e : (nI q).toUInt32.toUInt16.toUInt32.toInt32 = nI q := by
      apply Int32.toBitVec_inj.mp
      apply BitVec.eq_of_toNat_eq
      show (nI q).toUInt32.toUInt16.toUInt32.toNat = q % 2 ^ 32
      rw [UInt16.toNat_toUInt32, UInt32.toNat_toUInt16, show (nI q).toUInt32.toNat = q % 2 ^ 32 from rfl]
      omega
    exact congrArg Value.int e
  · have a : (0 : Int32) ≤ nI q := nI_pos' (by omega)
    have b : nI q ≤ 65535 := nI_le (b := 65535) (by omega) (by decide)
    show (decide ((0 : Int32) ≤ nI q) && decide (nI q ≤ 65535)) = true
    rw [decide_eq_true a, decide_eq_true b]
    rfl
theorem pk_char (x : Int32) : (x.toUInt32 % 65536).toInt32 = nI (x.toBitVec.toNat % 65536) := by
  apply Int32.toBitVec_inj.mp
  apply BitVec.eq_of_toNat_eq
  rw [pk_tn (by omega)]
  show (x.toUInt32 % 65536).toNat = _
  rw [UInt32.toNat_mod]
  rfl
theorem pk_nc (x : Int32) : narrow .char (.int (x.toUInt32 % 65536).toInt32) = .int (x.toUInt32 % 65536).toInt32 := by
  rw [pk_char]
  exact (pk_charN (Nat.mod_lt _ (by decide))).1
theorem pk_vc (z : Int32) : vp_nar .char (z.toUInt32 % 65536).toInt32 = (z.toUInt32 % 65536).toInt32 := Value.int.inj (pk_nc z)
end
section
/-! pure pictures: numbers, depth, sizes, innermost group, the walk of a range -/
def zz_p (H : Nat) : Int32 := if H = 0 then -1 else nI (H - 1)
def zz_b (b : Bool) : Int32 := if b = true then 1 else 0
def zn_u (f : Nat → Nat) (k v : Nat) : Nat → Nat := fun j => if j = k then v else f j
theorem zn_us {f : Nat → Nat} {k v : Nat} : zn_u f k v k = v := if_pos rfl
theorem zn_un {f : Nat → Nat} {k v j : Nat} (h : j ≠ k) : zn_u f k v j = f j := if_neg h
theorem zz_bt : zz_b true = 1 := rfl
theorem zz_bf : zz_b false = 0 := rfl
theorem zz_m1 : (-1 : Int32).toInt = -1 := by decide
theorem zz_0 : (0 : Int32).toInt = 0 := by decide
theorem zz_nm {n : Nat} (h : n < 2 ^ 31) : nI n ≠ -1 := fun e => by
  have e2 := congrArg Int32.toInt e
  rw [nI_toInt h, zz_m1] at e2
  omega
theorem zz_pT {H : Nat} (h : H < 2 ^ 31) : (zz_p H).toInt = (H : Int) - 1 := by
  unfold zz_p
  by_cases h0 : H = 0
  · rw [if_pos h0, zz_m1, h0]; rfl
  · rw [if_neg h0, nI_toInt (by omega)]; omega
theorem zz_pS (n : Nat) : zz_p (n + 1) = nI n := rfl
theorem zz_pLe {H i : Nat} (h : H < 2 ^ 31) (hi : i < 2 ^ 31) : zz_p H ≤ nI i ↔ H ≤ i + 1 := by
  rw [Int32.le_iff_toInt_le, zz_pT h, nI_toInt hi]; omega
def zd_dep (K : Nat → Nat) : Nat → Nat
  | 0 => 0
  | j + 1 => if K j = 3 then zd_dep K j + 1 else if K j = 4 then zd_dep K j - 1 else zd_dep K j
def zd_sz (k a b : Nat) : Nat := if k = 0 then b else if k = 1 then a else 0
def zd_tot (K A B : Nat → Nat) : Nat → Nat
  | 0 => 0
  | j + 1 => zd_tot K A B j + zd_sz (K j) (A j) (B j)
def zd_inn (K : Nat → Nat) : Nat → Nat → Int32
  | 0, _ => -1
  | j + 1, q => if K j = 4 then zd_inn K j (q + 1) else if K j = 3 then (if q = 0 then nI j else zd_inn K j (q - 1)) else zd_inn K j q
abbrev zw_W : Type := Nat × Nat × Bool × Bool × Bool
def zw_st (ki k a b : Nat) : zw_W → zw_W
  | (q, x, i, f, t) =>
    if t = true then (q, x, i, f, t)
    else if k = 0 then (q, x + b, i, f, t)
    else if i = true then
      (if k = 3 then (q + 1, x, i, f, t)
       else if k = 4 then (q - 1, x, decide (q ≠ 1), f, t)
       else if ki = 1 ∧ q = 1 then (q, x, i, f, true)
       else if k = 1 then (q, x + a, i, f, t)
       else (q, x, i, true, t))
    else if k = 1 ∨ k = 2 then (q, x, i, f, true)
    else (q, x, i, f, t)
def zw_wk (K A B : Nat → Nat) (i : Nat) : Nat → zw_W
  | 0 => (1, if K i = 1 then A i else 0, true, false, false)
  | m + 1 => if m ≤ i then (1, if K i = 1 then A i else 0, true, false, false) else zw_st (K i) (K m) (A m) (B m) (zw_wk K A B i m)
theorem zw_i {K A B : Nat → Nat} {i : Nat} : zw_wk K A B i (i + 1) = (1, if K i = 1 then A i else 0, true, false, false) := if_pos (Nat.le_refl i)
theorem zw_s {K A B : Nat → Nat} {i m : Nat} (h : i < m) : zw_wk K A B i (m + 1) = zw_st (K i) (K m) (A m) (B m) (zw_wk K A B i m) := if_neg (by omega)
def zw_ok (k a b : Nat) : Prop := (k = 0 ∧ 33 ≤ a ∧ a ≤ 126 ∧ 1 ≤ b ∧ b ≤ 8) ∨ (k = 1 ∧ a ≤ 8 ∧ b ≤ 16) ∨ (k = 2 ∧ a = 0 ∧ b ≤ 16) ∨ (k = 3 ∧ a ≤ 3 ∧ b ≤ 16) ∨ (k = 4 ∧ a = 0 ∧ b = 0)
theorem zw_okb {k a b : Nat} (h : zw_ok k a b) : k ≤ 4 ∧ a ≤ 126 ∧ b ≤ 16 ∧ zd_sz k a b ≤ 8 := by
  unfold zd_sz
  rcases h with h | h | h | h | h
  · rw [if_pos h.1]; omega
  · rw [if_neg (by omega), if_pos h.1]; omega
  · rw [if_neg (by omega), if_neg (by omega)]; omega
  · rw [if_neg (by omega), if_neg (by omega)]; omega
  · rw [if_neg (by omega), if_neg (by omega)]; omega
theorem zd_totb {K A B : Nat → Nat} {n : Nat} (h : ∀ i, i < n → zw_ok (K i) (A i) (B i)) : ∀ j, j ≤ n → zd_tot K A B j ≤ 8 * j := by
  intro j
  induction j with
  | zero => intro _; exact Nat.le_refl _
  | succ j ih =>
    intro hj
    have h1 := ih (by omega)
    have h2 := (zw_okb (h j (by omega))).2.2.2
    show zd_tot K A B j + zd_sz (K j) (A j) (B j) ≤ _
    omega
theorem zd_totm {K A B : Nat → Nat} {i j : Nat} (h : i ≤ j) : zd_tot K A B i ≤ zd_tot K A B j := by
  induction h with
  | refl => exact Nat.le_refl _
  | step _ ih => exact Nat.le_trans ih (Nat.le_add_right _ _)
/-- what a step of the walk gives, its cases by name -/
theorem zw_st_t {ki k a b q x : Nat} {i f : Bool} : zw_st ki k a b (q, x, i, f, true) = (q, x, i, f, true) := rfl
theorem zw_st_0 {ki a b q x : Nat} {i f : Bool} : zw_st ki 0 a b (q, x, i, f, false) = (q, x + b, i, f, false) := rfl
theorem zw_st_o {ki a b q x : Nat} {f : Bool} : zw_st ki 3 a b (q, x, true, f, false) = (q + 1, x, true, f, false) := rfl
theorem zw_st_c {ki a b q x : Nat} {f : Bool} : zw_st ki 4 a b (q, x, true, f, false) = (q - 1, x, decide (q ≠ 1), f, false) := rfl
theorem zw_st_e {ki k a b q x : Nat} {f : Bool} (hk : k = 1 ∨ k = 2) (h : ki = 1 ∧ q = 1) : zw_st ki k a b (q, x, true, f, false) = (q, x, true, f, true) := by
  show (if k = 0 then _ else if k = 3 then _ else if k = 4 then _ else if ki = 1 ∧ q = 1 then _ else _) = _
  rw [if_neg (by omega), if_neg (by omega), if_neg (by omega), if_pos h]
theorem zw_st_b {ki a b q x : Nat} {f : Bool} (h : ¬ (ki = 1 ∧ q = 1)) : zw_st ki 1 a b (q, x, true, f, false) = (q, x + a, true, f, false) := by
  show (if ki = 1 ∧ q = 1 then _ else _) = _
  rw [if_neg h]
  rfl
theorem zw_st_h {ki a b q x : Nat} {f : Bool} (h : ¬ (ki = 1 ∧ q = 1)) : zw_st ki 2 a b (q, x, true, f, false) = (q, x, true, true, false) := by
  show (if ki = 1 ∧ q = 1 then _ else _) = _
  rw [if_neg h]
  rfl
theorem zw_st_te {ki k a b q x : Nat} {f : Bool} (hk : k = 1 ∨ k = 2) : zw_st ki k a b (q, x, false, f, false) = (q, x, false, f, true) := by
  show (if k = 0 then _ else if k = 1 ∨ k = 2 then _ else _) = _
  rw [if_neg (by omega), if_pos hk]
theorem zw_st_to {ki k a b q x : Nat} {f : Bool} (hk : k = 3 ∨ k = 4) : zw_st ki k a b (q, x, false, f, false) = (q, x, false, f, false) := by
  show (if k = 0 then _ else if k = 1 ∨ k = 2 then _ else _) = _
  rw [if_neg (by omega), if_neg (by omega)]
/-- inside: the nest is at least 1; the nest and the extent are bounded -/
theorem zw_pos {K A B : Nat → Nat} {i : Nat} : ∀ m, i < m → ∀ q x a f t, zw_wk K A B i m = (q, x, a, f, t) → (a = true → 1 ≤ q) ∧ q ≤ m ∧ zd_tot K A B i + x ≤ zd_tot K A B m := by
  intro m
  induction m with
  | zero => intro h; omega
  | succ m ih =>
    intro hm q x a f t e
    have hT : zd_tot K A B (m + 1) = zd_tot K A B m + zd_sz (K m) (A m) (B m) := rfl
    by_cases hi : m = i
    · subst hi
      rw [zw_i] at e
      injection e with e1 e
      injection e with e2 e
      rw [hT, ← e1, ← e2]
      refine ⟨fun _ => Nat.le_refl 1, by omega, ?_⟩
      unfold zd_sz
      by_cases h1 : K m = 1
      · rw [if_pos h1, if_neg (by omega)]; exact Nat.le_refl _
      · rw [if_neg h1]; omega
    · have hlt : i < m := by omega
      rw [zw_s hlt] at e
      rcases hw : zw_wk K A B i m with ⟨q0, x0, a0, f0, t0⟩
      obtain ⟨p1, p2, p3⟩ := ih hlt q0 x0 a0 f0 t0 hw
      rw [hw] at e
      have hs : zd_tot K A B m ≤ zd_tot K A B (m + 1) := zd_totm (Nat.le_succ m)
      unfold zw_st at e
      dsimp only at e
      split at e
      · injection e with e1 e; injection e with e2 e; injection e with e3 e
        subst e1 e2 e3
        exact ⟨p1, by omega, by omega⟩
      · split at e
        · rename_i h0
          injection e with e1 e; injection e with e2 e; injection e with e3 e
          subst e1 e2 e3
          refine ⟨p1, by omega, ?_⟩
          rw [hT]; unfold zd_sz; rw [if_pos h0]; omega
        · split at e
          · rename_i ha
            have q1 := p1 ha
            split at e
            · injection e with e1 e; injection e with e2 e; injection e with e3 e
              subst e1 e2 e3
              exact ⟨fun _ => by omega, by omega, by omega⟩
            · split at e
              · injection e with e1 e; injection e with e2 e; injection e with e3 e
                subst e1 e2
                refine ⟨fun ha2 => ?_, by omega, by omega⟩
                rw [ha2] at e3
                have := of_decide_eq_true e3
                omega
              · split at e
                · injection e with e1 e; injection e with e2 e; injection e with e3 e
                  subst e1 e2 e3
                  exact ⟨p1, by omega, by omega⟩
                · split at e
                  · rename_i h1
                    injection e with e1 e; injection e with e2 e; injection e with e3 e
                    subst e1 e2 e3
                    refine ⟨p1, by omega, ?_⟩
                    rw [hT]; unfold zd_sz; rw [if_neg (by omega), if_pos h1]; omega
                  · injection e with e1 e; injection e with e2 e; injection e with e3 e
                    subst e1 e2 e3
                    exact ⟨p1, by omega, by omega⟩
          · split at e
            · injection e with e1 e; injection e with e2 e; injection e with e3 e
              subst e1 e2 e3
              exact ⟨p1, by omega, by omega⟩
            · injection e with e1 e; injection e with e2 e; injection e with e3 e
              subst e1 e2 e3
              exact ⟨p1, by omega, by omega⟩
/-- a complete range stays as it is -/
theorem zw_done {K A B : Nat → Nat} {i m q x : Nat} {a f : Bool} (him : i < m) (e : zw_wk K A B i m = (q, x, a, f, true)) : ∀ n, m ≤ n → zw_wk K A B i n = (q, x, a, f, true) := by
  intro n hn
  induction hn with
  | refl => exact e
  | step h ih => rw [zw_s (by have := Nat.le_of_succ_le_succ (Nat.succ_le_succ h); omega), ih, zw_st_t]
theorem zd_dep_c {K K' : Nat → Nat} : ∀ m, (∀ j, j < m → K' j = K j) → zd_dep K' m = zd_dep K m := by
  intro m
  induction m with
  | zero => intro _; rfl
  | succ m ih =>
    intro h
    have e := ih fun j hj => h j (by omega)
    unfold zd_dep
    rw [e, h m (by omega)]
theorem zd_tot_c {K K' A A' B B' : Nat → Nat} : ∀ m, (∀ j, j < m → K' j = K j ∧ A' j = A j ∧ B' j = B j) → zd_tot K' A' B' m = zd_tot K A B m := by
  intro m
  induction m with
  | zero => intro _; rfl
  | succ m ih =>
    intro h
    have e := ih fun j hj => h j (by omega)
    obtain ⟨e1, e2, e3⟩ := h m (by omega)
    unfold zd_tot
    rw [e, e1, e2, e3]
theorem zd_inn_c {K K' : Nat → Nat} : ∀ m, (∀ j, j < m → K' j = K j) → ∀ q, zd_inn K' m q = zd_inn K m q := by
  intro m
  induction m with
  | zero => intro _ q; rfl
  | succ m ih =>
    intro h q
    have e := ih fun j hj => h j (by omega)
    unfold zd_inn
    rw [e, e, e, h m (by omega)]
theorem zw_wk_c {K K' A A' B B' : Nat → Nat} {i : Nat} : ∀ m, i < m → (∀ j, j < m → K' j = K j ∧ A' j = A j ∧ B' j = B j) → zw_wk K' A' B' i m = zw_wk K A B i m := by
  intro m
  induction m with
  | zero => intro h; omega
  | succ m ih =>
    intro hm h
    obtain ⟨e1, e2, e3⟩ := h m (by omega)
    obtain ⟨g1, g2, g3⟩ := h i (by omega)
    by_cases hi : m = i
    · subst hi
      rw [zw_i, zw_i, e1, e2]
    · rw [zw_s (by omega), zw_s (by omega), ih (by omega) (fun j hj => h j (by omega)), e1, e2, e3, g1]
/-- the step of the walk, by what the scanner does -/
def zs_fT : zw_W → zw_W
  | (q, x, a, f, t) => (q, x, a, f, t || !a)
def zs_fS (ki : Nat) : zw_W → zw_W
  | (q, x, a, f, t) => (q, x, a, f, t || (decide (ki = 1) && decide (q = 1)))
def zs_ad (s : Nat) : zw_W → zw_W
  | (q, x, a, f, t) => (q, if t = true then x else x + s, a, f, t)
def zs_fH : zw_W → zw_W
  | (q, x, a, f, t) => (q, x, a, f || !t, t)
def zs_op : zw_W → zw_W
  | (q, x, a, f, t) => (if (a && !t) = true then q + 1 else q, x, a, f, t)
def zs_cl : zw_W → zw_W
  | (q, x, a, f, t) => (if (a && !t) = true then q - 1 else q, x, if (a && !t) = true then decide (q ≠ 1) else a, f, t)
theorem zs_0 (ki a b : Nat) (s : zw_W) : zw_st ki 0 a b s = zs_ad b s := by
  obtain ⟨q, x, i, f, t⟩ := s
  cases t <;> rfl
theorem zs_1 (ki a b : Nat) (s : zw_W) : zw_st ki 1 a b s = zs_ad a (zs_fS ki (zs_fT s)) := by
  obtain ⟨q, x, i, f, t⟩ := s
  cases t
  · cases i
    · rfl
    · by_cases h : ki = 1 ∧ q = 1
      · rw [zw_st_e (Or.inl rfl) h]
        obtain ⟨rfl, rfl⟩ := h
        rfl
      · rw [zw_st_b h]
        show _ = zs_ad a (q, x, true, f, false || (decide (ki = 1) && decide (q = 1)))
        have e : (false || (decide (ki = 1) && decide (q = 1))) = false := by
          by_cases h1 : ki = 1
          · rw [decide_eq_false (p := q = 1) (fun z => h ⟨h1, z⟩)]; simp
          · rw [decide_eq_false h1]; simp
        rw [e]
        rfl
  · rfl
theorem zs_2 (ki a b : Nat) (s : zw_W) : zw_st ki 2 a b s = zs_fH (zs_fS ki (zs_fT s)) := by
  obtain ⟨q, x, i, f, t⟩ := s
  cases t
  · cases i
    · cases f <;> rfl
    · by_cases h : ki = 1 ∧ q = 1
      · rw [zw_st_e (Or.inr rfl) h]
        obtain ⟨rfl, rfl⟩ := h
        cases f <;> rfl
      · rw [zw_st_h h]
        show _ = zs_fH (q, x, true, f, false || (decide (ki = 1) && decide (q = 1)))
        have e : (false || (decide (ki = 1) && decide (q = 1))) = false := by
          by_cases h1 : ki = 1
          · rw [decide_eq_false (p := q = 1) (fun z => h ⟨h1, z⟩)]; simp
          · rw [decide_eq_false h1]; simp
        rw [e]
        cases f <;> rfl
  · cases f <;> rfl
theorem zs_3 (ki a b : Nat) (s : zw_W) : zw_st ki 3 a b s = zs_op s := by
  obtain ⟨q, x, i, f, t⟩ := s
  cases t <;> cases i <;> rfl
theorem zs_4 (ki a b : Nat) (s : zw_W) : zw_st ki 4 a b s = zs_cl s := by
  obtain ⟨q, x, i, f, t⟩ := s
  cases t <;> cases i <;> rfl
end
section
/-! the scanner's arrays against the walk states -/
def zs_Ph (K tt : Nat → Nat) (d T H tc : Nat) (re ns fc so sb tl : Nat → Int32) (i q x : Nat) (a f t : Bool) : Prop :=
  (t = true ∧ re i = nI (tt i + x) ∧ tt i + x ≤ T ∧ ns i = 0 ∧ fc i = zz_b f) ∨
  (t = false ∧ a = true ∧ re i = -1 ∧ tt i + x = T ∧ ns i = 1 ∧ (f = true ↔ i + 1 < H) ∧ 1 ≤ q ∧
    ((K i = 3 ∧ q ≤ d ∧ so (d + 1 - q) = nI i) ∨ (K i = 1 ∧ q ≤ d + 1 ∧ sb (d + 1 - q) = nI i))) ∨
  (t = false ∧ a = false ∧ re i = -1 ∧ tt i + x = T ∧ ns i = 0 ∧ fc i = zz_b f ∧ ∃ k, k < tc ∧ tl k = nI i)
def zs_nb (sb : Nat → Int32) : Nat → Nat
  | 0 => 0
  | l + 1 => zs_nb sb l + (if sb l = -1 then 0 else 1)
def zs_Sc (K tt : Nat → Nat) (w : Nat → zw_W) (d T n H tc : Nat) (re ns fc so sb tl : Nat → Int32) : Prop :=
  (∀ i, i < n → K i = 1 ∨ K i = 3 → ∀ q x a f t, w i = (q, x, a, f, t) → zs_Ph K tt d T H tc re ns fc so sb tl i q x a f t) ∧
  (∀ l, 1 ≤ l → l ≤ d → ∃ i q x f, i < n ∧ so l = nI i ∧ K i = 3 ∧ w i = (q, x, true, f, false) ∧ q + l = d + 1) ∧
  (∀ l, l ≤ d → sb l = -1 ∨ ∃ i q x f, i < n ∧ sb l = nI i ∧ K i = 1 ∧ w i = (q, x, true, f, false) ∧ q + l = d + 1) ∧
  (∀ k, k < tc → ∃ i q x f, i < n ∧ tl k = nI i ∧ (K i = 1 ∨ K i = 3) ∧ w i = (q, x, false, f, false)) ∧
  tc + d + zs_nb sb (d + 1) ≤ n ∧ H ≤ n
theorem zs_inj {i j : Nat} (hi : i < 256) (hj : j < 256) (e : nI i = nI j) : i = j := (nI_eq (by omega) (by omega)).mp e
theorem zs_nb_u {sb : Nat → Int32} {d : Nat} {v : Int32} : ∀ l, l ≤ d → zs_nb (upd sb d v) l = zs_nb sb l := by
  intro l
  induction l with
  | zero => intro _; rfl
  | succ l ih =>
    intro h
    unfold zs_nb
    rw [ih (by omega), pk_un (by omega)]
theorem zs_nb_t {sb : Nat → Int32} {d : Nat} {v : Int32} : zs_nb (upd sb d v) (d + 1) = zs_nb sb d + (if v = -1 then 0 else 1) := by
  show zs_nb (upd sb d v) d + (if upd sb d v d = -1 then 0 else 1) = _
  rw [zs_nb_u d (Nat.le_refl d), pk_us]
theorem zs_nb_s {sb : Nat → Int32} {d : Nat} : zs_nb sb (d + 1) = zs_nb sb d + (if sb d = -1 then 0 else 1) := rfl
theorem zs_congr {K K' tt tt' : Nat → Nat} {w w' : Nat → zw_W} {d T n H tc : Nat} {re ns fc so sb tl : Nat → Int32}
    (hK : ∀ i, i < n → K' i = K i) (ht : ∀ i, i < n → tt' i = tt i) (hw : ∀ i, i < n → K i = 1 ∨ K i = 3 → w' i = w i)
    (h : zs_Sc K tt w d T n H tc re ns fc so sb tl) : zs_Sc K' tt' w' d T n H tc re ns fc so sb tl := by
  obtain ⟨h1, h2, h3, h4, h5, h6⟩ := h
  refine ⟨?_, ?_, ?_, ?_, h5, h6⟩
  · intro i hi hk q x a f t e
    rw [hK i hi] at hk
    rw [hw i hi hk] at e
    have p := h1 i hi hk q x a f t e
    unfold zs_Ph at p ⊢
    rw [hK i hi, ht i hi]
    exact p
  · intro l h1l hl
    obtain ⟨i, q, x, f, hi, e1, e2, e3, e4⟩ := h2 l h1l hl
    exact ⟨i, q, x, f, hi, e1, by rw [hK i hi]; exact e2, by rw [hw i hi (Or.inr e2)]; exact e3, e4⟩
  · intro l hl
    rcases h3 l hl with e | ⟨i, q, x, f, hi, e1, e2, e3, e4⟩
    · exact Or.inl e
    · exact Or.inr ⟨i, q, x, f, hi, e1, by rw [hK i hi]; exact e2, by rw [hw i hi (Or.inl e2)]; exact e3, e4⟩
  · intro k hk
    obtain ⟨i, q, x, f, hi, e1, e2, e3⟩ := h4 k hk
    exact ⟨i, q, x, f, hi, e1, by rw [hK i hi]; exact e2, by rw [hw i hi e2]; exact e3⟩
def zx_tw (tl : Nat → Int32) (v : Int32) (re : Nat → Int32) : Nat → Nat → Int32
  | 0 => re
  | k + 1 => upd (zx_tw tl v re k) (tl k).toNatClampNeg v
theorem zx_tw_out {tl re : Nat → Int32} {v : Int32} {i : Nat} : ∀ m, (∀ k, k < m → (tl k).toNatClampNeg ≠ i) → zx_tw tl v re m i = re i := by
  intro m
  induction m with
  | zero => intro _; rfl
  | succ m ih =>
    intro h
    show upd (zx_tw tl v re m) (tl m).toNatClampNeg v i = re i
    rw [pk_un (fun e => h m (by omega) e.symm), ih fun k hk => h k (by omega)]
theorem zx_tw_in {tl re : Nat → Int32} {v : Int32} {i k : Nat} : ∀ m, k < m → (tl k).toNatClampNeg = i → zx_tw tl v re m i = v := by
  intro m
  induction m with
  | zero => intro h; omega
  | succ m ih =>
    intro h e
    show upd (zx_tw tl v re m) (tl m).toNatClampNeg v i = v
    by_cases hm : i = (tl m).toNatClampNeg
    · rw [← hm, pk_us]
    · rw [pk_un hm]
      refine ih ?_ e
      have : k ≠ m := fun z => hm (by rw [← z, e])
      omega
section
variable {K tt : Nat → Nat} {w w' : Nat → zw_W} {d T n H tc : Nat} {re ns fc so sb tl : Nat → Int32}
/-- a BREAK or HARD ends all ranges in TAIL -/
theorem zs_tails (hn : n ≤ 256) (h : zs_Sc K tt w d T n H tc re ns fc so sb tl) :
    zs_Sc K tt (fun i => zs_fT (w i)) d T n H 0 (zx_tw tl (nI T) re tc) ns fc so sb tl := by
  obtain ⟨h1, h2, h3, h4, h5, h6⟩ := h
  have out : ∀ i q x f t, i < n → w i = (q, x, true, f, t) ∨ (∃ a, w i = (q, x, a, f, true)) → zx_tw tl (nI T) re tc i = re i := by
    intro i q x f t hi e
    refine zx_tw_out tc fun k hk z => ?_
    obtain ⟨j, q', x', f', hj, e1, e2, e3⟩ := h4 k hk
    rw [e1, nI_clamp (by omega)] at z
    subst z
    rcases e with e | ⟨a, e⟩
    · rw [e3] at e; simp at e
    · rw [e3] at e; simp at e
  refine ⟨?_, ?_, ?_, ?_, by omega, h6⟩
  · intro i hi hk q x a f t e
    rcases hw : w i with ⟨q0, x0, a0, f0, t0⟩
    have p := h1 i hi hk q0 x0 a0 f0 t0 hw
    have e : zs_fT (w i) = (q, x, a, f, t) := e
    rw [hw] at e
    have e : (q0, x0, a0, f0, t0 || !a0) = (q, x, a, f, t) := e
    simp only [Prod.mk.injEq] at e
    obtain ⟨rfl, rfl, rfl, rfl, rfl⟩ := e
    rcases p with ⟨rfl, p1, p2, p3, p4⟩ | ⟨rfl, rfl, p1, p2, p3, p4, p5, p6⟩ | ⟨rfl, rfl, p1, p2, p3, p4, k, p5, p6⟩
    · exact Or.inl ⟨rfl, by rw [out i q0 x0 f0 true hi (Or.inr ⟨_, hw⟩)]; exact p1, p2, p3, p4⟩
    · exact Or.inr (Or.inl ⟨rfl, rfl, by rw [out i q0 x0 f0 false hi (Or.inl hw)]; exact p1, p2, p3, p4, p5, p6⟩)
    · refine Or.inl ⟨rfl, ?_, by omega, p3, p4⟩
      rw [p2]
      exact zx_tw_in tc p5 (by rw [p6, nI_clamp (by omega)])
  · intro l h1l hl
    obtain ⟨i, q, x, f, hi, e1, e2, e3, e4⟩ := h2 l h1l hl
    exact ⟨i, q, x, f, hi, e1, e2, by show zs_fT (w i) = _; rw [e3]; rfl, e4⟩
  · intro l hl
    rcases h3 l hl with e | ⟨i, q, x, f, hi, e1, e2, e3, e4⟩
    · exact Or.inl e
    · exact Or.inr ⟨i, q, x, f, hi, e1, e2, by show zs_fT (w i) = _; rw [e3]; rfl, e4⟩
  · intro k hk; omega
/-- .. and the running section of the current level: there is none -/
theorem zs_sec0 (hn : n ≤ 256) (h : zs_Sc K tt w d T n H 0 re ns fc so sb tl) (hs : sb d = -1) :
    zs_Sc K tt (fun i => zs_fS (K i) (w i)) d T n H 0 re ns fc so sb tl := by
  refine zs_congr (fun _ _ => rfl) (fun _ _ => rfl) ?_ h
  intro i hi hk
  rcases hw : w i with ⟨q0, x0, a0, f0, t0⟩
  have p := h.1 i hi hk q0 x0 a0 f0 t0 hw
  show (q0, x0, a0, f0, t0 || (decide (K i = 1) && decide (q0 = 1))) = (q0, x0, a0, f0, t0)
  rcases p with ⟨rfl, _⟩ | ⟨rfl, rfl, p1, p2, p3, p4, p5, p6⟩ | ⟨rfl, rfl, p1, p2, p3, p4, k, p5, p6⟩
  · rfl
  · have : ¬ (K i = 1 ∧ q0 = 1) := by
      rintro ⟨z1, z2⟩
      rcases p6 with ⟨z3, _⟩ | ⟨_, _, z4⟩
      · omega
      · rw [z2, show d + 1 - 1 = d from by omega, hs] at z4
        exact zz_nm (by omega) z4.symm
    have e : (false || (decide (K i = 1) && decide (q0 = 1))) = false := by
      by_cases h1 : K i = 1
      · rw [decide_eq_false (p := q0 = 1) (fun z => this ⟨h1, z⟩)]; simp
      · rw [decide_eq_false h1]; simp
    rw [e]
  · omega
/-- .. or it ends -/
theorem zs_sec1 (hn : n ≤ 256) (h : zs_Sc K tt w d T n H 0 re ns fc so sb tl) {s : Nat} (hs : sb d = nI s) (hsn : s < 256) :
    zs_Sc K tt (fun i => zs_fS (K i) (w i)) d T n H 0 (upd re s (nI T)) (upd ns s 0) (upd fc s (zz_b (decide (s + 1 < H)))) so (upd sb d (-1)) tl := by
  obtain ⟨h1, h2, h3, h4, h5, h6⟩ := h
  obtain ⟨qs, xs, fs, hsn, hKs, hws, hq⟩ : ∃ q x f, s < n ∧ K s = 1 ∧ w s = (q, x, true, f, false) ∧ q = 1 := by
    rcases h3 d (Nat.le_refl d) with e | ⟨i, q, x, f, hi, e1, e2, e3, e4⟩
    · rw [e] at hs; exact absurd hs.symm (zz_nm (by omega))
    · have := zs_inj (by omega) (by omega) (hs.symm.trans e1)
      subst this
      exact ⟨q, x, f, hi, e2, e3, by omega⟩
  subst hq
  have nd : ∀ q k : Nat, ¬ (k = 1 ∧ q = 1) → (false || (decide (k = 1) && decide (q = 1))) = false := by
    intro q k hh
    by_cases h1 : k = 1
    · rw [decide_eq_false (p := q = 1) (fun z => hh ⟨h1, z⟩)]; simp
    · rw [decide_eq_false h1]; simp
  refine ⟨?_, ?_, ?_, ?_, ?_, h6⟩
  · intro i hi hk q x a f t e
    rcases hw : w i with ⟨q0, x0, a0, f0, t0⟩
    have p := h1 i hi hk q0 x0 a0 f0 t0 hw
    have e : zs_fS (K i) (w i) = (q, x, a, f, t) := e
    rw [hw] at e
    have e : (q0, x0, a0, f0, t0 || (decide (K i = 1) && decide (q0 = 1))) = (q, x, a, f, t) := e
    simp only [Prod.mk.injEq] at e
    obtain ⟨rfl, rfl, rfl, rfl, rfl⟩ := e
    by_cases his : i = s
    · subst his
      rw [hws] at hw
      simp only [Prod.mk.injEq] at hw
      obtain ⟨rfl, rfl, rfl, rfl, rfl⟩ := hw
      rcases p with ⟨z, _⟩ | ⟨_, _, p1, p2, p3, p4, p5, p6⟩ | ⟨_, z, _⟩
      · exact absurd z (by decide)
      · refine Or.inl ⟨by rw [hKs]; rfl, by rw [pk_us, p2], by omega, pk_us, ?_⟩
        rw [pk_us]
        congr 1
        cases fs
        · exact decide_eq_false (fun z => absurd (p4.mpr z) (by decide))
        · exact decide_eq_true (p4.mp rfl)
      · exact absurd z (by decide)
    · rcases p with ⟨rfl, p1, p2, p3, p4⟩ | ⟨rfl, rfl, p1, p2, p3, p4, p5, p6⟩ | ⟨rfl, rfl, p1, p2, p3, p4, k, p5, p6⟩
      · exact Or.inl ⟨rfl, by rw [pk_un his]; exact p1, p2, by rw [pk_un his]; exact p3, by rw [pk_un his]; exact p4⟩
      · have hn1 : ¬ (K i = 1 ∧ q0 = 1) := by
          rintro ⟨z1, z2⟩
          rcases p6 with ⟨z3, _⟩ | ⟨_, _, z4⟩
          · omega
          · rw [z2, show d + 1 - 1 = d from by omega, hs] at z4
            exact his (zs_inj (by omega) (by omega) z4.symm)
        refine Or.inr (Or.inl ⟨nd _ _ hn1, rfl, by rw [pk_un his]; exact p1, p2, by rw [pk_un his]; exact p3, p4, p5, ?_⟩)
        rcases p6 with ⟨z1, z2, z3⟩ | ⟨z1, z2, z3⟩
        · exact Or.inl ⟨z1, z2, z3⟩
        · exact Or.inr ⟨z1, z2, by rw [pk_un (by omega)]; exact z3⟩
      · omega
  · intro l h1l hl
    obtain ⟨i, q, x, f, hi, e1, e2, e3, e4⟩ := h2 l h1l hl
    refine ⟨i, q, x, f, hi, e1, e2, ?_, e4⟩
    show zs_fS (K i) (w i) = _
    rw [e3]
    show (q, x, true, f, false || (decide (K i = 1) && decide (q = 1))) = _
    rw [nd _ _ (by omega)]
  · intro l hl
    by_cases hld : l = d
    · exact Or.inl (by rw [hld, pk_us])
    · rcases h3 l hl with e | ⟨i, q, x, f, hi, e1, e2, e3, e4⟩
      · exact Or.inl (by rw [pk_un hld]; exact e)
      · refine Or.inr ⟨i, q, x, f, hi, by rw [pk_un hld]; exact e1, e2, ?_, e4⟩
        show zs_fS (K i) (w i) = _
        rw [e3]
        show (q, x, true, f, false || (decide (K i = 1) && decide (q = 1))) = _
        rw [nd _ _ (by omega)]
  · intro k hk; omega
  · rw [zs_nb_t, if_pos rfl]
    rw [zs_nb_s] at h5
    omega
/-- sizes: the total grows, and every running range with it -/
theorem zs_grow (h : zs_Sc K tt w d T n H tc re ns fc so sb tl) (s : Nat) : zs_Sc K tt (fun i => zs_ad s (w i)) d (T + s) n H tc re ns fc so sb tl := by
  obtain ⟨h1, h2, h3, h4, h5, h6⟩ := h
  refine ⟨?_, ?_, ?_, ?_, h5, h6⟩
  · intro i hi hk q x a f t e
    rcases hw : w i with ⟨q0, x0, a0, f0, t0⟩
    have p := h1 i hi hk q0 x0 a0 f0 t0 hw
    have e : zs_ad s (w i) = (q, x, a, f, t) := e
    rw [hw] at e
    have e : (q0, if t0 = true then x0 else x0 + s, a0, f0, t0) = (q, x, a, f, t) := e
    simp only [Prod.mk.injEq] at e
    obtain ⟨rfl, rfl, rfl, rfl, rfl⟩ := e
    rcases p with ⟨rfl, p1, p2, p3, p4⟩ | ⟨rfl, rfl, p1, p2, p3, p4⟩ | ⟨rfl, rfl, p1, p2, p3⟩
    · exact Or.inl ⟨rfl, p1, by show tt i + x0 ≤ _; omega, p3, p4⟩
    · exact Or.inr (Or.inl ⟨rfl, rfl, p1, by show tt i + (x0 + s) = _; omega, p3, p4⟩)
    · exact Or.inr (Or.inr ⟨rfl, rfl, p1, by show tt i + (x0 + s) = _; omega, p3⟩)
  · intro l h1l hl
    obtain ⟨i, q, x, f, hi, e1, e2, e3, e4⟩ := h2 l h1l hl
    exact ⟨i, q, x + s, f, hi, e1, e2, by show zs_ad s (w i) = _; rw [e3]; rfl, e4⟩
  · intro l hl
    rcases h3 l hl with e | ⟨i, q, x, f, hi, e1, e2, e3, e4⟩
    · exact Or.inl e
    · exact Or.inr ⟨i, q, x + s, f, hi, e1, e2, by show zs_ad s (w i) = _; rw [e3]; rfl, e4⟩
  · intro k hk
    obtain ⟨i, q, x, f, hi, e1, e2, e3⟩ := h4 k hk
    exact ⟨i, q, x + s, f, hi, e1, e2, by show zs_ad s (w i) = _; rw [e3]; rfl⟩
/-- a TEXT: one more item without a range -/
theorem zs_newT (h : zs_Sc K tt w d T n H tc re ns fc so sb tl) (hk : K n = 0) : zs_Sc K tt w d T (n + 1) H tc re ns fc so sb tl := by
  obtain ⟨h1, h2, h3, h4, h5, h6⟩ := h
  refine ⟨?_, ?_, ?_, ?_, by omega, by omega⟩
  · intro i hi hk'
    exact h1 i (by have : i ≠ n := fun z => by rw [z] at hk'; omega
                   omega) hk'
  · intro l h1l hl
    obtain ⟨i, q, x, f, hi, e⟩ := h2 l h1l hl
    exact ⟨i, q, x, f, by omega, e⟩
  · intro l hl
    rcases h3 l hl with e | ⟨i, q, x, f, hi, e⟩
    · exact Or.inl e
    · exact Or.inr ⟨i, q, x, f, by omega, e⟩
  · intro k hk
    obtain ⟨i, q, x, f, hi, e⟩ := h4 k hk
    exact ⟨i, q, x, f, by omega, e⟩
/-- a HARD, its sections ended -/
theorem zs_newH (h : zs_Sc K tt w d T n H 0 re ns fc so sb tl) (hk : K n = 2) : zs_Sc K tt (fun i => zs_fH (w i)) d T (n + 1) (n + 1) 0 re ns fc so sb tl := by
  obtain ⟨h1, h2, h3, h4, h5, h6⟩ := h
  refine ⟨?_, ?_, ?_, ?_, by omega, by omega⟩
  · intro i hi hk' q x a f t e
    have hi : i < n := by
      have : i ≠ n := fun z => by rw [z] at hk'; omega
      omega
    rcases hw : w i with ⟨q0, x0, a0, f0, t0⟩
    have p := h1 i hi hk' q0 x0 a0 f0 t0 hw
    have e : zs_fH (w i) = (q, x, a, f, t) := e
    rw [hw] at e
    have e : (q0, x0, a0, f0 || !t0, t0) = (q, x, a, f, t) := e
    simp only [Prod.mk.injEq] at e
    obtain ⟨rfl, rfl, rfl, rfl, rfl⟩ := e
    rcases p with ⟨rfl, p1, p2, p3, p4⟩ | ⟨rfl, rfl, p1, p2, p3, p4, p5⟩ | ⟨rfl, rfl, p1, p2, p3, p4, k, p5, p6⟩
    · exact Or.inl ⟨rfl, p1, p2, p3, by rw [p4]; cases f0 <;> rfl⟩
    · exact Or.inr (Or.inl ⟨rfl, rfl, p1, p2, p3, ⟨fun _ => by omega, fun _ => by cases f0 <;> rfl⟩, p5⟩)
    · omega
  · intro l h1l hl
    obtain ⟨i, q, x, f, hi, e1, e2, e3, e4⟩ := h2 l h1l hl
    exact ⟨i, q, x, f || !false, by omega, e1, e2, by show zs_fH (w i) = _; rw [e3]; rfl, e4⟩
  · intro l hl
    rcases h3 l hl with e | ⟨i, q, x, f, hi, e1, e2, e3, e4⟩
    · exact Or.inl e
    · exact Or.inr ⟨i, q, x, f || !false, by omega, e1, e2, by show zs_fH (w i) = _; rw [e3]; rfl, e4⟩
  · intro k hk; omega
/-- a BREAK, the sections before it ended, its own range begun -/
theorem zs_newB (hn : n < 256) (h : zs_Sc K tt w d T n H tc re ns fc so sb tl) (hk : K n = 1) (hs : sb d = -1) {x0 : Nat} (hw : w n = (1, x0, true, false, false)) (hT : tt n + x0 = T) :
    zs_Sc K tt w d T (n + 1) H tc (upd re n (-1)) (upd ns n 1) (upd fc n 0) so (upd sb d (nI n)) tl := by
  obtain ⟨h1, h2, h3, h4, h5, h6⟩ := h
  refine ⟨?_, ?_, ?_, ?_, ?_, by omega⟩
  · intro i hi hk' q x a f t e
    by_cases hin : i = n
    · subst hin
      rw [hw] at e
      simp only [Prod.mk.injEq] at e
      obtain ⟨rfl, rfl, rfl, rfl, rfl⟩ := e
      refine Or.inr (Or.inl ⟨rfl, rfl, pk_us, hT, pk_us, ⟨fun z => absurd z (by decide), fun z => by omega⟩, Nat.le_refl 1, Or.inr ⟨hk, by omega, ?_⟩⟩)
      rw [show d + 1 - 1 = d from by omega, pk_us]
    · have p := h1 i (by omega) hk' q x a f t e
      unfold zs_Ph at p ⊢
      rw [pk_un hin, pk_un hin, pk_un hin]
      rcases p with p | ⟨rfl, rfl, p1, p2, p3, p4, p5, p6⟩ | p
      · exact Or.inl p
      · refine Or.inr (Or.inl ⟨rfl, rfl, p1, p2, p3, p4, p5, ?_⟩)
        rcases p6 with p6 | ⟨z1, z2, z3⟩
        · exact Or.inl p6
        · refine Or.inr ⟨z1, z2, ?_⟩
          rw [pk_un (fun z => by rw [z, hs] at z3; exact zz_nm (by omega) z3.symm)]
          exact z3
      · exact Or.inr (Or.inr p)
  · intro l h1l hl
    obtain ⟨i, q, x, f, hi, e⟩ := h2 l h1l hl
    exact ⟨i, q, x, f, by omega, e⟩
  · intro l hl
    by_cases hld : l = d
    · exact Or.inr ⟨n, 1, x0, false, by omega, by rw [hld, pk_us], hk, hw, by omega⟩
    · rcases h3 l hl with e | ⟨i, q, x, f, hi, e1, e⟩
      · exact Or.inl (by rw [pk_un hld]; exact e)
      · exact Or.inr ⟨i, q, x, f, by omega, by rw [pk_un hld]; exact e1, e⟩
  · intro k hk
    obtain ⟨i, q, x, f, hi, e⟩ := h4 k hk
    exact ⟨i, q, x, f, by omega, e⟩
  · rw [zs_nb_t, if_neg (zz_nm (by omega))]
    rw [zs_nb_s] at h5
    omega
/-- an OPEN -/
theorem zs_newO (hn : n < 256) (h : zs_Sc K tt w d T n H tc re ns fc so sb tl) (hk : K n = 3) (hw' : ∀ i, i < n → K i = 1 ∨ K i = 3 → w' i = zs_op (w i)) {x0 : Nat} (hw : w' n = (1, x0, true, false, false)) (hT : tt n + x0 = T) :
    zs_Sc K tt w' (d + 1) T (n + 1) H tc (upd re n (-1)) (upd ns n 1) (upd fc n 0) (upd so (d + 1) (nI n)) (upd sb (d + 1) (-1)) tl := by
  obtain ⟨h1, h2, h3, h4, h5, h6⟩ := h
  refine ⟨?_, ?_, ?_, ?_, ?_, by omega⟩
  · intro i hi hk' q x a f t e
    by_cases hin : i = n
    · subst hin
      rw [hw] at e
      simp only [Prod.mk.injEq] at e
      obtain ⟨rfl, rfl, rfl, rfl, rfl⟩ := e
      refine Or.inr (Or.inl ⟨rfl, rfl, pk_us, hT, pk_us, ⟨fun z => absurd z (by decide), fun z => by omega⟩, Nat.le_refl 1, Or.inl ⟨hk, by omega, ?_⟩⟩)
      rw [show d + 1 + 1 - 1 = d + 1 from by omega, pk_us]
    · have hi : i < n := by omega
      rcases hwi : w i with ⟨q0, y0, a0, f0, t0⟩
      have p := h1 i hi hk' q0 y0 a0 f0 t0 hwi
      rw [hw' i hi hk', hwi] at e
      have e : (if (a0 && !t0) = true then q0 + 1 else q0, y0, a0, f0, t0) = (q, x, a, f, t) := e
      simp only [Prod.mk.injEq] at e
      obtain ⟨eq, rfl, rfl, rfl, rfl⟩ := e
      unfold zs_Ph at p ⊢
      rw [pk_un hin, pk_un hin, pk_un hin]
      rcases p with p | ⟨rfl, rfl, p1, p2, p3, p4, p5, p6⟩ | p
      · exact Or.inl p
      · have eq : q0 + 1 = q := eq
        subst eq
        refine Or.inr (Or.inl ⟨rfl, rfl, p1, p2, p3, p4, by omega, ?_⟩)
        rw [show d + 1 + 1 - (q0 + 1) = d + 1 - q0 from by omega]
        rcases p6 with ⟨z1, z2, z3⟩ | ⟨z1, z2, z3⟩
        · exact Or.inl ⟨z1, by omega, by rw [pk_un (by omega)]; exact z3⟩
        · exact Or.inr ⟨z1, by omega, by rw [pk_un (by omega)]; exact z3⟩
      · exact Or.inr (Or.inr p)
  · intro l h1l hl
    by_cases hld : l = d + 1
    · exact ⟨n, 1, x0, false, by omega, by rw [hld, pk_us], hk, hw, by omega⟩
    · obtain ⟨i, q, x, f, hi, e1, e2, e3, e4⟩ := h2 l h1l (by omega)
      exact ⟨i, q + 1, x, f, by omega, by rw [pk_un hld]; exact e1, e2, by rw [hw' i hi (Or.inr e2), e3]; rfl, by omega⟩
  · intro l hl
    by_cases hld : l = d + 1
    · exact Or.inl (by rw [hld, pk_us])
    · rcases h3 l (by omega) with e | ⟨i, q, x, f, hi, e1, e2, e3, e4⟩
      · exact Or.inl (by rw [pk_un hld]; exact e)
      · exact Or.inr ⟨i, q + 1, x, f, by omega, by rw [pk_un hld]; exact e1, e2, by rw [hw' i hi (Or.inl e2), e3]; rfl, by omega⟩
  · intro k hk
    obtain ⟨i, q, x, f, hi, e1, e2, e3⟩ := h4 k hk
    exact ⟨i, q, x, f, by omega, e1, e2, by rw [hw' i hi e2, e3]; rfl⟩
  · rw [zs_nb_t, if_pos rfl]
    omega
/-- a CLOSE: what leaves the level goes to the tail -/
theorem zs_newC (hn : n < 256) (h : zs_Sc K tt w (d + 1) T n H tc re ns fc so sb tl) (hk : K n = 4) (hw' : ∀ i, i < n → K i = 1 ∨ K i = 3 → w' i = zs_cl (w i))
    {i1 : Nat} (hi1 : i1 < 256) (ho : so (d + 1) = nI i1) {tc' : Nat} {ns' fc' tl' : Nat → Int32}
    (g1 : ∀ i, i < n → i = i1 ∨ sb (d + 1) = nI i → ns' i = 0 ∧ fc' i = zz_b (decide (i + 1 < H)) ∧ ∃ k, k < tc' ∧ tl' k = nI i)
    (g2 : ∀ i, i < n → i ≠ i1 → sb (d + 1) ≠ nI i → ns' i = ns i ∧ fc' i = fc i)
    (g3 : ∀ k, k < tc → tl' k = tl k) (g4 : tc ≤ tc') (g5 : ∀ k, tc ≤ k → k < tc' → tl' k = nI i1 ∨ (sb (d + 1) ≠ -1 ∧ tl' k = sb (d + 1)))
    (g6 : tc' + d + zs_nb sb (d + 1) ≤ n) :
    zs_Sc K tt w' d T (n + 1) H tc' re ns' fc' so sb tl' := by
  obtain ⟨h1, h2, h3, h4, h5, h6⟩ := h
  -- the two that leave
  have L1 : ∀ i, i < n → K i = 1 ∨ K i = 3 → ∀ x f, w i = (1, x, true, f, false) → i = i1 ∨ sb (d + 1) = nI i := by
    intro i hi hki x f e
    rcases h1 i hi hki 1 x true f false e with ⟨z, _⟩ | ⟨_, _, p1, p2, p3, p4, p5, p6⟩ | ⟨_, z, _⟩
    · exact absurd z (by decide)
    · rw [show d + 1 + 1 - 1 = d + 1 from by omega] at p6
      rcases p6 with ⟨_, _, z⟩ | ⟨_, _, z⟩
      · exact Or.inl (zs_inj (by omega) hi1 (z.symm.trans ho))
      · exact Or.inr z
    · exact absurd z (by decide)
  have L2 : ∀ i, i < n → K i = 1 ∨ K i = 3 → (i = i1 ∨ sb (d + 1) = nI i) → ∃ x f, w i = (1, x, true, f, false) := by
    intro i hi hki z
    rcases z with z | z
    · obtain ⟨j, q, x, f, hj, e1, e2, e3, e4⟩ := h2 (d + 1) (by omega) (Nat.le_refl _)
      have : j = i := zs_inj (by omega) (by omega) (by rw [← e1, ho, z])
      subst this
      obtain rfl : q = 1 := by omega
      exact ⟨x, f, e3⟩
    · rcases h3 (d + 1) (Nat.le_refl _) with e | ⟨j, q, x, f, hj, e1, e2, e3, e4⟩
      · rw [e] at z; exact absurd z.symm (zz_nm (by omega))
      · have : j = i := zs_inj (by omega) (by omega) (by rw [← e1, z])
        subst this
        obtain rfl : q = 1 := by omega
        exact ⟨x, f, e3⟩
  refine ⟨?_, ?_, ?_, ?_, by omega, by omega⟩
  · intro i hi hk' q x a f t e
    have hi : i < n := by
      have : i ≠ n := fun z => by rw [z] at hk'; omega
      omega
    rcases hwi : w i with ⟨q0, y0, a0, f0, t0⟩
    have p := h1 i hi hk' q0 y0 a0 f0 t0 hwi
    rw [hw' i hi hk', hwi] at e
    have e : (if (a0 && !t0) = true then q0 - 1 else q0, y0, if (a0 && !t0) = true then decide (q0 ≠ 1) else a0, f0, t0) = (q, x, a, f, t) := e
    simp only [Prod.mk.injEq] at e
    obtain ⟨eq, rfl, ea, rfl, rfl⟩ := e
    rcases p with ⟨rfl, p1, p2, p3, p4⟩ | ⟨rfl, rfl, p1, p2, p3, p4, p5, p6⟩ | ⟨rfl, rfl, p1, p2, p3, p4, k, p5, p6⟩
    · have nn : ¬ (i = i1 ∨ sb (d + 1) = nI i) := fun z => by
        obtain ⟨x', f', e'⟩ := L2 i hi hk' z
        rw [hwi] at e'; simp at e'
      obtain ⟨r1, r2⟩ := g2 i hi (fun z => nn (Or.inl z)) (fun z => nn (Or.inr z))
      exact Or.inl ⟨rfl, p1, p2, by rw [r1]; exact p3, by rw [r2]; exact p4⟩
    · have eq : q0 - 1 = q := eq
      have ea : decide (q0 ≠ 1) = a := ea
      subst eq ea
      by_cases hq : q0 = 1
      · subst hq
        obtain ⟨r1, r2, r3⟩ := g1 i hi (L1 i hi hk' _ _ hwi)
        refine Or.inr (Or.inr ⟨rfl, rfl, p1, p2, r1, ?_, r3⟩)
        rw [r2]
        congr 1
        cases f0
        · exact decide_eq_false (fun z => absurd (p4.mpr z) (by decide))
        · exact decide_eq_true (p4.mp rfl)
      · have nn : ¬ (i = i1 ∨ sb (d + 1) = nI i) := fun z => by
          obtain ⟨x', f', e'⟩ := L2 i hi hk' z
          rw [hwi] at e'
          simp only [Prod.mk.injEq] at e'
          exact hq e'.1
        obtain ⟨r1, r2⟩ := g2 i hi (fun z => nn (Or.inl z)) (fun z => nn (Or.inr z))
        refine Or.inr (Or.inl ⟨rfl, decide_eq_true hq, p1, p2, by rw [r1]; exact p3, p4, by omega, ?_⟩)
        rw [show d + 1 - (q0 - 1) = d + 1 + 1 - q0 from by omega]
        rcases p6 with ⟨z1, z2, z3⟩ | ⟨z1, z2, z3⟩
        · exact Or.inl ⟨z1, by omega, z3⟩
        · exact Or.inr ⟨z1, by omega, z3⟩
    · have nn : ¬ (i = i1 ∨ sb (d + 1) = nI i) := fun z => by
        obtain ⟨x', f', e'⟩ := L2 i hi hk' z
        rw [hwi] at e'; simp at e'
      obtain ⟨r1, r2⟩ := g2 i hi (fun z => nn (Or.inl z)) (fun z => nn (Or.inr z))
      have ea : false = a := ea
      exact Or.inr (Or.inr ⟨rfl, ea.symm, p1, p2, by rw [r1]; exact p3, by rw [r2]; exact p4, k, by omega, by rw [g3 k p5]; exact p6⟩)
  · intro l h1l hl
    obtain ⟨i, q, x, f, hi, e1, e2, e3, e4⟩ := h2 l h1l (by omega)
    refine ⟨i, q - 1, x, f, by omega, e1, e2, ?_, by omega⟩
    rw [hw' i hi (Or.inr e2), e3]
    show (q - 1, x, decide (q ≠ 1), f, false) = _
    rw [decide_eq_true (by omega)]
  · intro l hl
    rcases h3 l (by omega) with e | ⟨i, q, x, f, hi, e1, e2, e3, e4⟩
    · exact Or.inl e
    · refine Or.inr ⟨i, q - 1, x, f, by omega, e1, e2, ?_, by omega⟩
      rw [hw' i hi (Or.inl e2), e3]
      show (q - 1, x, decide (q ≠ 1), f, false) = _
      rw [decide_eq_true (by omega)]
  · intro k hk
    by_cases hkt : k < tc
    · obtain ⟨i, q, x, f, hi, e1, e2, e3⟩ := h4 k hkt
      exact ⟨i, q, x, f, by omega, by rw [g3 k hkt]; exact e1, e2, by rw [hw' i hi e2, e3]; rfl⟩
    · rcases g5 k (by omega) hk with z | ⟨z1, z2⟩
      · obtain ⟨j, q, x, f, hj, e1, e2, e3, e4⟩ := h2 (d + 1) (by omega) (Nat.le_refl _)
        obtain rfl : q = 1 := by omega
        exact ⟨j, 0, x, f, by omega, by rw [z, ← ho]; exact e1, Or.inr e2, by rw [hw' j hj (Or.inr e2), e3]; rfl⟩
      · rcases h3 (d + 1) (Nat.le_refl _) with e | ⟨j, q, x, f, hj, e1, e2, e3, e4⟩
        · exact absurd e z1
        · obtain rfl : q = 1 := by omega
          exact ⟨j, 0, x, f, by omega, by rw [z2]; exact e1, Or.inl e2, by rw [hw' j hj (Or.inl e2), e3]; rfl⟩
end
end
section
/-! what was printed: groups, lines, cells -/
def zx_fill (ce : Nat → Int32) (z m : Nat) (v : Int32) : Nat → Int32 := fun j => if z ≤ j ∧ j < z + m then v else ce j
theorem zx_fill0 {ce : Nat → Int32} {z : Nat} {v : Int32} : zx_fill ce z 0 v = ce := by
  funext j
  unfold zx_fill
  rw [if_neg (by omega)]
theorem zx_fillS {ce : Nat → Int32} {z m : Nat} {v : Int32} : upd (zx_fill ce z m v) (z + m) v = zx_fill ce z (m + 1) v := by
  funext j
  unfold upd zx_fill
  by_cases h : j = z + m
  · rw [if_pos h, if_pos (by omega)]
  · rw [if_neg h]
    by_cases h2 : z ≤ j ∧ j < z + m
    · rw [if_pos h2, if_pos (by omega)]
    · rw [if_neg h2, if_neg (by omega)]
theorem zx_fill_n {ce : Nat → Int32} {z m j : Nat} {v : Int32} (h : j < z) : zx_fill ce z m v j = ce j := if_neg (by omega)
theorem zx_fill_i {ce : Nat → Int32} {z m j : Nat} {v : Int32} (h : z ≤ j) (h2 : j < z + m) : zx_fill ce z m v j = v := if_pos ⟨h, h2⟩
/-- the group stack: G p is the OPEN item at place p -/
def zg_Gr (K A G : Nat → Nat) (o g : Nat) (gs gm gd mo ym : Nat → Int32) : Prop :=
  g = zd_dep K o ∧ (∀ q, zd_inn K o q = if q < g then nI (G (g - q)) else -1) ∧
  (∀ p, 1 ≤ p → p ≤ g → G p < o ∧ gs p = nI (A (G p)) ∧ gm p = ym (G p) ∧ gd p = mo (G p)) ∧
  gs 0 = 1 ∧ gm 0 = 0 ∧ gd 0 = 3
/-- a TEXT j printed over place q of line p -/
def zl_mt (K B AL AC : Nat → Nat) (j p q : Nat) : Prop := K j = 0 ∧ AL j = p ∧ AC j ≤ q ∧ q < AC j + B j
def zl_Ln (K A B S AL AC : Nat → Nat) (o l c z : Nat) (ce ls mo al ac : Nat → Int32) : Prop :=
  (∀ j, j < o → al j = nI (AL j) ∧ ac j = nI (AC j) ∧ AL j ≤ l ∧ AC j ≤ z) ∧
  (∀ p, p ≤ l → ls p = nI (S p) ∧ S p ≤ z) ∧ S l + c = z ∧
  (∀ j, j < o → K j = 1 ∨ K j = 2 → mo j = 3 → AL j < l ∧ S (AL j) + AC j = S (AL j + 1)) ∧
  (∀ p, p < l → ∃ j, j < o ∧ (K j = 1 ∨ K j = 2) ∧ mo j = 3 ∧ AL j = p) ∧
  (∀ j, j < o → K j = 0 → AL j = l → AC j + B j ≤ c) ∧
  (∀ p q, (p < l ∧ S p + q < S (p + 1)) ∨ (p = l ∧ q < c) →
    (∀ j, j < o → zl_mt K B AL AC j p q → ce (S p + q) = nI (A j)) ∧ ((∀ j, j < o → ¬ zl_mt K B AL AC j p q) → ce (S p + q) = 32)) ∧
  z ≤ 39 * o ∧ l ≤ o
theorem zg_0 {K A G : Nat → Nat} {gs gm gd mo ym : Nat → Int32} (h1 : gs 0 = 1) (h2 : gm 0 = 0) (h3 : gd 0 = 3) : zg_Gr K A G 0 0 gs gm gd mo ym :=
  ⟨rfl, fun q => by rw [if_neg (by omega)]; rfl, fun p h h' => by omega, h1, h2, h3⟩
theorem zl_0 {K A B S AL AC : Nat → Nat} {ce ls mo al ac : Nat → Int32} (h : ls 0 = 0) : zl_Ln K A B (fun _ => 0) AL AC 0 0 0 0 ce ls mo al ac :=
  ⟨fun j h => by omega, fun p hp => by
    obtain rfl : p = 0 := by omega
    exact ⟨h, Nat.le_refl 0⟩, rfl, fun j h => by omega, fun p h => by omega, fun j h => by omega, fun p q h => by omega, by omega, by omega⟩
theorem zg_c {K K' A A' G : Nat → Nat} {o g : Nat} {gs gm gd mo ym : Nat → Int32} (hK : ∀ j, j < o → K' j = K j) (hA : ∀ j, j < o → A' j = A j)
    (h : zg_Gr K A G o g gs gm gd mo ym) : zg_Gr K' A' G o g gs gm gd mo ym := by
  obtain ⟨h1, h2, h3, h4⟩ := h
  refine ⟨by rw [zd_dep_c o hK]; exact h1, fun q => by rw [zd_inn_c o hK]; exact h2 q, fun p hp hg => ?_, h4⟩
  obtain ⟨e1, e2, e3⟩ := h3 p hp hg
  exact ⟨e1, by rw [hA _ e1]; exact e2, e3⟩
theorem zl_c {K K' A A' B B' S AL AC : Nat → Nat} {o l c z : Nat} {ce ls mo al ac : Nat → Int32} (hK : ∀ j, j < o → K' j = K j) (hA : ∀ j, j < o → A' j = A j) (hB : ∀ j, j < o → B' j = B j)
    (h : zl_Ln K A B S AL AC o l c z ce ls mo al ac) : zl_Ln K' A' B' S AL AC o l c z ce ls mo al ac := by
  obtain ⟨h1, h2, h3, h4, h5, h6, h7, h8⟩ := h
  have mt : ∀ j p q, j < o → (zl_mt K' B' AL AC j p q ↔ zl_mt K B AL AC j p q) := fun j p q hj => by
    unfold zl_mt
    rw [hK j hj, hB j hj]
  refine ⟨h1, h2, h3, ?_, ?_, ?_, ?_, h8⟩
  · intro j hj hk
    rw [hK j hj] at hk
    exact h4 j hj hk
  · intro p hp
    obtain ⟨j, hj, e1, e2⟩ := h5 p hp
    exact ⟨j, hj, by rw [hK j hj]; exact e1, e2⟩
  · intro j hj hk
    rw [hK j hj] at hk
    rw [hB j hj]
    exact h6 j hj hk
  · intro p q hpq
    obtain ⟨e1, e2⟩ := h7 p q hpq
    refine ⟨fun j hj hm => ?_, fun hh => e2 fun j hj hm => hh j hj ((mt j p q hj).mpr hm)⟩
    rw [hA j hj]
    exact e1 j hj ((mt j p q hj).mp hm)
/-! groups: one more emitted item -/
section
variable {K A G : Nat → Nat} {o g : Nat} {gs gm gd mo ym : Nat → Int32}
theorem zg_none (h : zg_Gr K A G o g gs gm gd mo ym) (h3 : K o ≠ 3) (h4 : K o ≠ 4) (md : Int32) : zg_Gr K A G (o + 1) g gs gm gd (upd mo o md) ym := by
  obtain ⟨e1, e2, e3, e4⟩ := h
  refine ⟨?_, ?_, ?_, e4⟩
  · show g = if K o = 3 then _ else if K o = 4 then _ else zd_dep K o
    rw [if_neg h3, if_neg h4]
    exact e1
  · intro q
    show (if K o = 4 then _ else if K o = 3 then _ else zd_inn K o q) = _
    rw [if_neg h4, if_neg h3]
    exact e2 q
  · intro p hp hg
    obtain ⟨z1, z2, z3, z4⟩ := e3 p hp hg
    exact ⟨by omega, z2, z3, by rw [pk_un (by omega)]; exact z4⟩
theorem zg_close (h : zg_Gr K A G o g gs gm gd mo ym) (h4 : K o = 4) (md : Int32) : zg_Gr K A G (o + 1) (g - 1) gs gm gd (upd mo o md) ym := by
  obtain ⟨e1, e2, e3, e4⟩ := h
  refine ⟨?_, ?_, ?_, e4⟩
  · show g - 1 = if K o = 3 then _ else if K o = 4 then zd_dep K o - 1 else _
    rw [if_neg (by omega), if_pos h4, e1]
  · intro q
    show (if K o = 4 then zd_inn K o (q + 1) else _) = _
    rw [if_pos h4, e2 (q + 1)]
    by_cases hq : q + 1 < g
    · rw [if_pos hq, if_pos (by omega), show g - (q + 1) = g - 1 - q from by omega]
    · rw [if_neg hq, if_neg (by omega)]
  · intro p hp hg
    obtain ⟨z1, z2, z3, z4⟩ := e3 p hp (by omega)
    exact ⟨by omega, z2, z3, by rw [pk_un (by omega)]; exact z4⟩
theorem zg_open (h : zg_Gr K A G o g gs gm gd mo ym) (h3 : K o = 3) (md mg : Int32) :
    zg_Gr K A (zn_u G (g + 1) o) (o + 1) (g + 1) (upd gs (g + 1) (nI (A o))) (upd gm (g + 1) mg) (upd gd (g + 1) md) (upd mo o md) (upd ym o mg) := by
  obtain ⟨e1, e2, e3, e4, e5, e6⟩ := h
  refine ⟨?_, ?_, ?_, by rw [pk_un (by omega)]; exact e4, by rw [pk_un (by omega)]; exact e5, by rw [pk_un (by omega)]; exact e6⟩
  · show g + 1 = if K o = 3 then zd_dep K o + 1 else _
    rw [if_pos h3, e1]
  · intro q
    show (if K o = 4 then _ else if K o = 3 then (if q = 0 then nI o else zd_inn K o (q - 1)) else _) = _
    rw [if_neg (by omega), if_pos h3]
    by_cases hq : q = 0
    · rw [if_pos hq, hq, if_pos (by omega), show g + 1 - 0 = g + 1 from rfl, zn_us]
    · rw [if_neg hq, e2 (q - 1)]
      by_cases hg : q - 1 < g
      · rw [if_pos hg, if_pos (by omega), zn_un (by omega), show g - (q - 1) = g + 1 - q from by omega]
      · rw [if_neg hg, if_neg (by omega)]
  · intro p hp hg
    by_cases hpg : p = g + 1
    · subst hpg
      rw [zn_us, pk_us, pk_us, pk_us, pk_us, pk_us]
      exact ⟨by omega, rfl, rfl, rfl⟩
    · obtain ⟨z1, z2, z3, z4⟩ := e3 p hp (by omega)
      rw [zn_un hpg, pk_un hpg, pk_un hpg, pk_un hpg, pk_un (by omega), pk_un (by omega)]
      exact ⟨by omega, z2, z3, z4⟩
end
/-! lines: one more emitted item -/
section
variable {K A B S AL AC : Nat → Nat} {o l c z : Nat} {ce ls mo al ac : Nat → Int32}
/-- an item that begins no line prints m cells of v -/
theorem zl_put (h : zl_Ln K A B S AL AC o l c z ce ls mo al ac) {m : Nat} {v md : Int32} (hm : m ≤ 39)
    (hv : (K o = 0 ∧ m = B o ∧ v = nI (A o)) ∨ (K o ≠ 0 ∧ v = 32 ∧ ((K o = 1 ∨ K o = 2) → md ≠ 3))) :
    zl_Ln K A B S (zn_u AL o l) (zn_u AC o c) (o + 1) l (c + m) (z + m) (zx_fill ce z m v) ls (upd mo o md) (upd al o (nI l)) (upd ac o (nI c)) := by
  obtain ⟨h1, h2, h3, h4, h5, h6, h7, h8, h9⟩ := h
  refine ⟨?_, ?_, by omega, ?_, ?_, ?_, ?_, by omega, by omega⟩
  · intro j hj
    by_cases e : j = o
    · rw [e, pk_us, pk_us, zn_us, zn_us]
      exact ⟨rfl, rfl, Nat.le_refl _, by omega⟩
    · rw [pk_un e, pk_un e, zn_un e, zn_un e]
      obtain ⟨z1, z2, z3, z4⟩ := h1 j (by omega)
      exact ⟨z1, z2, z3, by omega⟩
  · intro p hp
    obtain ⟨z1, z2⟩ := h2 p hp
    exact ⟨z1, by omega⟩
  · intro j hj hk hm3
    by_cases e : j = o
    · subst e
      rw [pk_us] at hm3
      rcases hv with hv | hv
      · omega
      · exact absurd hm3 (hv.2.2 hk)
    · rw [pk_un e] at hm3
      rw [zn_un e, zn_un e]
      exact h4 j (by omega) hk hm3
  · intro p hp
    obtain ⟨j, hj, e1, e2, e3⟩ := h5 p hp
    exact ⟨j, by omega, e1, by rw [pk_un (by omega)]; exact e2, by rw [zn_un (by omega)]; exact e3⟩
  · intro j hj hk hl
    by_cases e : j = o
    · subst e
      rw [zn_us]
      rcases hv with hv | hv
      · omega
      · exact absurd hk hv.1
    · rw [zn_un e] at hl ⊢
      have := h6 j (by omega) hk hl
      omega
  · intro p q hpq
    by_cases old : (p < l ∧ S p + q < S (p + 1)) ∨ (p = l ∧ q < c)
    · obtain ⟨e1, e2⟩ := h7 p q old
      have hz : S p + q < z := by
        rcases old with ⟨a1, a2⟩ | ⟨a1, a2⟩
        · have := (h2 (p + 1) (by omega)).2
          omega
        · subst a1; omega
      rw [zx_fill_n hz]
      refine ⟨fun j hj hmt => ?_, fun hh => e2 fun j hj hmt => hh j (by omega) ?_⟩
      · by_cases e : j = o
        · subst e
          unfold zl_mt at hmt
          rw [zn_us, zn_us] at hmt
          omega
        · unfold zl_mt at hmt
          rw [zn_un e, zn_un e] at hmt
          exact e1 j (by omega) hmt
      · unfold zl_mt at hmt ⊢
        rw [zn_un (by omega), zn_un (by omega)]
        exact hmt
    · have hp : p = l ∧ c ≤ q ∧ q < c + m := by omega
      obtain ⟨rfl, hq1, hq2⟩ := hp
      rw [zx_fill_i (by omega) (by omega)]
      have no : ∀ j, j < o → ¬ zl_mt K B (zn_u AL o p) (zn_u AC o c) j p q := fun j hj hmt => by
        unfold zl_mt at hmt
        rw [zn_un (by omega), zn_un (by omega)] at hmt
        have := h6 j hj hmt.1 hmt.2.1
        omega
      refine ⟨fun j hj hmt => ?_, fun hh => ?_⟩
      · by_cases e : j = o
        · subst e
          rcases hv with hv | hv
          · exact hv.2.2
          · exact absurd hmt.1 hv.1
        · exact absurd hmt (no j (by omega))
      · rcases hv with hv | hv
        · refine absurd ?_ (hh o (by omega))
          unfold zl_mt
          rw [zn_us, zn_us]
          omega
        · exact hv.2.1
/-- a broken break: a new line with m blanks -/
theorem zl_line (h : zl_Ln K A B S AL AC o l c z ce ls mo al ac) {m : Nat} (hm : m ≤ 39) (hk : K o = 1 ∨ K o = 2) :
    zl_Ln K A B (zn_u S (l + 1) z) (zn_u AL o l) (zn_u AC o c) (o + 1) (l + 1) m (z + m) (zx_fill ce z m 32) (upd ls (l + 1) (nI z)) (upd mo o 3) (upd al o (nI l)) (upd ac o (nI c)) := by
  obtain ⟨h1, h2, h3, h4, h5, h6, h7, h8, h9⟩ := h
  refine ⟨?_, ?_, by rw [zn_us], ?_, ?_, ?_, ?_, by omega, by omega⟩
  · intro j hj
    by_cases e : j = o
    · rw [e, pk_us, pk_us, zn_us, zn_us]
      exact ⟨rfl, rfl, by omega, by omega⟩
    · rw [pk_un e, pk_un e, zn_un e, zn_un e]
      obtain ⟨z1, z2, z3, z4⟩ := h1 j (by omega)
      exact ⟨z1, z2, by omega, by omega⟩
  · intro p hp
    by_cases e : p = l + 1
    · rw [e, pk_us, zn_us]
      exact ⟨rfl, by omega⟩
    · rw [pk_un e, zn_un e]
      obtain ⟨z1, z2⟩ := h2 p (by omega)
      exact ⟨z1, by omega⟩
  · intro j hj hk' hm3
    by_cases e : j = o
    · rw [e, zn_us, zn_us, zn_us, zn_un (by omega)]
      omega
    · rw [pk_un e] at hm3
      rw [zn_un e, zn_un e]
      obtain ⟨z1, z2⟩ := h4 j (by omega) hk' hm3
      rw [zn_un (by omega), zn_un (by omega)]
      omega
  · intro p hp
    by_cases e : p = l
    · exact ⟨o, by omega, hk, pk_us, by rw [zn_us, e]⟩
    · obtain ⟨j, hj, e1, e2, e3⟩ := h5 p (by omega)
      exact ⟨j, by omega, e1, by rw [pk_un (by omega)]; exact e2, by rw [zn_un (by omega)]; exact e3⟩
  · intro j hj hk' hl
    by_cases e : j = o
    · rw [e, zn_us] at hl
      omega
    · rw [zn_un e] at hl
      have := (h1 j (by omega)).2.2.1
      omega
  · intro p q hpq
    by_cases hp : p = l + 1
    · subst hp
      have hq : q < m := by omega
      rw [zn_us, zx_fill_i (by omega) (by omega)]
      refine ⟨fun j hj hmt => ?_, fun _ => rfl⟩
      unfold zl_mt at hmt
      by_cases e : j = o
      · rw [e, zn_us] at hmt
        omega
      · rw [zn_un e] at hmt
        have := (h1 j (by omega)).2.2.1
        omega
    · have hpl : p < l + 1 := by omega
      rw [zn_un hp]
      have old : (p < l ∧ S p + q < S (p + 1)) ∨ (p = l ∧ q < c) := by
        by_cases e : p = l
        · subst e
          rw [zn_us, zn_un (by omega)] at hpq
          omega
        · rw [zn_un (by omega), zn_un (by omega)] at hpq
          omega
      obtain ⟨e1, e2⟩ := h7 p q old
      have hz : S p + q < z := by
        rcases old with ⟨a1, a2⟩ | ⟨a1, a2⟩
        · have := (h2 (p + 1) (by omega)).2
          omega
        · subst a1; omega
      rw [zx_fill_n hz]
      refine ⟨fun j hj hmt => ?_, fun hh => e2 fun j hj hmt => hh j (by omega) ?_⟩
      · by_cases e : j = o
        · rw [e] at hmt
          unfold zl_mt at hmt
          omega
        · unfold zl_mt at hmt
          rw [zn_un e, zn_un e] at hmt
          exact e1 j (by omega) hmt
      · unfold zl_mt at hmt ⊢
        rw [zn_un (by omega), zn_un (by omega)]
        exact hmt
end
end
section
/-! the component: clamp and the scanner, a lemma a method -/
def zx_cl (a lo hi : Int32) : Int32 := if lo ≤ a then (if a ≤ hi then a else hi) else lo
theorem zx_clN (x : Int32) (M : Nat) (hM : M < 2 ^ 31) : ∃ m, m ≤ M ∧ zx_cl x 0 (nI M) = nI m := by
  unfold zx_cl
  by_cases h : 0 ≤ x
  · rw [if_pos h]
    by_cases h2 : x ≤ nI M
    · rw [if_pos h2]
      obtain ⟨j, hj, rfl⟩ := nI_of (x := x) (Int32.not_lt.mpr h)
      exact ⟨j, (nI_leI hj hM).mp h2, rfl⟩
    · rw [if_neg h2]
      exact ⟨M, Nat.le_refl _, rfl⟩
  · rw [if_neg h]
    exact ⟨0, Nat.zero_le _, rfl⟩
theorem zz_v {α : Sort _} {P : α → Prop} {a b : α} (e : a = b) (h : P b) : P a := by rw [e]; exact h
section
variable {xw xl xm xn xo xe xt xd xk xh xi xc xg xz : Int32} {cd bf re ns fc so sb tl gs gm gd ce ls mo al ac : Nat → Int32}
theorem zx_clamp {post : Int32 → Prop} {p0 p1 p2 : Int32} (h : post (zx_cl p0 p1 p2)) : wpX_clamp post (xw, xl, xm, xn, xo, xe, xt, xd, xk, xh, xi, xc, xg, xz, cd, bf, re, ns, fc, so, sb, tl, gs, gm, gd, ce, ls, mo, al, ac) p0 p1 p2 := by
  unfold zx_cl at h
  by_cases h1 : p1 ≤ p0
  · rw [if_pos h1] at h
    by_cases h2 : p0 ≤ p2
    · rw [if_pos h2] at h; exact br_t h1 (br_t h2 h)
    · rw [if_neg h2] at h; exact br_t h1 (br_f h2 h)
  · rw [if_neg h1] at h; exact br_f h1 h
theorem zx_leave {post : SX → Prop} {i H : Nat} (hi : i < 256) (hH : H ≤ 256) (h : post (xw, xl, xm, xn, xo, xe, xt, xd, xk, zz_p H, xi, xc, xg, xz, cd, bf, re, upd ns i 0, upd fc i (zz_b (decide (i + 1 < H))), so, sb, tl, gs, gm, gd, ce, ls, mo, al, ac)) : wpX_leaveInside post (xw, xl, xm, xn, xo, xe, xt, xd, xk, zz_p H, xi, xc, xg, xz, cd, bf, re, ns, fc, so, sb, tl, gs, gm, gd, ce, ls, mo, al, ac) (nI i) := by
  have e : (nI i).toNatClampNeg = i := nI_clamp (by omega)
  have w : vp_in (nI i) 256 := vp_in_nI hi (by decide)
  refine ⟨w, nm_r (e' := upd ns i 0) (by rw [e]; rfl) ?_⟩
  by_cases hc : H ≤ i + 1
  · rw [decide_eq_false (show ¬ i + 1 < H by omega)] at h
    exact br_t ((zz_pLe (by omega) (by omega)).mpr hc) ⟨w, nm_r (e' := upd fc i 0) (by rw [e]; rfl) h⟩
  · rw [decide_eq_true (show i + 1 < H by omega)] at h
    exact br_f (fun z => hc ((zz_pLe (by omega) (by omega)).mp z)) ⟨w, nm_r (e' := upd fc i 1) (by rw [e]; rfl) h⟩
theorem zx_endL {post : SX → Prop} {tc : Nat} (htc : tc ≤ 256) (htl : ∀ k, k < tc → ∃ i, i < 256 ∧ tl k = nI i)
    (hx : ∀ f, wX_endSections_2 post xw xl xm xn xo xe xt xd (nI tc) xh xi xc xg xz (f + 1) (nI tc) cd bf (zx_tw tl xt re tc) ns fc so sb tl gs gm gd ce ls mo al ac) :
    ∀ q k, k + q = tc → ∀ f, q < f → wX_endSections_2 post xw xl xm xn xo xe xt xd (nI tc) xh xi xc xg xz f (nI k) cd bf (zx_tw tl xt re k) ns fc so sb tl gs gm gd ce ls mo al ac := by
  intro q
  induction q with
  | zero =>
    intro k hk f hf
    obtain ⟨f, rfl⟩ : ∃ f', f = f' + 1 := ⟨f - 1, by omega⟩
    obtain rfl : k = tc := by omega
    exact hx f
  | succ q ih =>
    intro k hk f hf
    obtain ⟨f, rfl⟩ : ∃ f', f = f' + 1 := ⟨f - 1, by omega⟩
    obtain ⟨i, hi, et⟩ := htl k (by omega)
    have e : (nI k).toNatClampNeg = k := nI_clamp (by omega)
    refine br_f (nI_ge (by omega) (by omega)) ⟨vp_in_nI (by omega) (by decide), ?_⟩
    rw [e]
    refine ⟨by rw [et]; exact vp_in_nI hi (by decide), nm_e (nm_r (nI_1 k) ?_)⟩
    exact ih (k + 1) (by omega) f (by omega)
theorem zx_end0 {post : SX → Prop} {tc d : Nat} (htc : tc ≤ 256) (htl : ∀ k, k < tc → ∃ i, i < 256 ∧ tl k = nI i) (hd : d < 17) (hs : sb d = -1)
    (h : post (xw, xl, xm, xn, xo, xe, xt, nI d, 0, xh, xi, xc, xg, xz, cd, bf, zx_tw tl xt re tc, ns, fc, so, sb, tl, gs, gm, gd, ce, ls, mo, al, ac)) : wpX_endSections post (xw, xl, xm, xn, xo, xe, xt, nI d, nI tc, xh, xi, xc, xg, xz, cd, bf, re, ns, fc, so, sb, tl, gs, gm, gd, ce, ls, mo, al, ac) := by
  refine ⟨tc + 1, zx_endL htc htl (fun f => ?_) tc 0 (Nat.zero_add tc) (tc + 1) (Nat.lt_succ_self tc)⟩
  refine br_t (nI_le (Nat.le_refl _) (by omega)) ⟨vp_in_nI hd (by decide), nm_r (e' := -1) (by rw [nI_clamp (by omega)]; exact hs) (br_t (by decide) h)⟩
theorem zx_end1 {post : SX → Prop} {tc d s H : Nat} (htc : tc ≤ 256) (htl : ∀ k, k < tc → ∃ i, i < 256 ∧ tl k = nI i) (hd : d < 17) (hs : sb d = nI s) (hsn : s < 256) (hH : H ≤ 256)
    (h : post (xw, xl, xm, xn, xo, xe, xt, nI d, 0, zz_p H, xi, xc, xg, xz, cd, bf, upd (zx_tw tl xt re tc) s xt, upd ns s 0, upd fc s (zz_b (decide (s + 1 < H))), so, upd sb d (-1), tl, gs, gm, gd, ce, ls, mo, al, ac)) : wpX_endSections post (xw, xl, xm, xn, xo, xe, xt, nI d, nI tc, zz_p H, xi, xc, xg, xz, cd, bf, re, ns, fc, so, sb, tl, gs, gm, gd, ce, ls, mo, al, ac) := by
  have e : (nI s).toNatClampNeg = s := nI_clamp (by omega)
  have ed : (nI d).toNatClampNeg = d := nI_clamp (by omega)
  have w : vp_in (nI d) 17 := vp_in_nI hd (by decide)
  refine ⟨tc + 1, zx_endL htc htl (fun f => ?_) tc 0 (Nat.zero_add tc) (tc + 1) (Nat.lt_succ_self tc)⟩
  refine br_t (nI_le (Nat.le_refl _) (by omega)) ⟨w, nm_r (e' := nI s) (by rw [ed]; exact hs) (br_f (nI_pos (by omega)) ?_)⟩
  refine zx_leave hsn hH ⟨vp_in_nI hsn (by decide), nm_r (e' := upd (zx_tw tl xt re tc) s xt) (by rw [e]) ⟨w, nm_r (e' := upd sb d (-1)) (by rw [ed]) h⟩⟩
theorem zx_begin {post : SX → Prop} {i : Nat} (hi : i < 256) (h : post (xw, xl, xm, xn, xo, xe, xt, xd, xk, xh, xi, xc, xg, xz, cd, bf, upd re i (-1), upd ns i 1, upd fc i 0, so, sb, tl, gs, gm, gd, ce, ls, mo, al, ac)) : wpX_beginRange post (xw, xl, xm, xn, xo, xe, xt, xd, xk, xh, xi, xc, xg, xz, cd, bf, re, ns, fc, so, sb, tl, gs, gm, gd, ce, ls, mo, al, ac) (nI i) := by
  have e : (nI i).toNatClampNeg = i := nI_clamp (by omega)
  have w : vp_in (nI i) 256 := vp_in_nI hi (by decide)
  exact ⟨w, nm_r (e' := upd re i (-1)) (by rw [e]) ⟨w, nm_r (e' := upd ns i 1) (by rw [e]; rfl) ⟨w, nm_r (e' := upd fc i 0) (by rw [e]; rfl) h⟩⟩⟩
theorem zx_tail {post : SX → Prop} {i H tc : Nat} (hi : i < 256) (hH : H ≤ 256) (htc : tc < 256)
    (h : post (xw, xl, xm, xn, xo, xe, xt, xd, nI (tc + 1), zz_p H, xi, xc, xg, xz, cd, bf, re, upd ns i 0, upd fc i (zz_b (decide (i + 1 < H))), so, sb, upd tl tc (nI i), gs, gm, gd, ce, ls, mo, al, ac)) : wpX_moveToTail post (xw, xl, xm, xn, xo, xe, xt, xd, nI tc, zz_p H, xi, xc, xg, xz, cd, bf, re, ns, fc, so, sb, tl, gs, gm, gd, ce, ls, mo, al, ac) (nI i) := by
  have e : (nI tc).toNatClampNeg = tc := nI_clamp (by omega)
  unfold wpX_moveToTail
  refine zx_leave hi hH ?_
  exact br_f (nI_ge (b := 256) htc (by decide)) ⟨vp_in_nI htc (by decide), nm_r (e' := upd tl tc (nI i)) (by rw [e]) (nm_r (nI_1 tc) h)⟩
theorem zx_scan0 {post : SX → Prop} {i : Int32} (h : post (xw, xl, xm, xn, xo, xe, xt, xd, xk, xh, xi, xc, xg, xz, cd, bf, re, ns, fc, so, sb, tl, gs, gm, gd, ce, ls, mo, al, ac)) : wpX_scan post (xw, xl, xm, xn, xo, xe, xt, xd, xk, xh, xi, xc, xg, xz, cd, bf, re, ns, fc, so, sb, tl, gs, gm, gd, ce, ls, mo, al, ac) i 0 :=
  br_f (by decide) (br_f (by decide) (br_f (by decide) (br_f (by decide) h)))
theorem zx_scan1_0 {post : SX → Prop} {tc d n : Nat} (htc : tc ≤ 256) (htl : ∀ k, k < tc → ∃ i, i < 256 ∧ tl k = nI i) (hd : d < 17) (hs : sb d = -1) (hn : n < 256)
    (h : post (xw, xl, xm, xn, xo, xe, xt, nI d, 0, xh, xi, xc, xg, xz, cd, bf, upd (zx_tw tl xt re tc) n (-1), upd ns n 1, upd fc n 0, so, upd sb d (nI n), tl, gs, gm, gd, ce, ls, mo, al, ac)) : wpX_scan post (xw, xl, xm, xn, xo, xe, xt, nI d, nI tc, xh, xi, xc, xg, xz, cd, bf, re, ns, fc, so, sb, tl, gs, gm, gd, ce, ls, mo, al, ac) (nI n) 1 := by
  refine br_t rfl (zx_end0 htc htl hd hs (zx_begin hn ?_))
  exact ⟨vp_in_nI hd (by decide), nm_r (e' := upd sb d (nI n)) (by rw [nI_clamp (by omega)]) h⟩
theorem zx_scan1_1 {post : SX → Prop} {tc d n s H : Nat} (htc : tc ≤ 256) (htl : ∀ k, k < tc → ∃ i, i < 256 ∧ tl k = nI i) (hd : d < 17) (hs : sb d = nI s) (hsn : s < 256) (hH : H ≤ 256) (hn : n < 256)
    (h : post (xw, xl, xm, xn, xo, xe, xt, nI d, 0, zz_p H, xi, xc, xg, xz, cd, bf, upd (upd (zx_tw tl xt re tc) s xt) n (-1), upd (upd ns s 0) n 1, upd (upd fc s (zz_b (decide (s + 1 < H)))) n 0, so, upd (upd sb d (-1)) d (nI n), tl, gs, gm, gd, ce, ls, mo, al, ac)) :
    wpX_scan post (xw, xl, xm, xn, xo, xe, xt, nI d, nI tc, zz_p H, xi, xc, xg, xz, cd, bf, re, ns, fc, so, sb, tl, gs, gm, gd, ce, ls, mo, al, ac) (nI n) 1 := by
  refine br_t rfl (zx_end1 htc htl hd hs hsn hH (zx_begin hn ?_))
  exact ⟨vp_in_nI hd (by decide), nm_r (e' := upd (upd sb d (-1)) d (nI n)) (by rw [nI_clamp (by omega)]) h⟩
theorem zx_scan2_0 {post : SX → Prop} {tc d : Nat} {i : Int32} (htc : tc ≤ 256) (htl : ∀ k, k < tc → ∃ i, i < 256 ∧ tl k = nI i) (hd : d < 17) (hs : sb d = -1)
    (h : post (xw, xl, xm, xn, xo, xe, xt, nI d, 0, i, xi, xc, xg, xz, cd, bf, zx_tw tl xt re tc, ns, fc, so, sb, tl, gs, gm, gd, ce, ls, mo, al, ac)) : wpX_scan post (xw, xl, xm, xn, xo, xe, xt, nI d, nI tc, xh, xi, xc, xg, xz, cd, bf, re, ns, fc, so, sb, tl, gs, gm, gd, ce, ls, mo, al, ac) i 2 :=
  br_f (by decide) (br_t rfl (zx_end0 htc htl hd hs h))
theorem zx_scan2_1 {post : SX → Prop} {tc d s H : Nat} {i : Int32} (htc : tc ≤ 256) (htl : ∀ k, k < tc → ∃ i, i < 256 ∧ tl k = nI i) (hd : d < 17) (hs : sb d = nI s) (hsn : s < 256) (hH : H ≤ 256)
    (h : post (xw, xl, xm, xn, xo, xe, xt, nI d, 0, i, xi, xc, xg, xz, cd, bf, upd (zx_tw tl xt re tc) s xt, upd ns s 0, upd fc s (zz_b (decide (s + 1 < H))), so, upd sb d (-1), tl, gs, gm, gd, ce, ls, mo, al, ac)) : wpX_scan post (xw, xl, xm, xn, xo, xe, xt, nI d, nI tc, zz_p H, xi, xc, xg, xz, cd, bf, re, ns, fc, so, sb, tl, gs, gm, gd, ce, ls, mo, al, ac) i 2 :=
  br_f (by decide) (br_t rfl (zx_end1 htc htl hd hs hsn hH h))
theorem zx_scan3 {post : SX → Prop} {d n : Nat} (hd : d < 16) (hn : n < 256)
    (h : post (xw, xl, xm, xn, xo, xe, xt, nI (d + 1), xk, xh, xi, xc, xg, xz, cd, bf, upd re n (-1), upd ns n 1, upd fc n 0, upd so (d + 1) (nI n), upd sb (d + 1) (-1), tl, gs, gm, gd, ce, ls, mo, al, ac)) : wpX_scan post (xw, xl, xm, xn, xo, xe, xt, nI d, xk, xh, xi, xc, xg, xz, cd, bf, re, ns, fc, so, sb, tl, gs, gm, gd, ce, ls, mo, al, ac) (nI n) 3 := by
  have e : (nI (d + 1)).toNatClampNeg = d + 1 := nI_clamp (by omega)
  have w : vp_in (nI (d + 1)) 17 := vp_in_nI (by omega) (by decide)
  refine br_f (by decide) (br_f (by decide) (br_t rfl (br_f (nI_ge (b := 16) hd (by decide)) (nm_r (nI_1 d) ⟨w, nm_r (e' := upd so (d + 1) (nI n)) (by rw [e]) ⟨w, nm_r (e' := upd sb (d + 1) (-1)) (by rw [e]) ?_⟩⟩))))
  exact zx_begin hn h
theorem zx_scan4_0 {post : SX → Prop} {d i1 H tc : Nat} {i : Int32} (hd : d < 16) (ho : so (d + 1) = nI i1) (hi1 : i1 < 256) (hH : H ≤ 256) (htc : tc < 256) (hs : sb (d + 1) = -1)
    (h : post (xw, xl, xm, xn, xo, xe, xt, nI d, nI (tc + 1), zz_p H, xi, xc, xg, xz, cd, bf, re, upd ns i1 0, upd fc i1 (zz_b (decide (i1 + 1 < H))), so, sb, upd tl tc (nI i1), gs, gm, gd, ce, ls, mo, al, ac)) : wpX_scan post (xw, xl, xm, xn, xo, xe, xt, nI (d + 1), nI tc, zz_p H, xi, xc, xg, xz, cd, bf, re, ns, fc, so, sb, tl, gs, gm, gd, ce, ls, mo, al, ac) i 4 := by
  have e : (nI (d + 1)).toNatClampNeg = d + 1 := nI_clamp (by omega)
  have w : vp_in (nI (d + 1)) 17 := vp_in_nI (by omega) (by decide)
  refine br_f (by decide) (br_f (by decide) (br_f (by decide) (br_t rfl (br_f (nI_nle (by omega) (by omega)) ⟨w, ?_⟩))))
  rw [e, ho]
  refine zx_tail hi1 hH htc ⟨w, br_t (by rw [e, hs]; decide) (nm_r (nI_pred d) h)⟩
theorem zx_scan4_1 {post : SX → Prop} {d i1 i2 H tc : Nat} {i : Int32} (hd : d < 16) (ho : so (d + 1) = nI i1) (hi1 : i1 < 256) (hH : H ≤ 256) (htc : tc + 1 < 256) (hs : sb (d + 1) = nI i2) (hi2 : i2 < 256)
    (h : post (xw, xl, xm, xn, xo, xe, xt, nI d, nI (tc + 1 + 1), zz_p H, xi, xc, xg, xz, cd, bf, re, upd (upd ns i1 0) i2 0, upd (upd fc i1 (zz_b (decide (i1 + 1 < H)))) i2 (zz_b (decide (i2 + 1 < H))), so, sb, upd (upd tl tc (nI i1)) (tc + 1) (nI i2), gs, gm, gd, ce, ls, mo, al, ac)) : wpX_scan post (xw, xl, xm, xn, xo, xe, xt, nI (d + 1), nI tc, zz_p H, xi, xc, xg, xz, cd, bf, re, ns, fc, so, sb, tl, gs, gm, gd, ce, ls, mo, al, ac) i 4 := by
  have e : (nI (d + 1)).toNatClampNeg = d + 1 := nI_clamp (by omega)
  have w : vp_in (nI (d + 1)) 17 := vp_in_nI (by omega) (by decide)
  refine br_f (by decide) (br_f (by decide) (br_f (by decide) (br_t rfl (br_f (nI_nle (by omega) (by omega)) ⟨w, ?_⟩))))
  rw [e, ho]
  refine zx_tail hi1 hH (by omega) ⟨w, br_f (by rw [e, hs]; exact nI_pos (by omega)) ⟨w, ?_⟩⟩
  refine zz_v (P := fun y => wpX_moveToTail _ _ y) (show sb (nI (d + 1)).toNatClampNeg = nI i2 by rw [e, hs]) ?_
  exact zx_tail hi2 hH htc (nm_r (nI_pred d) h)
end
end
section
/-! the component: deciding and emitting -/
def zv_v (W c : Nat) (xe : Int32) (x : Nat) (f t : Bool) : Int32 := if f = true then 3 else if c + x ≤ W then (if t = true then 2 else if xe = 0 then 0 else 2) else 3
theorem zv_n {W c x : Nat} {xe : Int32} {f t : Bool} (h : ¬ zv_v W c xe x f t = 0) (h2 : ¬ zv_v W c xe x f t = 2) : zv_v W c xe x f t = 3 := by
  unfold zv_v at h h2 ⊢
  by_cases h3 : f = true
  · rw [if_pos h3]
  · rw [if_neg h3] at h h2 ⊢
    by_cases h4 : c + x ≤ W
    · rw [if_pos h4] at h h2 ⊢
      by_cases h5 : t = true
      · rw [if_pos h5] at h2; exact absurd rfl h2
      · rw [if_neg h5] at h h2 ⊢
        by_cases h6 : xe = 0
        · rw [if_pos h6] at h; exact absurd rfl h
        · rw [if_neg h6] at h2; exact absurd rfl h2
    · rw [if_neg h4]
theorem zx_dec {k a b : Nat} (hk : k ≤ 4) (ha : a ≤ 126) (hb : b ≤ 16) : nI (k * 65536 + a * 256 + b) >>> ((16 : Int32) &&& 31) = nI k ∧ (nI (k * 65536 + a * 256 + b) >>> ((8 : Int32) &&& 31)) &&& 255 = nI a ∧ nI (k * 65536 + a * 256 + b) &&& 255 = nI b := by
  refine ⟨?_, ?_, ?_⟩
  · rw [pk_shrN (by omega) _ 16 (by decide)]
    exact congrArg nI (by omega)
  · rw [pk_shrN (by omega) _ 8 (by decide), pk_andN (by omega) 8 (by decide)]
    exact congrArg nI (by omega)
  · rw [pk_andN (by omega) 8 (by decide)]
    exact congrArg nI (by omega)
theorem zx_chr {ch : Nat} (h : ch < 65536) : vp_nar .char (((nI ch).toUInt32 % 65536).toInt32) = nI ch := by
  rw [pk_vc, pk_char, pk_tn (by omega), Nat.mod_eq_of_lt h]
section
variable {xw xl xm xn xo xe xt xd xk xh xi xc xg xz : Int32} {cd bf re ns fc so sb tl gs gm gd ce ls mo al ac : Nat → Int32}
theorem zx_v74 {post : Int32 → Prop} {W c x : Nat} {f t : Bool} (hW : W ≤ 40) (hcx : c + x < 2 ^ 31) (h : post (zv_v W c xe x f t)) : wX_verdict_74 post (zz_b (!t)) (nI x) (zz_b f) (nI W) xl xm xn xo xe xt xd xk xh xi (nI c) xg xz cd bf re ns fc so sb tl gs gm gd ce ls mo al ac := by
  cases f with
  | true => exact br_f (by decide) h
  | false =>
    refine br_t rfl (pk_le (c + x) W (fun hle => ?_) (fun hlt => ?_) (nI_add c x) rfl (by omega) (by omega))
    · have e : zv_v W c xe x false t = if t = true then 2 else if xe = 0 then 0 else 2 := by
        unfold zv_v
        rw [if_neg (by decide), if_pos hle]
      rw [e] at h
      cases t with
      | true => exact br_t rfl h
      | false =>
        refine br_f (by decide) ?_
        have h : post (if xe = 0 then 0 else 2) := h
        by_cases he : xe = 0
        · rw [if_pos he] at h; exact br_t he h
        · rw [if_neg he] at h; exact br_f he h
    · have e : zv_v W c xe x false t = 3 := by
        unfold zv_v
        rw [if_neg (by decide), if_neg (by omega)]
      rw [e] at h
      exact h
theorem zx_verdict {post : Int32 → Prop} {K tt : Nat → Nat} {d T H tc W c i q x : Nat} {a f t : Bool} (hi : i < 256) (hW : W ≤ 40) (hT : T < 10000) (hc : c < 20000) (hH : H ≤ 256)
    (hb : bf i = nI (tt i)) (hp : zs_Ph K tt d T H tc re ns fc so sb tl i q x a f t)
    (h : post (zv_v W c xe x f t)) : wpX_verdict post (nI W, xl, xm, xn, xo, xe, nI T, xd, xk, zz_p H, xi, nI c, xg, xz, cd, bf, re, ns, fc, so, sb, tl, gs, gm, gd, ce, ls, mo, al, ac) (nI i) := by
  have e : (nI i).toNatClampNeg = i := nI_clamp (by omega)
  have w : vp_in (nI i) 256 := vp_in_nI hi (by decide)
  unfold wpX_verdict wX_verdict_14 wX_verdict_32
  dsimp only
  rw [e, hb]
  refine ⟨w, ?_⟩
  rcases hp with ⟨rfl, p1, p2, p3, p4⟩ | ⟨rfl, rfl, p1, p2, p3, p4, p5, p6⟩ | ⟨rfl, rfl, p1, p2, p3, p4, p5⟩
  · rw [p1, p3, p4]
    exact br_t (nI_pos' (by omega)) (br_t rfl ⟨w, w, nm_r (e' := nI x) (by rw [pk_sub (by omega)]; exact congrArg nI (by omega)) ⟨w, br_t rfl ⟨w, zx_v74 (t := true) hW (by omega) h⟩⟩⟩)
  · rw [p1, p3]
    refine br_f (by decide) (br_f (by decide) ⟨w, nm_r (e' := nI x) (by rw [pk_sub (by omega)]; exact congrArg nI (by omega)) ⟨w, br_f (by decide) ?_⟩⟩)
    by_cases hc : H ≤ i + 1
    · have hf : f = false := by
        cases f
        · rfl
        · have := p4.mp rfl; omega
      subst hf
      exact br_t ((zz_pLe (by omega) (by omega)).mpr hc) (zx_v74 (t := false) (f := false) hW (by omega) h)
    · have hf : f = true := p4.mpr (by omega)
      subst hf
      exact br_f (fun z => hc ((zz_pLe (by omega) (by omega)).mp z)) (zx_v74 (t := false) (f := true) hW (by omega) h)
  · rw [p1, p3, p4]
    exact br_f (by decide) (br_f (by decide) ⟨w, nm_r (e' := nI x) (by rw [pk_sub (by omega)]; exact congrArg nI (by omega)) ⟨w, br_t rfl ⟨w, zx_v74 (t := false) hW (by omega) h⟩⟩⟩)
theorem zx_print2 {post : SX → Prop} {ch m z c : Nat} (hch : ch < 65536) (hz : z + m ≤ 10240)
    (h : post (xw, xl, xm, xn, xo, xe, xt, xd, xk, xh, xi, nI (c + m), xg, nI (z + m), cd, bf, re, ns, fc, so, sb, tl, gs, gm, gd, zx_fill ce z m (nI ch), ls, mo, al, ac)) :
    ∀ q k, k + q = m → ∀ f, q < f → wX_print_2 post (nI ch) (nI m) xw xl xm xn xo xe xt xd xk xh xi xg f (nI k) (nI (c + k)) (nI (z + k)) cd bf re ns fc so sb tl gs gm gd (zx_fill ce z k (nI ch)) ls mo al ac := by
  intro q
  induction q with
  | zero =>
    intro k hk f hf
    obtain ⟨f, rfl⟩ : ∃ f', f = f' + 1 := ⟨f - 1, by omega⟩
    obtain rfl : k = m := by omega
    exact br_t (nI_le (Nat.le_refl _) (by omega)) h
  | succ q ih =>
    intro k hk f hf
    obtain ⟨f, rfl⟩ : ∃ f', f = f' + 1 := ⟨f - 1, by omega⟩
    refine br_f (nI_ge (by omega) (by omega)) (br_f (nI_ge (b := 10240) (by omega) (by decide)) ⟨vp_in_nI (by omega) (by decide), nm_r (e' := zx_fill ce z (k + 1) (nI ch)) ?_ (nm_r (nI_1 _) (nm_r (nI_1 _) (nm_r (nI_1 _) ?_)))⟩)
    · rw [nI_clamp (by omega), zx_chr hch, zx_fillS]
    · exact ih (k + 1) (by omega) f (by omega)
theorem zx_print {post : SX → Prop} {ch m z c : Nat} (hch : ch < 65536) (hz : z + m ≤ 10240)
    (h : post (xw, xl, xm, xn, xo, xe, xt, xd, xk, xh, xi, nI (c + m), xg, nI (z + m), cd, bf, re, ns, fc, so, sb, tl, gs, gm, gd, zx_fill ce z m (nI ch), ls, mo, al, ac)) : wpX_print post (xw, xl, xm, xn, xo, xe, xt, xd, xk, xh, xi, nI c, xg, nI z, cd, bf, re, ns, fc, so, sb, tl, gs, gm, gd, ce, ls, mo, al, ac) (nI ch) (nI m) := by
  have k := zx_print2 hch hz h m 0 (Nat.zero_add m) (m + 1) (Nat.lt_succ_self m)
  rw [zx_fill0] at k
  exact ⟨m + 1, k⟩
theorem zx_newLine {post : SX → Prop} {off : Int32} {g l z m : Nat} (hg : g < 17) (hl : l < 256) (hz : z + m ≤ 10240) (he : zx_cl (gm g + off) 0 xm = nI m)
    (h : post (xw, xl, xm, xn, xo, xe, xt, xd, xk, xh, nI (l + 1), nI m, nI g, nI (z + m), cd, bf, re, ns, fc, so, sb, tl, gs, gm, gd, zx_fill ce z m 32, upd ls (l + 1) (nI z), mo, al, ac)) : wpX_newLine post (xw, xl, xm, xn, xo, xe, xt, xd, xk, xh, nI l, xc, nI g, nI z, cd, bf, re, ns, fc, so, sb, tl, gs, gm, gd, ce, ls, mo, al, ac) off := by
  have e : (nI g).toNatClampNeg = g := nI_clamp (by omega)
  have el : (nI (l + 1)).toNatClampNeg = l + 1 := nI_clamp (by omega)
  refine ⟨vp_in_nI hg (by decide), ?_⟩
  rw [e]
  refine zx_clamp ?_
  rw [he]
  refine br_f (nI_ge (b := 256) hl (by decide)) (nm_r (nI_1 l) ⟨vp_in_nI (by omega) (by decide), nm_r (e' := upd ls (l + 1) (nI z)) (by rw [el]) ?_⟩)
  refine zx_print (ch := 32) (c := 0) (by decide) hz ?_
  rw [Nat.zero_add]
  exact h
theorem zx_pushGroup {post : SX → Prop} {md st ind : Int32} {g : Nat} (hg : g < 16)
    (h : post (xw, xl, xm, xn, xo, xe, xt, xd, xk, xh, xi, xc, nI (g + 1), xz, cd, bf, re, ns, fc, so, sb, tl, upd gs (g + 1) st, upd gm (g + 1) (zx_cl ((if (st &&& 2) = 0 then gm g else xc) + ind) 0 xm), upd gd (g + 1) md, ce, ls, mo, al, ac)) : wpX_pushGroup post (xw, xl, xm, xn, xo, xe, xt, xd, xk, xh, xi, xc, nI g, xz, cd, bf, re, ns, fc, so, sb, tl, gs, gm, gd, ce, ls, mo, al, ac) md st ind := by
  have e : (nI g).toNatClampNeg = g := nI_clamp (by omega)
  have e1 : (nI (g + 1)).toNatClampNeg = g + 1 := nI_clamp (by omega)
  have w : vp_in (nI (g + 1)) 17 := vp_in_nI (by omega) (by decide)
  have key : ∀ y : Int32, y = (if (st &&& 2) = 0 then gm g else xc) → wX_pushGroup_23 post md st ind y xw xl xm xn xo xe xt xd xk xh xi xc (nI g) xz cd bf re ns fc so sb tl gs gm gd ce ls mo al ac := by
    intro y ey
    subst ey
    refine zx_clamp ?_
    exact br_f (nI_ge (b := 16) hg (by decide)) (nm_r (nI_1 g) ⟨w, nm_r (e' := upd gs (g + 1) st) (by rw [e1]) ⟨w, nm_r (e' := upd gm (g + 1) _) (by rw [e1]) ⟨w, nm_r (e' := upd gd (g + 1) md) (by rw [e1]) h⟩⟩⟩)
  refine ⟨vp_in_nI (by omega) (by decide), nm_r (e' := gm g) (by rw [e]) ?_⟩
  by_cases hs : (st &&& 2) = 0
  · exact br_t hs (key _ (by rw [if_pos hs]))
  · exact br_f hs (key _ (by rw [if_neg hs]))
end
section
variable {W L M n o T d tc H l c g z : Nat} {xe : Int32} {cd bf re ns fc so sb tl gs gm gd ce ls mo al ac kd fs sd ym : Nat → Int32} {post : Int32 → SX → Prop} {k a b : Nat} {md : Int32}
theorem zx_step_no (ho : o < 256) (hcd : cd o = nI (k * 65536 + a * 256 + b)) (hk : k ≤ 4) (ha : a ≤ 126) (hb : b ≤ 16) (hm : ∀ P : Int32 → Prop, P 0 → wpX_modeFor P (nI W, nI L, nI M, nI n, nI o, xe, nI T, nI d, nI tc, zz_p H, nI l, nI c, nI g, nI z, cd, bf, re, ns, fc, so, sb, tl, gs, gm, gd, ce, ls, mo, al, ac) (nI o) (nI k)) (h : post 0 (nI W, nI L, nI M, nI n, nI o, xe, nI T, nI d, nI tc, zz_p H, nI l, nI c, nI g, nI z, cd, bf, re, ns, fc, so, sb, tl, gs, gm, gd, ce, ls, mo, al, ac)) : wpX_step post (nI W, nI L, nI M, nI n, nI o, xe, nI T, nI d, nI tc, zz_p H, nI l, nI c, nI g, nI z, cd, bf, re, ns, fc, so, sb, tl, gs, gm, gd, ce, ls, mo, al, ac) (nI o) := by
  have e : (nI o).toNatClampNeg = o := nI_clamp (by omega)
  exact ⟨vp_in_nI ho (by decide), nm_r (e' := nI k) (by rw [e, hcd]; exact (zx_dec hk ha hb).1) (hm _ (br_t rfl h))⟩
theorem zx_step_t (ho : o < 256) (hcd : cd o = nI (0 * 65536 + a * 256 + b)) (ha : a ≤ 126) (hb : b ≤ 16) (hz : z + b ≤ 10240)
    (h : post 1 (nI W, nI L, nI M, nI n, nI (o + 1), xe, nI T, nI d, nI tc, zz_p H, nI l, nI (c + b), nI g, nI (z + b), cd, bf, re, ns, fc, so, sb, tl, gs, gm, gd, zx_fill ce z b (nI a), ls, upd mo o 1, upd al o (nI l), upd ac o (nI c))) : wpX_step post (nI W, nI L, nI M, nI n, nI o, xe, nI T, nI d, nI tc, zz_p H, nI l, nI c, nI g, nI z, cd, bf, re, ns, fc, so, sb, tl, gs, gm, gd, ce, ls, mo, al, ac) (nI o) := by
  have e : (nI o).toNatClampNeg = o := nI_clamp (by omega)
  have w : vp_in (nI o) 256 := vp_in_nI ho (by decide)
  obtain ⟨d1, d2, d3⟩ := zx_dec (k := 0) (by omega) ha hb
  refine ⟨w, nm_r (e' := 0) (by rw [e, hcd]; exact d1) (br_f (by decide) (br_f (by decide) (br_f (by decide) ?_)))⟩
  refine br_f (by decide) ⟨w, nm_r (e' := upd mo o 1) (by rw [e]) ⟨w, nm_r (e' := upd al o (nI l)) (by rw [e]) ⟨w, nm_r (e' := upd ac o (nI c)) (by rw [e]) (nm_r (nI_1 o) ⟨w, nm_r (e' := nI a) (by rw [e, hcd]; exact d2) ⟨w, nm_r (e' := nI b) (by rw [e, hcd]; exact d3) ?_⟩⟩)⟩⟩⟩
  exact br_t rfl (zx_print (by omega) hz h)
theorem zx_step_f (ho : o < 256) (hcd : cd o = nI (1 * 65536 + a * 256 + b)) (ha : a ≤ 126) (hb : b ≤ 16) (hz : z + a ≤ 10240) (hm : ∀ P : Int32 → Prop, P 2 → wpX_modeFor P (nI W, nI L, nI M, nI n, nI o, xe, nI T, nI d, nI tc, zz_p H, nI l, nI c, nI g, nI z, cd, bf, re, ns, fc, so, sb, tl, gs, gm, gd, ce, ls, mo, al, ac) (nI o) 1)
    (h : post 1 (nI W, nI L, nI M, nI n, nI (o + 1), xe, nI T, nI d, nI tc, zz_p H, nI l, nI (c + a), nI g, nI (z + a), cd, bf, re, ns, fc, so, sb, tl, gs, gm, gd, zx_fill ce z a 32, ls, upd mo o 2, upd al o (nI l), upd ac o (nI c))) : wpX_step post (nI W, nI L, nI M, nI n, nI o, xe, nI T, nI d, nI tc, zz_p H, nI l, nI c, nI g, nI z, cd, bf, re, ns, fc, so, sb, tl, gs, gm, gd, ce, ls, mo, al, ac) (nI o) := by
  have e : (nI o).toNatClampNeg = o := nI_clamp (by omega)
  have w : vp_in (nI o) 256 := vp_in_nI ho (by decide)
  obtain ⟨d1, d2, d3⟩ := zx_dec (k := 1) (by omega) ha hb
  refine ⟨w, nm_r (e' := 1) (by rw [e, hcd]; exact d1) (hm _ ?_)⟩
  refine br_f (by decide) ⟨w, nm_r (e' := upd mo o 2) (by rw [e]) ⟨w, nm_r (e' := upd al o (nI l)) (by rw [e]) ⟨w, nm_r (e' := upd ac o (nI c)) (by rw [e]) (nm_r (nI_1 o) ⟨w, nm_r (e' := nI a) (by rw [e, hcd]; exact d2) ⟨w, nm_r (e' := nI b) (by rw [e, hcd]; exact d3) ?_⟩⟩)⟩⟩⟩
  exact br_f (by decide) (br_t rfl (br_t rfl (zx_print (ch := 32) (by decide) hz h)))
theorem zx_step_l {m : Nat} (ho : o < 256) (hk : k = 1 ∨ k = 2) (hcd : cd o = nI (k * 65536 + a * 256 + b)) (ha : a ≤ 126) (hb : b ≤ 16) (hg : g < 17) (hl : l < 256) (hz : z + m ≤ 10240) (hm : ∀ P : Int32 → Prop, P 3 → wpX_modeFor P (nI W, nI L, nI M, nI n, nI o, xe, nI T, nI d, nI tc, zz_p H, nI l, nI c, nI g, nI z, cd, bf, re, ns, fc, so, sb, tl, gs, gm, gd, ce, ls, mo, al, ac) (nI o) (nI k))
    (he : zx_cl (gm g + (nI b - 8)) 0 (nI M) = nI m)
    (h : post 1 (nI W, nI L, nI M, nI n, nI (o + 1), xe, nI T, nI d, nI tc, zz_p H, nI (l + 1), nI m, nI g, nI (z + m), cd, bf, re, ns, fc, so, sb, tl, gs, gm, gd, zx_fill ce z m 32, upd ls (l + 1) (nI z), upd mo o 3, upd al o (nI l), upd ac o (nI c))) : wpX_step post (nI W, nI L, nI M, nI n, nI o, xe, nI T, nI d, nI tc, zz_p H, nI l, nI c, nI g, nI z, cd, bf, re, ns, fc, so, sb, tl, gs, gm, gd, ce, ls, mo, al, ac) (nI o) := by
  have e : (nI o).toNatClampNeg = o := nI_clamp (by omega)
  have w : vp_in (nI o) 256 := vp_in_nI ho (by decide)
  obtain ⟨d1, d2, d3⟩ := zx_dec (k := k) (by omega) ha hb
  refine ⟨w, nm_r (e' := nI k) (by rw [e, hcd]; exact d1) (hm _ ?_)⟩
  refine br_f (by decide) ⟨w, nm_r (e' := upd mo o 3) (by rw [e]) ⟨w, nm_r (e' := upd al o (nI l)) (by rw [e]) ⟨w, nm_r (e' := upd ac o (nI c)) (by rw [e]) (nm_r (nI_1 o) ⟨w, nm_r (e' := nI a) (by rw [e, hcd]; exact d2) ⟨w, nm_r (e' := nI b) (by rw [e, hcd]; exact d3) ?_⟩⟩)⟩⟩⟩
  rcases hk with rfl | rfl
  · exact br_f (by decide) (br_t rfl (br_f (by decide) (zx_newLine hg hl hz he h)))
  · exact br_f (by decide) (br_f (by decide) (br_t rfl (br_f (by decide) (zx_newLine hg hl hz he h))))
theorem zx_step_o (ho : o < 256) (hcd : cd o = nI (3 * 65536 + a * 256 + b)) (ha : a ≤ 126) (hb : b ≤ 16) (hg : g < 16) (hmd : ¬ md = 0) (hm : ∀ P : Int32 → Prop, P md → wpX_modeFor P (nI W, nI L, nI M, nI n, nI o, xe, nI T, nI d, nI tc, zz_p H, nI l, nI c, nI g, nI z, cd, bf, re, ns, fc, so, sb, tl, gs, gm, gd, ce, ls, mo, al, ac) (nI o) 3)
    (h : post 1 (nI W, nI L, nI M, nI n, nI (o + 1), xe, nI T, nI d, nI tc, zz_p H, nI l, nI c, nI (g + 1), nI z, cd, bf, re, ns, fc, so, sb, tl, upd gs (g + 1) (nI a), upd gm (g + 1) (zx_cl ((if (nI a &&& 2) = 0 then gm g else nI c) + (nI b - 8)) 0 (nI M)), upd gd (g + 1) md, ce, ls, upd mo o md, upd al o (nI l), upd ac o (nI c))) : wpX_step post (nI W, nI L, nI M, nI n, nI o, xe, nI T, nI d, nI tc, zz_p H, nI l, nI c, nI g, nI z, cd, bf, re, ns, fc, so, sb, tl, gs, gm, gd, ce, ls, mo, al, ac) (nI o) := by
  have e : (nI o).toNatClampNeg = o := nI_clamp (by omega)
  have w : vp_in (nI o) 256 := vp_in_nI ho (by decide)
  obtain ⟨d1, d2, d3⟩ := zx_dec (k := 3) (by omega) ha hb
  refine ⟨w, nm_r (e' := 3) (by rw [e, hcd]; exact d1) (hm _ ?_)⟩
  refine br_f hmd ⟨w, nm_r (e' := upd mo o md) (by rw [e]) ⟨w, nm_r (e' := upd al o (nI l)) (by rw [e]) ⟨w, nm_r (e' := upd ac o (nI c)) (by rw [e]) (nm_r (nI_1 o) ⟨w, nm_r (e' := nI a) (by rw [e, hcd]; exact d2) ⟨w, nm_r (e' := nI b) (by rw [e, hcd]; exact d3) ?_⟩⟩)⟩⟩⟩
  exact br_f (by decide) (br_f (by decide) (br_f (by decide) (br_t rfl (zx_pushGroup hg h))))
theorem zx_step_c (ho : o < 256) (hcd : cd o = nI (4 * 65536 + a * 256 + b)) (ha : a ≤ 126) (hb : b ≤ 16) (hg : g < 17)
    (h : post 1 (nI W, nI L, nI M, nI n, nI (o + 1), xe, nI T, nI d, nI tc, zz_p H, nI l, nI c, nI (g - 1), nI z, cd, bf, re, ns, fc, so, sb, tl, gs, gm, gd, ce, ls, upd mo o 1, upd al o (nI l), upd ac o (nI c))) : wpX_step post (nI W, nI L, nI M, nI n, nI o, xe, nI T, nI d, nI tc, zz_p H, nI l, nI c, nI g, nI z, cd, bf, re, ns, fc, so, sb, tl, gs, gm, gd, ce, ls, mo, al, ac) (nI o) := by
  have e : (nI o).toNatClampNeg = o := nI_clamp (by omega)
  have w : vp_in (nI o) 256 := vp_in_nI ho (by decide)
  obtain ⟨d1, d2, d3⟩ := zx_dec (k := 4) (by omega) ha hb
  refine ⟨w, nm_r (e' := 4) (by rw [e, hcd]; exact d1) (br_f (by decide) (br_f (by decide) (br_f (by decide) ?_)))⟩
  refine br_f (by decide) ⟨w, nm_r (e' := upd mo o 1) (by rw [e]) ⟨w, nm_r (e' := upd al o (nI l)) (by rw [e]) ⟨w, nm_r (e' := upd ac o (nI c)) (by rw [e]) (nm_r (nI_1 o) ⟨w, nm_r (e' := nI a) (by rw [e, hcd]; exact d2) ⟨w, nm_r (e' := nI b) (by rw [e, hcd]; exact d3) ?_⟩⟩)⟩⟩⟩
  refine br_f (by decide) (br_f (by decide) (br_f (by decide) (br_f (by decide) ?_)))
  rcases Nat.eq_zero_or_pos g with rfl | hp
  · exact br_t (by decide) h
  · obtain ⟨g', rfl⟩ : ∃ g', g = g' + 1 := ⟨g - 1, by omega⟩
    exact br_f (nI_nle (by omega) (by omega)) (nm_r (nI_pred g') h)
end
end
section
/-! the reference: a lemma a method -/
section
variable {xw xl xm xn xo xe xi xc : Int32} {kd fs sd mo al ac ym : Nat → Int32}
theorem zy_clip {post : Int32 → Prop} {p0 : Int32} (h : post (zx_cl p0 0 xm)) : wpY_clip post (xw, xl, xm, xn, xo, xe, xi, xc, kd, fs, sd, mo, al, ac, ym) p0 := by
  unfold zx_cl at h
  by_cases h1 : 0 ≤ p0
  · rw [if_pos h1] at h
    by_cases h2 : p0 ≤ xm
    · rw [if_pos h2] at h; exact br_t h1 (br_t h2 h)
    · rw [if_neg h2] at h; exact br_t h1 (br_f h2 h)
  · rw [if_neg h1] at h; exact br_f h1 h
theorem zy_innL {post : Int32 → Prop} {K : Nat → Nat} {o : Nat} (ho : o ≤ 256) (hk : ∀ j, j < o → kd j = nI (K j) ∧ K j ≤ 4) :
    ∀ j, j ≤ o → ∀ q f, q + j ≤ 1000 → j < f → post (zd_inn K j q) → wY_innermost_9 post xw xl xm xn xo xe xi xc kd fs sd mo al ac ym f (nI q) (nI j + (-1)) := by
  intro j
  induction j with
  | zero =>
    intro hj q f hq hf h
    obtain ⟨f, rfl⟩ : ∃ f', f = f' + 1 := ⟨f - 1, by omega⟩
    exact br_t (by decide) h
  | succ j ih =>
    intro hj q f hq hf h
    obtain ⟨f, rfl⟩ : ∃ f', f = f' + 1 := ⟨f - 1, by omega⟩
    obtain ⟨ek, hk4⟩ := hk j (by omega)
    have e : (nI j).toNatClampNeg = j := nI_clamp (by omega)
    have w : vp_in (nI j) 256 := vp_in_nI (by omega) (by decide)
    rw [pk_m1]
    have h : post (if K j = 4 then zd_inn K j (q + 1) else if K j = 3 then (if q = 0 then nI j else zd_inn K j (q - 1)) else zd_inn K j q) := h
    rw [wY_innermost_9]
    refine br_f (nI_pos (by omega)) ⟨w, ?_⟩
    rw [e, ek]
    refine pk_eq (K j) 4 (fun h4 => ?_) (fun h4 => ⟨w, ?_⟩) rfl rfl (by omega) (by omega)
    · rw [if_pos h4] at h
      exact nm_r (nI_1 q) (nm_e (ih (by omega) (q + 1) f (by omega) (by omega) h))
    · rw [if_neg h4] at h
      refine pk_eq (K j) 3 (fun h3 => ?_) (fun h3 => ?_) rfl rfl (by omega) (by omega)
      · rw [if_pos h3] at h
        refine pk_eq q 0 (fun h0 => ?_) (fun h0 => ?_) rfl rfl (by omega) (by omega)
        · rw [if_pos h0] at h; exact h
        · rw [if_neg h0] at h
          obtain ⟨q', rfl⟩ : ∃ q', q = q' + 1 := ⟨q - 1, by omega⟩
          exact nm_r (pk_m1 q') (nm_e (ih (by omega) q' f (by omega) (by omega) h))
      · rw [if_neg h3] at h
        exact nm_e (ih (by omega) q f (by omega) (by omega) h)
theorem zy_inn {post : Int32 → Prop} {K : Nat → Nat} {o : Nat} (ho : o ≤ 256) (hk : ∀ j, j < o → kd j = nI (K j) ∧ K j ≤ 4) (h : post (zd_inn K o 0)) : wpY_innermost post (xw, xl, xm, xn, nI o, xe, xi, xc, kd, fs, sd, mo, al, ac, ym) :=
  nm_r (e' := nI o + (-1)) (Int32.sub_eq_add_neg ..) ⟨o + 1, zy_innL ho hk o (Nat.le_refl o) 0 (o + 1) (by omega) (by omega) h⟩
theorem zy_margin {post : Int32 → Prop} {K A G : Nat → Nat} {o g : Nat} {gs gm gd : Nat → Int32} (ho : o ≤ 256) (hk : ∀ j, j < o → kd j = nI (K j) ∧ K j ≤ 4) (hG : zg_Gr K A G o g gs gm gd mo ym) (h : post (gm g)) : wpY_margin post (xw, xl, xm, xn, nI o, xe, xi, xc, kd, fs, sd, mo, al, ac, ym) := by
  obtain ⟨g1, g2, g3, g4, g5, g6⟩ := hG
  refine zy_inn ho hk ?_
  rw [g2 0]
  by_cases hg : 0 < g
  · obtain ⟨z1, z2, z3, z4⟩ := g3 g hg (Nat.le_refl g)
    rw [if_pos hg, Nat.sub_zero]
    refine br_t (nI_pos' (by omega)) ⟨vp_in_nI (by omega) (by decide), ?_⟩
    rw [nI_clamp (by omega), ← z3]
    exact h
  · obtain rfl : g = 0 := by omega
    rw [if_neg hg]
    rw [g5] at h
    exact br_f (by decide) h
theorem zy_depL {post : Int32 → Prop} {K : Nat → Nat} {n : Nat} (hn : n ≤ 256) (hk : ∀ j, j < n → kd j = nI (K j) ∧ K j ≤ 4) (hd : ∀ j, j < n → K j = 4 → 0 < zd_dep K j) (h : post (nI (zd_dep K n))) :
    ∀ q j, j + q = n → ∀ f, q < f → wY_depth_4 post xw xl xm (nI n) xo xe xi xc kd fs sd mo al ac ym f (nI (zd_dep K j)) (nI j) := by
  intro q
  induction q with
  | zero =>
    intro j hj f hf
    obtain ⟨f, rfl⟩ : ∃ f', f = f' + 1 := ⟨f - 1, by omega⟩
    obtain rfl : j = n := by omega
    exact br_t (nI_le (Nat.le_refl _) (by omega)) h
  | succ q ih =>
    intro j hj f hf
    obtain ⟨f, rfl⟩ : ∃ f', f = f' + 1 := ⟨f - 1, by omega⟩
    obtain ⟨ek, hk4⟩ := hk j (by omega)
    have e : (nI j).toNatClampNeg = j := nI_clamp (by omega)
    have w : vp_in (nI j) 256 := vp_in_nI (by omega) (by decide)
    have nx := ih (j + 1) (by omega) f (by omega)
    rw [wY_depth_4]
    refine br_f (nI_ge (by omega) (by omega)) ⟨w, ?_⟩
    rw [e, ek]
    have ed : zd_dep K (j + 1) = if K j = 3 then zd_dep K j + 1 else if K j = 4 then zd_dep K j - 1 else zd_dep K j := rfl
    rw [ed] at nx
    refine pk_eq (K j) 3 (fun h3 => ?_) (fun h3 => ⟨w, ?_⟩) rfl rfl (by omega) (by omega)
    · rw [if_pos h3] at nx
      exact nm_r (nI_1 _) (nm_r (nI_1 j) nx)
    · rw [if_neg h3] at nx
      refine pk_eq (K j) 4 (fun h4 => ?_) (fun h4 => ?_) rfl rfl (by omega) (by omega)
      · rw [if_pos h4] at nx
        obtain ⟨d', hd'⟩ : ∃ d', zd_dep K j = d' + 1 := ⟨zd_dep K j - 1, by have := hd j (by omega) h4; omega⟩
        rw [hd', Nat.add_sub_cancel] at nx
        rw [hd']
        exact nm_r (pk_m1 d') (nm_r (nI_1 j) nx)
      · rw [if_neg h4] at nx
        exact nm_r (nI_1 j) nx
theorem zy_depth {post : Int32 → Prop} {K : Nat → Nat} {n : Nat} (hn : n ≤ 256) (hk : ∀ j, j < n → kd j = nI (K j) ∧ K j ≤ 4) (hd : ∀ j, j < n → K j = 4 → 0 < zd_dep K j) (h : post (nI (zd_dep K n))) : wpY_depth post (xw, xl, xm, nI n, xo, xe, xi, xc, kd, fs, sd, mo, al, ac, ym) :=
  ⟨n + 1, zy_depL hn hk hd h n 0 (Nat.zero_add n) (n + 1) (Nat.lt_succ_self n)⟩
end
/-! verdict -/
def zi_It (K A B : Nat → Nat) (n : Nat) (cd bf kd fs sd : Nat → Int32) : Prop :=
  ∀ i, i < n → zw_ok (K i) (A i) (B i) ∧ cd i = nI (K i * 65536 + A i * 256 + B i) ∧ bf i = nI (zd_tot K A B i) ∧ kd i = nI (K i) ∧ fs i = nI (A i) ∧ sd i = if K i = 0 ∨ K i = 4 then nI (B i) else nI (B i) - 8
section
variable {W L M n o T d tc H l c g z : Nat} {xe : Int32} {cd bf re ns fc so sb tl gs gm gd ce ls mo al ac kd fs sd ym : Nat → Int32} {K A B : Nat → Nat} {post : Int32 → Prop}
theorem zy_v190 {x : Nat} {f t : Bool} (hW : W ≤ 40) (hcx : c + x < 2 ^ 31) (h : post (zv_v W c xe x f t)) : wY_verdict_190 post (nI x) (zz_b f) (zz_b t) (nI W) (nI L) (nI M) (nI n) (nI o) xe (nI l) (nI c) kd fs sd mo al ac ym := by
  have key : ∀ t' : Bool, (t' = true ↔ (t = true ∨ ¬ xe = 0)) → wY_verdict_200 post (nI x) (zz_b f) (zz_b t') (nI W) (nI L) (nI M) (nI n) (nI o) xe (nI l) (nI c) kd fs sd mo al ac ym := by
    intro t' ht'
    cases f with
    | true => exact br_f (by decide) h
    | false =>
      refine br_t rfl (pk_le (c + x) W (fun hle => ?_) (fun hlt => ?_) (nI_add c x) rfl (by omega) (by omega))
      · have e : zv_v W c xe x false t = if t = true then 2 else if xe = 0 then 0 else 2 := by
          unfold zv_v
          rw [if_neg (by decide), if_pos hle]
        rw [e] at h
        cases t' with
        | true =>
          refine br_f (by decide) ?_
          rcases ht'.mp rfl with z | z
          · rw [if_pos z] at h; exact h
          · rw [if_neg z] at h
            by_cases ht : t = true
            · rw [if_pos ht] at h; exact h
            · rw [if_neg ht] at h; exact h
        | false =>
          have nt : ¬ t = true := fun z => absurd (ht'.mpr (Or.inl z)) (by decide)
          have ne : xe = 0 := Decidable.byContradiction fun z => absurd (ht'.mpr (Or.inr z)) (by decide)
          rw [if_neg nt, if_pos ne] at h
          exact br_t rfl h
      · have e : zv_v W c xe x false t = 3 := by
          unfold zv_v
          rw [if_neg (by decide), if_neg (by omega)]
        rw [e] at h
        exact h
  by_cases he : xe = 0
  · exact br_t he (key t ⟨Or.inl, fun z => z.resolve_right (fun z' => z' he)⟩)
  · exact br_f he (key true ⟨fun _ => Or.inr he, fun _ => rfl⟩)
theorem zy_vL {i : Nat} (hn : n ≤ 256) (hi : i < n) (hI : zi_It K A B n cd bf kd fs sd) {br : Bool} (hbr : br = true ↔ K i = 1)
    (h : ∀ q x a f t, zw_wk K A B i n = (q, x, a, f, t) → wY_verdict_190 post (nI x) (zz_b f) (zz_b t) (nI W) (nI L) (nI M) (nI n) (nI o) xe (nI l) (nI c) kd fs sd mo al ac ym) :
    ∀ r j, j + r = n → i < j → ∀ q x a f t, zw_wk K A B i j = (q, x, a, f, t) → ∀ fu, r < fu →
      wY_verdict_48 post (zz_b br) (nI W) (nI L) (nI M) (nI n) (nI o) xe (nI l) (nI c) kd fs sd mo al ac ym fu (nI q) (nI x) (zz_b a) (zz_b f) (zz_b t) (nI j) := by
  intro r
  induction r with
  | zero =>
    intro j hj hij q x a f t e fu hfu
    obtain ⟨fu, rfl⟩ : ∃ f', fu = f' + 1 := ⟨fu - 1, by omega⟩
    obtain rfl : j = n := by omega
    exact br_t (nI_le (Nat.le_refl _) (by omega)) (h q x a f t e)
  | succ r ih =>
    intro j hj hij q x a f t e fu hfu
    obtain ⟨fu, rfl⟩ : ∃ f', fu = f' + 1 := ⟨fu - 1, by omega⟩
    refine br_f (nI_ge (by omega) (by omega)) ?_
    cases t with
    | true => exact br_f (by decide) (h q x a f true (zw_done hij e n (by omega)))
    | false =>
      obtain ⟨ok, _, _, ek, ef, es⟩ := hI j (by omega)
      obtain ⟨pq, pq2, _⟩ := zw_pos j hij q x a f false e
      have ec : (nI j).toNatClampNeg = j := nI_clamp (by omega)
      have w : vp_in (nI j) 256 := vp_in_nI (by omega) (by decide)
      have nx : ∀ q' x' a' f' t', zw_st (K i) (K j) (A j) (B j) (q, x, a, f, false) = (q', x', a', f', t') →
          wY_verdict_48 post (zz_b br) (nI W) (nI L) (nI M) (nI n) (nI o) xe (nI l) (nI c) kd fs sd mo al ac ym fu (nI q') (nI x') (zz_b a') (zz_b f') (zz_b t') (nI (j + 1)) :=
        fun q' x' a' f' t' z => ih (j + 1) (by omega) (by omega) q' x' a' f' t' (by rw [zw_s hij, e]; exact z) fu (by omega)
      refine br_t rfl ⟨w, nm_r (e' := nI (K j)) (by rw [ec]; exact ek) ?_⟩
      rw [ec, es]
      have k4 := (zw_okb ok).1
      by_cases k0 : K j = 0
      · rw [if_pos (Or.inl k0)]
        rw [k0] at nx ⊢
        exact br_t rfl ⟨w, nm_r (nI_add x (B j)) (nm_r (nI_1 j) (nx _ _ _ _ _ zw_st_0))⟩
      · refine br_f (fun z => k0 ((nI_eq (b := 0) (by omega) (by decide)).mp z)) ?_
        cases a with
        | false =>
          refine br_t rfl ?_
          by_cases k1 : K j = 1
          · rw [k1] at nx ⊢
            exact br_t rfl (nm_r (nI_1 j) (nx _ _ _ _ _ (zw_st_te (Or.inl rfl))))
          · refine br_f (fun z => k1 ((nI_eq (b := 1) (by omega) (by decide)).mp z)) ?_
            by_cases k2 : K j = 2
            · rw [k2] at nx ⊢
              exact br_t rfl (nm_r (nI_1 j) (nx _ _ _ _ _ (zw_st_te (Or.inr rfl))))
            · exact br_f (fun z => k2 ((nI_eq (b := 2) (by omega) (by decide)).mp z)) (nm_r (nI_1 j) (nx _ _ _ _ _ (zw_st_to (by omega))))
        | true =>
          have q1 := pq rfl
          refine br_f (by decide) ?_
          by_cases k3 : K j = 3
          · rw [k3] at nx ⊢
            exact br_t rfl (nm_r (nI_1 q) (nm_r (nI_1 j) (nx _ _ _ _ _ zw_st_o)))
          · refine br_f (fun z => k3 ((nI_eq (b := 3) (by omega) (by decide)).mp z)) ?_
            by_cases k4 : K j = 4
            · rw [k4] at nx ⊢
              obtain ⟨q', rfl⟩ : ∃ q', q = q' + 1 := ⟨q - 1, by omega⟩
              refine br_t rfl (nm_r (pk_m1 q') ?_)
              by_cases hq : q' = 0
              · subst hq
                exact br_t rfl (nm_r (nI_1 j) (nx _ _ _ _ _ zw_st_c))
              · have := nx _ _ _ _ _ zw_st_c
                rw [decide_eq_true (show q' + 1 ≠ 1 by omega)] at this
                exact br_f (nI_ne0 (by omega) (by omega)) (nm_r (nI_1 j) this)
            · refine br_f (fun z => k4 ((nI_eq (b := 4) (by omega) (by decide)).mp z)) ?_
              have k12 : K j = 1 ∨ K j = 2 := by omega
              have last : ¬ (K i = 1 ∧ q = 1) → wY_verdict_142 post (wY_verdict_48 post (zz_b br) (nI W) (nI L) (nI M) (nI n) (nI o) xe (nI l) (nI c) kd fs sd mo al ac ym fu) (zz_b br) (nI q) (nI x) (zz_b true) (zz_b f) (zz_b false) (nI j) (nI (K j)) (nI W) (nI L) (nI M) (nI n) (nI o) xe (nI l) (nI c) kd fs sd mo al ac ym := by
                intro hnb
                by_cases k1 : K j = 1
                · rw [k1] at nx ⊢
                  exact br_t rfl ⟨w, nm_r (e' := nI (x + A j)) (by rw [ec, ef]; exact nI_add _ _) (nm_r (nI_1 j) (nx _ _ _ _ _ (zw_st_b hnb)))⟩
                · have k2 : K j = 2 := by omega
                  rw [k2] at nx ⊢
                  exact br_f (by decide) (nm_r (nI_1 j) (nx _ _ _ _ _ (zw_st_h hnb)))
              cases br with
              | false =>
                refine br_t rfl (last fun z => absurd (hbr.mpr z.1) (by decide))
              | true =>
                refine br_f (by decide) (pk_eq q 1 (fun hq => ?_) (fun hq => last fun z => hq z.2) rfl rfl (by omega) (by omega))
                exact nm_r (nI_1 j) (nx _ _ _ _ _ (zw_st_e k12 ⟨hbr.mp rfl, hq⟩))
theorem zy_verdict {i q x : Nat} {a f t : Bool} (hn : n ≤ 256) (hi : i < n) (hW : W ≤ 40) (hc : c < 20000) (hI : zi_It K A B n cd bf kd fs sd) (e : zw_wk K A B i n = (q, x, a, f, t))
    (h : post (zv_v W c xe x f t)) : wpY_verdict post (nI W, nI L, nI M, nI n, nI o, xe, nI l, nI c, kd, fs, sd, mo, al, ac, ym) (nI i) := by
  have ec : (nI i).toNatClampNeg = i := nI_clamp (by omega)
  have w : vp_in (nI i) 256 := vp_in_nI (by omega) (by decide)
  obtain ⟨ok, _, _, ek, ef, es⟩ := hI i hi
  have hT := zd_totb (fun j hj => (hI j hj).1) n (Nat.le_refl n)
  have hx := (zw_pos n hi q x a f t e).2.2
  have fin : ∀ q' x' a' f' t', zw_wk K A B i n = (q', x', a', f', t') → wY_verdict_190 post (nI x') (zz_b f') (zz_b t') (nI W) (nI L) (nI M) (nI n) (nI o) xe (nI l) (nI c) kd fs sd mo al ac ym := by
    intro q' x' a' f' t' e'
    rw [e] at e'
    simp only [Prod.mk.injEq] at e'
    obtain ⟨rfl, rfl, rfl, rfl, rfl⟩ := e'
    exact zy_v190 hW (by omega) h
  refine ⟨w, ?_⟩
  rw [ec, ek]
  by_cases k1 : K i = 1
  · rw [k1]
    refine br_t rfl (br_f (by decide) ⟨w, ?_⟩)
    rw [ec, ef]
    refine nm_r (nI_1 i) ⟨n - i + 1, ?_⟩
    have := zy_vL hn hi hI (br := true) (by simp [k1]) fin (n - (i + 1)) (i + 1) (by omega) (by omega) _ _ _ _ _ zw_i (n - i + 1) (by omega)
    rw [if_pos k1] at this
    exact this
  · refine br_f (fun z => k1 ((nI_eq (b := 1) (by have := (zw_okb ok).1; omega) (by decide)).mp z)) (br_t rfl (nm_r (nI_1 i) ⟨n - i + 1, ?_⟩))
    have := zy_vL hn hi hI (br := false) (by simp [k1]) fin (n - (i + 1)) (i + 1) (by omega) (by omega) _ _ _ _ _ zw_i (n - i + 1) (by omega)
    rw [if_neg k1] at this
    exact this
end
end
section
/-! breaks, and the reference's step -/
def zv_b (gdv gsv v : Int32) : Int32 := if gdv = 2 then 2 else if (gsv &&& 1) = 0 then 3 else v
theorem zv_b3 {x y v : Int32} (hv : ¬ v = 0 → ¬ v = 2 → v = 3) (h : ¬ zv_b x y v = 0) (h2 : ¬ zv_b x y v = 2) : zv_b x y v = 3 := by
  unfold zv_b at h h2 ⊢
  by_cases c1 : x = 2
  · rw [if_pos c1] at h2; exact absurd rfl h2
  · rw [if_neg c1] at h h2 ⊢
    by_cases c2 : (y &&& 1) = 0
    · rw [if_pos c2]
    · rw [if_neg c2] at h h2 ⊢
      exact hv h h2
section
variable {W L M n o T d tc H l c g z : Nat} {xe : Int32} {cd bf re ns fc so sb tl gs gm gd ce ls mo al ac kd fs sd ym : Nat → Int32} {K A B G : Nat → Nat}
theorem zx_breakMode {post : Int32 → Prop} {i v : Int32} (hg : g < 17) (hv : ∀ P : Int32 → Prop, P v → wpX_verdict P (nI W, nI L, nI M, nI n, nI o, xe, nI T, nI d, nI tc, zz_p H, nI l, nI c, nI g, nI z, cd, bf, re, ns, fc, so, sb, tl, gs, gm, gd, ce, ls, mo, al, ac) i) (h : post (zv_b (gd g) (gs g) v)) : wpX_breakMode post (nI W, nI L, nI M, nI n, nI o, xe, nI T, nI d, nI tc, zz_p H, nI l, nI c, nI g, nI z, cd, bf, re, ns, fc, so, sb, tl, gs, gm, gd, ce, ls, mo, al, ac) i := by
  have e : (nI g).toNatClampNeg = g := nI_clamp (by omega)
  have w : vp_in (nI g) 17 := vp_in_nI hg (by decide)
  unfold zv_b at h
  refine ⟨w, ?_⟩
  rw [e]
  by_cases c1 : gd g = 2
  · rw [if_pos c1] at h; exact br_t c1 h
  · rw [if_neg c1] at h
    refine br_f c1 ⟨w, ?_⟩
    by_cases c2 : (gs g &&& 1) = 0
    · rw [if_pos c2] at h; exact br_t c2 h
    · rw [if_neg c2] at h; exact br_f c2 (hv _ h)
theorem zi_kd (hI : zi_It K A B n cd bf kd fs sd) (hon : o ≤ n) : ∀ j, j < o → kd j = nI (K j) ∧ K j ≤ 4 := fun j hj => ⟨(hI j (by omega)).2.2.2.1, (zw_okb (hI j (by omega)).1).1⟩
theorem zy_breakMode {post : Int32 → Prop} {i v : Int32} (hn : n ≤ 256) (hon : o ≤ n) (hI : zi_It K A B n cd bf kd fs sd) (hG : zg_Gr K A G o g gs gm gd mo ym) (hv : ∀ P : Int32 → Prop, P v → wpY_verdict P (nI W, nI L, nI M, nI n, nI o, xe, nI l, nI c, kd, fs, sd, mo, al, ac, ym) i) (h : post (zv_b (gd g) (gs g) v)) : wpY_breakMode post (nI W, nI L, nI M, nI n, nI o, xe, nI l, nI c, kd, fs, sd, mo, al, ac, ym) i := by
  refine zy_inn (by omega) (zi_kd hI hon) ?_
  obtain ⟨g1, g2, g3, g4, g5, g6⟩ := hG
  unfold zv_b at h
  rw [g2 0]
  by_cases hg : 0 < g
  · obtain ⟨z1, z2, z3, z4⟩ := g3 g hg (Nat.le_refl g)
    obtain ⟨_, _, _, _, ef, _⟩ := hI (G g) (by omega)
    have e : (nI (G g)).toNatClampNeg = G g := nI_clamp (by omega)
    have w : vp_in (nI (G g)) 256 := vp_in_nI (by omega) (by decide)
    rw [if_pos hg, Nat.sub_zero]
    rw [z2, z4, ← ef] at h
    refine br_f (nI_pos (by omega)) ⟨w, ?_⟩
    rw [e]
    by_cases c1 : mo (G g) = 2
    · rw [if_pos c1] at h; exact br_t c1 h
    · rw [if_neg c1] at h
      refine br_f c1 ⟨w, ?_⟩
      by_cases c2 : (fs (G g) &&& 1) = 0
      · rw [if_pos c2] at h; exact br_t c2 h
      · rw [if_neg c2] at h; exact br_f c2 (hv _ h)
  · obtain rfl : g = 0 := by omega
    rw [if_neg hg]
    rw [g4, g6, if_neg (by decide), if_neg (by decide)] at h
    exact br_t (by decide) (hv _ h)
variable {post : Int32 → SY → Prop} {k a b : Nat} {md : Int32}
theorem zy_step_no (hn : n ≤ 256) (ho : o < n) (ek : kd o = nI k) (hk : (k = 1 ∧ ∀ P : Int32 → Prop, P 0 → wpY_breakMode P (nI W, nI L, nI M, nI n, nI o, xe, nI l, nI c, kd, fs, sd, mo, al, ac, ym) (nI o)) ∨ (k = 3 ∧ ∀ P : Int32 → Prop, P 0 → wpY_verdict P (nI W, nI L, nI M, nI n, nI o, xe, nI l, nI c, kd, fs, sd, mo, al, ac, ym) (nI o)))
    (h : post 0 (nI W, nI L, nI M, nI n, nI o, xe, nI l, nI c, kd, fs, sd, mo, al, ac, ym)) : wpY_step post (nI W, nI L, nI M, nI n, nI o, xe, nI l, nI c, kd, fs, sd, mo, al, ac, ym) := by
  have e : (nI o).toNatClampNeg = o := nI_clamp (by omega)
  have w : vp_in (nI o) 256 := vp_in_nI (by omega) (by decide)
  refine br_t (nI_lt ho (by omega)) ⟨w, nm_r (e' := nI k) (by rw [e]; exact ek) ?_⟩
  rcases hk with ⟨rfl, hm⟩ | ⟨rfl, hm⟩
  · exact br_f (by decide) (br_t rfl (hm _ (br_t rfl h)))
  · exact br_f (by decide) (br_f (by decide) (br_t rfl (hm _ (br_t rfl h))))
theorem zy_step_t (hn : n ≤ 256) (ho : o < n) (hI : zi_It K A B n cd bf kd fs sd) (hG : zg_Gr K A G o g gs gm gd mo ym) (ek : kd o = nI 0) (es : sd o = nI b)
    (h : post 1 (nI W, nI L, nI M, nI n, nI (o + 1), xe, nI l, nI (c + b), kd, fs, sd, upd mo o 1, upd al o (nI l), upd ac o (nI c), ym)) : wpY_step post (nI W, nI L, nI M, nI n, nI o, xe, nI l, nI c, kd, fs, sd, mo, al, ac, ym) := by
  have e : (nI o).toNatClampNeg = o := nI_clamp (by omega)
  have w : vp_in (nI o) 256 := vp_in_nI (by omega) (by decide)
  refine br_t (nI_lt ho (by omega)) ⟨w, nm_r (e' := 0) (by rw [e]; exact ek) (br_f (by decide) (br_f (by decide) (br_f (by decide) ?_)))⟩
  refine br_f (by decide) (zy_margin (by omega) (zi_kd hI (by omega)) hG ?_)
  refine ⟨w, nm_r (e' := upd mo o 1) (by rw [e]) ⟨w, nm_r (e' := upd al o (nI l)) (by rw [e]) ⟨w, nm_r (e' := upd ac o (nI c)) (by rw [e]) ?_⟩⟩⟩
  exact br_t rfl ⟨w, nm_r (e' := nI (c + b)) (by rw [e, es]; exact nI_add c b) (nm_r (nI_1 o) h)⟩
theorem zy_step_f (hn : n ≤ 256) (ho : o < n) (hI : zi_It K A B n cd bf kd fs sd) (hG : zg_Gr K A G o g gs gm gd mo ym) (ek : kd o = nI 1) (ef : fs o = nI a) (hm : ∀ P : Int32 → Prop, P 2 → wpY_breakMode P (nI W, nI L, nI M, nI n, nI o, xe, nI l, nI c, kd, fs, sd, mo, al, ac, ym) (nI o))
    (h : post 1 (nI W, nI L, nI M, nI n, nI (o + 1), xe, nI l, nI (c + a), kd, fs, sd, upd mo o 2, upd al o (nI l), upd ac o (nI c), ym)) : wpY_step post (nI W, nI L, nI M, nI n, nI o, xe, nI l, nI c, kd, fs, sd, mo, al, ac, ym) := by
  have e : (nI o).toNatClampNeg = o := nI_clamp (by omega)
  have w : vp_in (nI o) 256 := vp_in_nI (by omega) (by decide)
  refine br_t (nI_lt ho (by omega)) ⟨w, nm_r (e' := 1) (by rw [e]; exact ek) (br_f (by decide) (br_t rfl (hm _ ?_)))⟩
  refine br_f (by decide) (zy_margin (by omega) (zi_kd hI (by omega)) hG ?_)
  refine ⟨w, nm_r (e' := upd mo o 2) (by rw [e]) ⟨w, nm_r (e' := upd al o (nI l)) (by rw [e]) ⟨w, nm_r (e' := upd ac o (nI c)) (by rw [e]) ?_⟩⟩⟩
  exact br_f (by decide) (br_f (by decide) (br_t rfl (br_t rfl ⟨w, nm_r (e' := nI (c + a)) (by rw [e, ef]; exact nI_add c a) (nm_r (nI_1 o) h)⟩)))
theorem zy_step_l {m : Nat} (hn : n ≤ 256) (ho : o < n) (hI : zi_It K A B n cd bf kd fs sd) (hG : zg_Gr K A G o g gs gm gd mo ym) (ek : kd o = nI k) (es : sd o = nI b - 8) (hk : (k = 1 ∧ ∀ P : Int32 → Prop, P 3 → wpY_breakMode P (nI W, nI L, nI M, nI n, nI o, xe, nI l, nI c, kd, fs, sd, mo, al, ac, ym) (nI o)) ∨ k = 2)
    (he : zx_cl (gm g + (nI b - 8)) 0 (nI M) = nI m)
    (h : post 1 (nI W, nI L, nI M, nI n, nI (o + 1), xe, nI (l + 1), nI m, kd, fs, sd, upd mo o 3, upd al o (nI l), upd ac o (nI c), ym)) : wpY_step post (nI W, nI L, nI M, nI n, nI o, xe, nI l, nI c, kd, fs, sd, mo, al, ac, ym) := by
  have e : (nI o).toNatClampNeg = o := nI_clamp (by omega)
  have w : vp_in (nI o) 256 := vp_in_nI (by omega) (by decide)
  have key : wY_step_210 post (nI o) (gm g) (nI W) (nI L) (nI M) (nI n) (nI o) xe (nI l) (nI c) kd fs sd (upd mo o 3) (upd al o (nI l)) (upd ac o (nI c)) ym := by
    refine nm_r (nI_1 l) ⟨w, ?_⟩
    rw [e, es]
    refine zy_clip ?_
    rw [he]
    exact nm_r (nI_1 o) h
  refine br_t (nI_lt ho (by omega)) ⟨w, nm_r (e' := nI k) (by rw [e]; exact ek) ?_⟩
  rcases hk with ⟨rfl, hm⟩ | rfl
  · refine br_f (by decide) (br_t rfl (hm _ ?_))
    refine br_f (by decide) (zy_margin (by omega) (zi_kd hI (by omega)) hG ?_)
    refine ⟨w, nm_r (e' := upd mo o 3) (by rw [e]) ⟨w, nm_r (e' := upd al o (nI l)) (by rw [e]) ⟨w, nm_r (e' := upd ac o (nI c)) (by rw [e]) ?_⟩⟩⟩
    exact br_f (by decide) (br_f (by decide) (br_t rfl (br_f (by decide) (br_t rfl key))))
  · refine br_t rfl ?_
    refine br_f (by decide) (zy_margin (by omega) (zi_kd hI (by omega)) hG ?_)
    refine ⟨w, nm_r (e' := upd mo o 3) (by rw [e]) ⟨w, nm_r (e' := upd al o (nI l)) (by rw [e]) ⟨w, nm_r (e' := upd ac o (nI c)) (by rw [e]) ?_⟩⟩⟩
    exact br_f (by decide) (br_f (by decide) (br_f (by decide) (br_f (by decide) (br_t rfl key))))
theorem zy_step_o (hn : n ≤ 256) (ho : o < n) (hI : zi_It K A B n cd bf kd fs sd) (hG : zg_Gr K A G o g gs gm gd mo ym) (ek : kd o = nI 3) (ef : fs o = nI a) (es : sd o = nI b - 8) (hmd : ¬ md = 0) (hm : ∀ P : Int32 → Prop, P md → wpY_verdict P (nI W, nI L, nI M, nI n, nI o, xe, nI l, nI c, kd, fs, sd, mo, al, ac, ym) (nI o))
    (h : post 1 (nI W, nI L, nI M, nI n, nI (o + 1), xe, nI l, nI c, kd, fs, sd, upd mo o md, upd al o (nI l), upd ac o (nI c), upd ym o (zx_cl ((if (nI a &&& 2) = 0 then gm g else nI c) + (nI b - 8)) 0 (nI M)))) : wpY_step post (nI W, nI L, nI M, nI n, nI o, xe, nI l, nI c, kd, fs, sd, mo, al, ac, ym) := by
  have e : (nI o).toNatClampNeg = o := nI_clamp (by omega)
  have w : vp_in (nI o) 256 := vp_in_nI (by omega) (by decide)
  have key : ∀ y : Int32, y = (if (nI a &&& 2) = 0 then gm g else nI c) → wY_step_148 post (nI o) y (nI W) (nI L) (nI M) (nI n) (nI o) xe (nI l) (nI c) kd fs sd (upd mo o md) (upd al o (nI l)) (upd ac o (nI c)) ym := by
    intro y ey
    subst ey
    refine ⟨w, ?_⟩
    rw [e, es]
    refine zy_clip ?_
    exact ⟨w, nm_e (nm_r (nI_1 o) h)⟩
  refine br_t (nI_lt ho (by omega)) ⟨w, nm_r (e' := 3) (by rw [e]; exact ek) (br_f (by decide) (br_f (by decide) (br_t rfl (hm _ ?_))))⟩
  refine br_f hmd (zy_margin (by omega) (zi_kd hI (by omega)) hG ?_)
  refine ⟨w, nm_r (e' := upd mo o md) (by rw [e]) ⟨w, nm_r (e' := upd al o (nI l)) (by rw [e]) ⟨w, nm_r (e' := upd ac o (nI c)) (by rw [e]) ?_⟩⟩⟩
  refine br_f (by decide) (br_t rfl ⟨w, ?_⟩)
  rw [e, ef]
  by_cases hs : (nI a &&& 2) = 0
  · exact br_t hs (key _ (by rw [if_pos hs]))
  · exact br_f hs (key _ (by rw [if_neg hs]))
theorem zy_step_c (hn : n ≤ 256) (ho : o < n) (hI : zi_It K A B n cd bf kd fs sd) (hG : zg_Gr K A G o g gs gm gd mo ym) (ek : kd o = nI 4)
    (h : post 1 (nI W, nI L, nI M, nI n, nI (o + 1), xe, nI l, nI c, kd, fs, sd, upd mo o 1, upd al o (nI l), upd ac o (nI c), ym)) : wpY_step post (nI W, nI L, nI M, nI n, nI o, xe, nI l, nI c, kd, fs, sd, mo, al, ac, ym) := by
  have e : (nI o).toNatClampNeg = o := nI_clamp (by omega)
  have w : vp_in (nI o) 256 := vp_in_nI (by omega) (by decide)
  refine br_t (nI_lt ho (by omega)) ⟨w, nm_r (e' := 4) (by rw [e]; exact ek) (br_f (by decide) (br_f (by decide) (br_f (by decide) ?_)))⟩
  refine br_f (by decide) (zy_margin (by omega) (zi_kd hI (by omega)) hG ?_)
  refine ⟨w, nm_r (e' := upd mo o 1) (by rw [e]) ⟨w, nm_r (e' := upd al o (nI l)) (by rw [e]) ⟨w, nm_r (e' := upd ac o (nI c)) (by rw [e]) ?_⟩⟩⟩
  exact br_f (by decide) (br_f (by decide) (br_f (by decide) (br_f (by decide) (br_f (by decide) (nm_r (nI_1 o) h)))))
end
end
section
/-! the reference's getters with loops -/
section
variable {W L M n o T d tc H l c g z : Nat} {xe : Int32} {cd bf re ns fc so sb tl gs gm gd ce ls mo al ac kd fs sd ym : Nat → Int32} {K A B : Nat → Nat} {post : Int32 → Prop}
theorem zy_slL (hn : n ≤ 256) (hon : o ≤ n) (hI : zi_It K A B n cd bf kd fs sd) (h : post ((nI W - nI c) - nI (zd_tot K A B n - zd_tot K A B o))) :
    ∀ r j, j + r = n → o ≤ j → ∀ f, r < f → wY_slack_20 post (nI W) (nI L) (nI M) (nI n) (nI o) xe (nI l) (nI c) kd fs sd mo al ac ym f (nI (zd_tot K A B j - zd_tot K A B o)) (nI j) := by
  intro r
  induction r with
  | zero =>
    intro j hj hoj f hf
    obtain ⟨f, rfl⟩ : ∃ f', f = f' + 1 := ⟨f - 1, by omega⟩
    obtain rfl : j = n := by omega
    exact br_t (nI_le (Nat.le_refl _) (by omega)) h
  | succ r ih =>
    intro j hj hoj f hf
    obtain ⟨f, rfl⟩ : ∃ f', f = f' + 1 := ⟨f - 1, by omega⟩
    obtain ⟨ok, _, _, ek, ef, es⟩ := hI j (by omega)
    have e : (nI j).toNatClampNeg = j := nI_clamp (by omega)
    have w : vp_in (nI j) 256 := vp_in_nI (by omega) (by decide)
    have nx := ih (j + 1) (by omega) (by omega) f (by omega)
    have k4 := (zw_okb ok).1
    have ht : zd_tot K A B (j + 1) = zd_tot K A B j + zd_sz (K j) (A j) (B j) := rfl
    have hm : zd_tot K A B o ≤ zd_tot K A B j := zd_totm hoj
    rw [ht, show zd_tot K A B j + zd_sz (K j) (A j) (B j) - zd_tot K A B o = zd_tot K A B j - zd_tot K A B o + zd_sz (K j) (A j) (B j) by omega] at nx
    unfold zd_sz at nx
    rw [wY_slack_20]
    refine br_f (nI_ge (by omega) (by omega)) ⟨w, ?_⟩
    rw [e, ek, ef, es]
    refine pk_eq (K j) 0 (fun h0 => ⟨w, ?_⟩) (fun h0 => ⟨w, ?_⟩) rfl rfl (by omega) (by omega)
    · rw [if_pos h0] at nx
      rw [if_pos (Or.inl h0)]
      exact nm_r (nI_add _ _) (nm_r (nI_1 j) nx)
    · rw [if_neg h0] at nx
      refine pk_eq (K j) 1 (fun h1 => ⟨w, ?_⟩) (fun h1 => ?_) rfl rfl (by omega) (by omega)
      · rw [if_pos h1] at nx
        exact nm_r (nI_add _ _) (nm_r (nI_1 j) nx)
      · rw [if_neg h1, Nat.add_zero] at nx
        exact nm_r (nI_1 j) nx
theorem zy_slack (hn : n ≤ 256) (hon : o < n) (hI : zi_It K A B n cd bf kd fs sd) (h : post ((nI W - nI c) - nI (zd_tot K A B n - zd_tot K A B o))) : wpY_slack post (nI W, nI L, nI M, nI n, nI o, xe, nI l, nI c, kd, fs, sd, mo, al, ac, ym) := by
  refine br_f (fun z => by have := (nI_eq (by omega) (by omega)).mp z; omega) ⟨n - o + 1, ?_⟩
  refine zz_v (P := fun y => wY_slack_20 post (nI W) (nI L) (nI M) (nI n) (nI o) xe (nI l) (nI c) kd fs sd mo al ac ym (n - o + 1) y (nI o)) (show (0 : Int32) = nI (zd_tot K A B o - zd_tot K A B o) by rw [Nat.sub_self]; rfl) ?_
  exact zy_slL hn (Nat.le_of_lt hon) hI h (n - o) o (by omega) (Nat.le_refl o) (n - o + 1) (by omega)
theorem zy_llL {p v : Int32} (hn : n ≤ 256) (hon : o ≤ n) (hI : zi_It K A B n cd bf kd fs sd)
    (hv : ∀ j, j < o → K j = 1 ∨ K j = 2 → mo j = 3 → al j = p → ac j = v) (hx : (∀ j, j < o → K j = 1 ∨ K j = 2 → mo j = 3 → al j ≠ p) → nI c = v) (h : post v) :
    ∀ r j, j + r = o → (∀ i, i < j → K i = 1 ∨ K i = 2 → mo i = 3 → al i ≠ p) → ∀ f, r < f → wY_lineLength_16 post p (nI W) (nI L) (nI M) (nI n) (nI o) xe (nI l) (nI c) kd fs sd mo al ac ym f (nI j) := by
  intro r
  induction r with
  | zero =>
    intro j hj hp f hf
    obtain ⟨f, rfl⟩ : ∃ f', f = f' + 1 := ⟨f - 1, by omega⟩
    obtain rfl : j = o := by omega
    rw [← hx hp] at h
    exact br_t (nI_le (Nat.le_refl _) (by omega)) h
  | succ r ih =>
    intro j hj hp f hf
    obtain ⟨f, rfl⟩ : ∃ f', f = f' + 1 := ⟨f - 1, by omega⟩
    obtain ⟨ok, _, _, ek, ef, es⟩ := hI j (by omega)
    have e : (nI j).toNatClampNeg = j := nI_clamp (by omega)
    have w : vp_in (nI j) 256 := vp_in_nI (by omega) (by decide)
    have k4 := (zw_okb ok).1
    have nx : ¬ ((K j = 1 ∨ K j = 2) ∧ mo j = 3 ∧ al j = p) → wY_lineLength_16 post p (nI W) (nI L) (nI M) (nI n) (nI o) xe (nI l) (nI c) kd fs sd mo al ac ym f (nI (j + 1)) := fun z =>
      ih (j + 1) (by omega) (fun i hi hk hm ha => by
        by_cases hij : i = j
        · subst hij; exact z ⟨hk, hm, ha⟩
        · exact hp i (by omega) hk hm ha) f (by omega)
    have some : K j = 1 ∨ K j = 2 → wY_lineLength_44 post (wY_lineLength_16 post p (nI W) (nI L) (nI M) (nI n) (nI o) xe (nI l) (nI c) kd fs sd mo al ac ym f) p (nI j) (nI W) (nI L) (nI M) (nI n) (nI o) xe (nI l) (nI c) kd fs sd mo al ac ym := by
      intro hk
      unfold wY_lineLength_44 wY_lineLength_49
      rw [e]
      refine br_f (by decide) ⟨w, ?_⟩
      by_cases hm : mo j = 3
      · refine br_t hm ⟨w, ?_⟩
        by_cases ha : al j = p
        · refine br_t ha ⟨w, ?_⟩
          rw [hv j (by omega) hk hm ha]
          exact h
        · exact br_f ha (nm_r (nI_1 j) (nx fun z => ha z.2.2))
      · exact br_f hm (nm_r (nI_1 j) (nx fun z => hm z.2.1))
    rw [wY_lineLength_16]
    refine br_f (nI_ge (by omega) (by omega)) ⟨w, ?_⟩
    rw [e, ek]
    refine pk_eq (K j) 1 (fun h1 => some (Or.inl h1)) (fun h1 => ⟨w, ?_⟩) rfl rfl (by omega) (by omega)
    refine pk_eq (K j) 2 (fun h2 => some (Or.inr h2)) (fun h2 => ?_) rfl rfl (by omega) (by omega)
    exact br_t rfl (nm_r (nI_1 j) (nx fun z => by omega))
theorem zy_ll {p v : Int32} (hn : n ≤ 256) (hon : o ≤ n) (hI : zi_It K A B n cd bf kd fs sd) (h0 : ¬ p < 0) (hl : p ≤ nI l)
    (hv : ∀ j, j < o → K j = 1 ∨ K j = 2 → mo j = 3 → al j = p → ac j = v) (hx : (∀ j, j < o → K j = 1 ∨ K j = 2 → mo j = 3 → al j ≠ p) → nI c = v) (h : post v) : wpY_lineLength post (nI W, nI L, nI M, nI n, nI o, xe, nI l, nI c, kd, fs, sd, mo, al, ac, ym) p :=
  br_f h0 (br_t hl ⟨o + 1, zy_llL hn hon hI hv hx h o 0 (Nat.zero_add o) (fun i hi => by omega) (o + 1) (Nat.lt_succ_self o)⟩)
theorem zy_chL {AL AC : Nat → Nat} {p q : Nat} {v : Int32} (hn : n ≤ 256) (hon : o ≤ n) (hp : p < 1000) (hq : q < 20000) (hI : zi_It K A B n cd bf kd fs sd)
    (hA : ∀ j, j < o → al j = nI (AL j) ∧ ac j = nI (AC j) ∧ AL j < 1000 ∧ AC j < 20000)
    (hv : ∀ j, j < o → zl_mt K B AL AC j p q → nI (A j) = v) (hx : (∀ j, j < o → ¬ zl_mt K B AL AC j p q) → 32 = v) (h : post v) :
    ∀ r j, j + r = o → (∀ i, i < j → ¬ zl_mt K B AL AC i p q) → ∀ f, r < f → wY_charAt_25 post (nI p) (nI q) (nI W) (nI L) (nI M) (nI n) (nI o) xe (nI l) (nI c) kd fs sd mo al ac ym f (nI j) := by
  intro r
  induction r with
  | zero =>
    intro j hj hm f hf
    obtain ⟨f, rfl⟩ : ∃ f', f = f' + 1 := ⟨f - 1, by omega⟩
    obtain rfl : j = o := by omega
    rw [← hx hm] at h
    exact br_t (nI_le (Nat.le_refl _) (by omega)) h
  | succ r ih =>
    intro j hj hm f hf
    obtain ⟨f, rfl⟩ : ∃ f', f = f' + 1 := ⟨f - 1, by omega⟩
    obtain ⟨ok, _, _, ek, ef, es⟩ := hI j (by omega)
    obtain ⟨a1, a2, a3, a4⟩ := hA j (by omega)
    have e : (nI j).toNatClampNeg = j := nI_clamp (by omega)
    have w : vp_in (nI j) 256 := vp_in_nI (by omega) (by decide)
    have k4 := zw_okb ok
    have nx : ¬ zl_mt K B AL AC j p q → wY_charAt_25 post (nI p) (nI q) (nI W) (nI L) (nI M) (nI n) (nI o) xe (nI l) (nI c) kd fs sd mo al ac ym f (nI (j + 1)) := fun z =>
      ih (j + 1) (by omega) (fun i hi => by
        by_cases hij : i = j
        · subst hij; exact z
        · exact hm i (by omega)) f (by omega)
    rw [wY_charAt_25]
    refine br_f (nI_ge (by omega) (by omega)) ⟨w, ?_⟩
    rw [e, ek, ef, es, a1, a2]
    refine pk_eq (K j) 0 (fun h0 => ⟨w, ?_⟩) (fun h0 => nm_r (nI_1 j) (nx fun z => h0 z.1)) rfl rfl (by omega) (by omega)
    rw [if_pos (Or.inl h0), nI_add]
    refine pk_eq (AL j) p (fun h1 => ⟨w, ?_⟩) (fun h1 => nm_r (nI_1 j) (nx fun z => h1 z.2.1)) rfl rfl (by omega) (by omega)
    refine pk_lt q (AC j) (fun h2 => nm_r (nI_1 j) (nx fun z => by have := z.2.2.1; omega)) (fun h2 => ⟨w, w, ?_⟩) rfl rfl (by omega) (by omega)
    refine pk_le (AC j + B j) q (fun h3 => nm_r (nI_1 j) (nx fun z => by have := z.2.2.2; omega)) (fun h3 => ⟨w, ?_⟩) rfl rfl (by omega) (by omega)
    rw [hv j (by omega) ⟨h0, h1, h2, h3⟩]
    exact h
end
end
section
/-! the relation -/
def zr_F (W L M n o l c g z tc H : Nat) (xe : Int32) (K A B G S AL AC : Nat → Nat) (cd bf re ns fc so sb tl gs gm gd ce ls mo al ac kd fs sd ym : Nat → Int32) : Prop :=
  (4 ≤ W ∧ W ≤ 40 ∧ 16 ≤ L ∧ L ≤ 96 ∧ M + 1 ≤ W) ∧ (o ≤ n ∧ n ≤ 256 ∧ n ≤ o + L ∧ (xe = 0 ∨ xe = 1)) ∧
  zi_It K A B n cd bf kd fs sd ∧ ((∀ j, j ≤ n → zd_dep K j ≤ 16) ∧ (∀ j, j < n → K j = 4 → 0 < zd_dep K j)) ∧
  zs_Sc K (zd_tot K A B) (fun i => zw_wk K A B i n) (zd_dep K n) (zd_tot K A B n) n H tc re ns fc so sb tl ∧
  zg_Gr K A G o g gs gm gd mo ym ∧ zl_Ln K A B S AL AC o l c z ce ls mo al ac
def zr_R (n o : Nat) (u : SX) (v : SY) : Prop := ∃ (W L M l c g z tc H : Nat) (xe : Int32) (K A B G S AL AC : Nat → Nat) (cd bf re ns fc so sb tl gs gm gd ce ls mo al ac kd fs sd ym : Nat → Int32),
  zr_F W L M n o l c g z tc H xe K A B G S AL AC cd bf re ns fc so sb tl gs gm gd ce ls mo al ac kd fs sd ym ∧ u = (nI W, nI L, nI M, nI n, nI o, xe, nI (zd_tot K A B n), nI (zd_dep K n), nI tc, zz_p H, nI l, nI c, nI g, nI z, cd, bf, re, ns, fc, so, sb, tl, gs, gm, gd, ce, ls, mo, al, ac) ∧ v = (nI W, nI L, nI M, nI n, nI o, xe, nI l, nI c, kd, fs, sd, mo, al, ac, ym)
theorem zr_el {n o : Nat} {P : SX → SY → Prop} {u : SX} {v : SY} (I : zr_R n o u v) (h : ∀ (W L M l c g z tc H : Nat) (xe : Int32) (K A B G S AL AC : Nat → Nat) (cd bf re ns fc so sb tl gs gm gd ce ls mo al ac kd fs sd ym : Nat → Int32), zr_F W L M n o l c g z tc H xe K A B G S AL AC cd bf re ns fc so sb tl gs gm gd ce ls mo al ac kd fs sd ym → P (nI W, nI L, nI M, nI n, nI o, xe, nI (zd_tot K A B n), nI (zd_dep K n), nI tc, zz_p H, nI l, nI c, nI g, nI z, cd, bf, re, ns, fc, so, sb, tl, gs, gm, gd, ce, ls, mo, al, ac) (nI W, nI L, nI M, nI n, nI o, xe, nI l, nI c, kd, fs, sd, mo, al, ac, ym)) : P u v :=
  Exists.elim I fun W I => Exists.elim I fun L I => Exists.elim I fun M I => Exists.elim I fun l I => Exists.elim I fun c I => Exists.elim I fun g I => Exists.elim I fun z I => Exists.elim I fun tc I => Exists.elim I fun H I => Exists.elim I fun xe I => Exists.elim I fun K I => Exists.elim I fun A I => Exists.elim I fun B I => Exists.elim I fun G I => Exists.elim I fun S I => Exists.elim I fun AL I => Exists.elim I fun AC I => Exists.elim I fun cd I => Exists.elim I fun bf I => Exists.elim I fun re I => Exists.elim I fun ns I => Exists.elim I fun fc I => Exists.elim I fun so I => Exists.elim I fun sb I => Exists.elim I fun tl I => Exists.elim I fun gs I => Exists.elim I fun gm I => Exists.elim I fun gd I => Exists.elim I fun ce I => Exists.elim I fun ls I => Exists.elim I fun mo I => Exists.elim I fun al I => Exists.elim I fun ac I => Exists.elim I fun kd I => Exists.elim I fun fs I => Exists.elim I fun sd I => Exists.elim I fun ym I =>
  show P u v from by rw [I.2.1, I.2.2]; exact h W L M l c g z tc H xe K A B G S AL AC cd bf re ns fc so sb tl gs gm gd ce ls mo al ac kd fs sd ym I.1
theorem zr_in {n o : Nat} {W L M l c g z tc H : Nat} {xe : Int32} {K A B G S AL AC : Nat → Nat} {cd bf re ns fc so sb tl gs gm gd ce ls mo al ac kd fs sd ym : Nat → Int32} (h : zr_F W L M n o l c g z tc H xe K A B G S AL AC cd bf re ns fc so sb tl gs gm gd ce ls mo al ac kd fs sd ym) : zr_R n o (nI W, nI L, nI M, nI n, nI o, xe, nI (zd_tot K A B n), nI (zd_dep K n), nI tc, zz_p H, nI l, nI c, nI g, nI z, cd, bf, re, ns, fc, so, sb, tl, gs, gm, gd, ce, ls, mo, al, ac) (nI W, nI L, nI M, nI n, nI o, xe, nI l, nI c, kd, fs, sd, mo, al, ac, ym) :=
  ⟨W, L, M, l, c, g, z, tc, H, xe, K, A, B, G, S, AL, AC, cd, bf, re, ns, fc, so, sb, tl, gs, gm, gd, ce, ls, mo, al, ac, kd, fs, sd, ym, h, rfl, rfl⟩
section
variable {W L M n o T d tc H l c g z : Nat} {xe : Int32} {cd bf re ns fc so sb tl gs gm gd ce ls mo al ac kd fs sd ym : Nat → Int32} {K A B G S AL AC : Nat → Nat}
/-- one step of both, in lockstep -/
theorem zr_step (hF : zr_F W L M n o l c g z tc H xe K A B G S AL AC cd bf re ns fc so sb tl gs gm gd ce ls mo al ac kd fs sd ym) (ho : o < n) :
    ((∀ post : Int32 → SX → Prop, post 0 (nI W, nI L, nI M, nI n, nI o, xe, nI (zd_tot K A B n), nI (zd_dep K n), nI tc, zz_p H, nI l, nI c, nI g, nI z, cd, bf, re, ns, fc, so, sb, tl, gs, gm, gd, ce, ls, mo, al, ac) → wpX_step post (nI W, nI L, nI M, nI n, nI o, xe, nI (zd_tot K A B n), nI (zd_dep K n), nI tc, zz_p H, nI l, nI c, nI g, nI z, cd, bf, re, ns, fc, so, sb, tl, gs, gm, gd, ce, ls, mo, al, ac) (nI o)) ∧ (∀ post : Int32 → SY → Prop, post 0 (nI W, nI L, nI M, nI n, nI o, xe, nI l, nI c, kd, fs, sd, mo, al, ac, ym) → wpY_step post (nI W, nI L, nI M, nI n, nI o, xe, nI l, nI c, kd, fs, sd, mo, al, ac, ym))) ∨
    ∃ u' v', zr_R n (o + 1) u' v' ∧ (∀ post : Int32 → SX → Prop, post 1 u' → wpX_step post (nI W, nI L, nI M, nI n, nI o, xe, nI (zd_tot K A B n), nI (zd_dep K n), nI tc, zz_p H, nI l, nI c, nI g, nI z, cd, bf, re, ns, fc, so, sb, tl, gs, gm, gd, ce, ls, mo, al, ac) (nI o)) ∧ (∀ post : Int32 → SY → Prop, post 1 v' → wpY_step post (nI W, nI L, nI M, nI n, nI o, xe, nI l, nI c, kd, fs, sd, mo, al, ac, ym)) := by
  obtain ⟨⟨w1, w2, w3, w4, w5⟩, ⟨n1, n2, n3, he⟩, hI, ⟨hd1, hd2⟩, hS, hG, hL⟩ := hF
  obtain ⟨ok, ecd, ebf, ek, ef, es⟩ := hI o ho
  obtain ⟨b1, b2, b3, b4⟩ := zw_okb ok
  have hg16 : g ≤ 16 := by rw [hG.1]; exact hd1 o (by omega)
  have hz : z ≤ 39 * o := hL.2.2.2.2.2.2.2.1
  have hlo : l ≤ o := hL.2.2.2.2.2.2.2.2
  have hcz : S l + c = z := hL.2.2.1
  have hT := zd_totb (fun j hj => (hI j hj).1) n (Nat.le_refl n)
  have hH := hS.2.2.2.2.2
  rcases ewk : zw_wk K A B o n with ⟨q, x, a, f, t⟩
  -- the verdicts
  have vX : K o = 1 ∨ K o = 3 → ∀ P : Int32 → Prop, P (zv_v W c xe x f t) → wpX_verdict P (nI W, nI L, nI M, nI n, nI o, xe, nI (zd_tot K A B n), nI (zd_dep K n), nI tc, zz_p H, nI l, nI c, nI g, nI z, cd, bf, re, ns, fc, so, sb, tl, gs, gm, gd, ce, ls, mo, al, ac) (nI o) := fun hk P hP =>
    zx_verdict (by omega) w2 (by omega) (by omega) (by omega) ebf (hS.1 o ho hk q x a f t ewk) hP
  have vY : ∀ P : Int32 → Prop, P (zv_v W c xe x f t) → wpY_verdict P (nI W, nI L, nI M, nI n, nI o, xe, nI l, nI c, kd, fs, sd, mo, al, ac, ym) (nI o) := fun P hP =>
    zy_verdict n2 ho w2 (by omega) hI ewk hP
  have both : ∀ {o' l' c' g' z' : Nat} {G' S' AL' AC' : Nat → Nat} {gs' gm' gd' ce' ls' mo' al' ac' ym' : Nat → Int32}, o' = o + 1 →
      zg_Gr K A G' o' g' gs' gm' gd' mo' ym' → zl_Ln K A B S' AL' AC' o' l' c' z' ce' ls' mo' al' ac' →
      zr_R n o' (nI W, nI L, nI M, nI n, nI o', xe, nI (zd_tot K A B n), nI (zd_dep K n), nI tc, zz_p H, nI l', nI c', nI g', nI z', cd, bf, re, ns, fc, so, sb, tl, gs', gm', gd', ce', ls', mo', al', ac') (nI W, nI L, nI M, nI n, nI o', xe, nI l', nI c', kd, fs, sd, mo', al', ac', ym') := fun e hG' hL' => zr_in ⟨⟨w1, w2, w3, w4, w5⟩, ⟨by omega, n2, by omega, he⟩, hI, ⟨hd1, hd2⟩, hS, hG', hL'⟩
  by_cases k0 : K o = 0
  · -- TEXT
    refine Or.inr ⟨_, _, both rfl (zg_none hG (by omega) (by omega) 1) (zl_put hL (m := B o) (v := nI (A o)) (md := 1) (by omega) (Or.inl ⟨k0, rfl, rfl⟩)), fun post h => ?_, fun post h => ?_⟩
    · exact zx_step_t (by omega) (by rw [ecd, k0]) b2 b3 (by omega) h
    · exact zy_step_t n2 ho hI hG (by rw [ek, k0]) (by rw [es, if_pos (Or.inl k0)]) h
  by_cases k1 : K o = 1
  · -- BREAK
    have es : sd o = nI (B o) - 8 := by rw [es, if_neg (by omega)]
    have mX : ∀ P : Int32 → Prop, P (zv_b (gd g) (gs g) (zv_v W c xe x f t)) → wpX_modeFor P (nI W, nI L, nI M, nI n, nI o, xe, nI (zd_tot K A B n), nI (zd_dep K n), nI tc, zz_p H, nI l, nI c, nI g, nI z, cd, bf, re, ns, fc, so, sb, tl, gs, gm, gd, ce, ls, mo, al, ac) (nI o) 1 := fun P hP => br_t rfl (zx_breakMode (by omega) (vX (Or.inl k1)) hP)
    have mY : ∀ P : Int32 → Prop, P (zv_b (gd g) (gs g) (zv_v W c xe x f t)) → wpY_breakMode P (nI W, nI L, nI M, nI n, nI o, xe, nI l, nI c, kd, fs, sd, mo, al, ac, ym) (nI o) := fun P hP => zy_breakMode n2 (by omega) hI hG vY hP
    by_cases m0 : zv_b (gd g) (gs g) (zv_v W c xe x f t) = 0
    · rw [m0] at mX mY
      refine Or.inl ⟨fun post h => ?_, fun post h => ?_⟩
      · exact zx_step_no (k := 1) (by omega) (by rw [ecd, k1]) (by omega) b2 b3 mX h
      · exact zy_step_no (k := 1) n2 ho (by rw [ek, k1]) (Or.inl ⟨rfl, mY⟩) h
    by_cases m2 : zv_b (gd g) (gs g) (zv_v W c xe x f t) = 2
    · rw [m2] at mX mY
      refine Or.inr ⟨_, _, both rfl (zg_none hG (by omega) (by omega) 2) (zl_put hL (m := A o) (v := 32) (md := 2) (by unfold zd_sz at b4; rw [if_neg k0, if_pos k1] at b4; omega) (Or.inr ⟨k0, rfl, fun _ => by decide⟩)), fun post h => ?_, fun post h => ?_⟩
      · exact zx_step_f (by omega) (by rw [ecd, k1]) b2 b3 (by unfold zd_sz at b4; rw [if_neg k0, if_pos k1] at b4; omega) mX h
      · exact zy_step_f n2 ho hI hG (by rw [ek, k1]) ef mY h
    · rw [zv_b3 (fun p1 p2 => zv_n p1 p2) m0 m2] at mX mY
      obtain ⟨m, hm, em⟩ := zx_clN (gm g + (nI (B o) - 8)) M (by omega)
      refine Or.inr ⟨_, _, both rfl (zg_none hG (by omega) (by omega) 3) (zl_line hL (m := m) (by omega) (Or.inl k1)), fun post h => ?_, fun post h => ?_⟩
      · exact zx_step_l (k := 1) (by omega) (Or.inl rfl) (by rw [ecd, k1]) b2 b3 (by omega) (by omega) (by omega) mX em h
      · exact zy_step_l (k := 1) n2 ho hI hG (by rw [ek, k1]) es (Or.inl ⟨rfl, mY⟩) em h
  by_cases k2 : K o = 2
  · -- HARD
    have es : sd o = nI (B o) - 8 := by rw [es, if_neg (by omega)]
    obtain ⟨m, hm, em⟩ := zx_clN (gm g + (nI (B o) - 8)) M (by omega)
    refine Or.inr ⟨_, _, both rfl (zg_none hG (by omega) (by omega) 3) (zl_line hL (m := m) (by omega) (Or.inr k2)), fun post h => ?_, fun post h => ?_⟩
    · exact zx_step_l (k := 2) (by omega) (Or.inr rfl) (by rw [ecd, k2]) b2 b3 (by omega) (by omega) (by omega) (fun P hP => br_f (by decide) (br_f (by decide) (br_t rfl hP))) em h
    · exact zy_step_l (k := 2) n2 ho hI hG (by rw [ek, k2]) es (Or.inr rfl) em h
  by_cases k3 : K o = 3
  · -- OPEN
    have es : sd o = nI (B o) - 8 := by rw [es, if_neg (by omega)]
    have mX : ∀ P : Int32 → Prop, P (zv_v W c xe x f t) → wpX_modeFor P (nI W, nI L, nI M, nI n, nI o, xe, nI (zd_tot K A B n), nI (zd_dep K n), nI tc, zz_p H, nI l, nI c, nI g, nI z, cd, bf, re, ns, fc, so, sb, tl, gs, gm, gd, ce, ls, mo, al, ac) (nI o) 3 := fun P hP => br_f (by decide) (br_t rfl (vX (Or.inr k3) _ hP))
    by_cases m0 : zv_v W c xe x f t = 0
    · rw [m0] at mX vY
      refine Or.inl ⟨fun post h => ?_, fun post h => ?_⟩
      · exact zx_step_no (k := 3) (by omega) (by rw [ecd, k3]) (by omega) b2 b3 mX h
      · exact zy_step_no (k := 3) n2 ho (by rw [ek, k3]) (Or.inr ⟨rfl, vY⟩) h
    · have hg : g < 16 := by
        have := hd1 (o + 1) (by omega)
        have e : zd_dep K (o + 1) = if K o = 3 then zd_dep K o + 1 else if K o = 4 then zd_dep K o - 1 else zd_dep K o := rfl
        rw [e, if_pos k3, ← hG.1] at this
        omega
      have hLn := zl_put hL (m := 0) (v := 32) (md := zv_v W c xe x f t) (by omega) (Or.inr ⟨k0, rfl, fun z => by omega⟩)
      rw [zx_fill0] at hLn
      refine Or.inr ⟨_, _, both rfl (zg_open hG k3 (zv_v W c xe x f t) (zx_cl ((if (nI (A o) &&& 2) = 0 then gm g else nI c) + (nI (B o) - 8)) 0 (nI M))) hLn, fun post h => ?_, fun post h => ?_⟩
      · exact zx_step_o (by omega) (by rw [ecd, k3]) b2 b3 hg m0 mX h
      · exact zy_step_o n2 ho hI hG (by rw [ek, k3]) ef es m0 vY h
  · -- CLOSE
    have k4 : K o = 4 := by omega
    have hLn := zl_put hL (m := 0) (v := 32) (md := 1) (by omega) (Or.inr ⟨k0, rfl, fun z => by omega⟩)
    rw [zx_fill0] at hLn
    refine Or.inr ⟨_, _, both rfl (zg_close hG k4 1) hLn, fun post h => ?_, fun post h => ?_⟩
    · exact zx_step_c (by omega) (by rw [ecd, k4]) b2 b3 (by omega) h
    · exact zy_step_c n2 ho hI hG (by rw [ek, k4]) h
end
end
section
/-! settle: both in lockstep -/
def zr_xs (post : Int32 → SX → Prop) (x1 : Int32) (fu : Nat) (x2 : Int32) (u : SX) : Prop := match u with
  | (xw, xl, xm, xn, xo, xe, xt, xd, xk, xh, xi, xc, xg, xz, cd, bf, re, ns, fc, so, sb, tl, gs, gm, gd, ce, ls, mo, al, ac) => wX_settle_7 post x1 fu x2 xw xl xm xn xo xe xt xd xk xh xi xc xg xz cd bf re ns fc so sb tl gs gm gd ce ls mo al ac
def zr_ys (post : Int32 → SY → Prop) (x1 : Int32) (fu : Nat) (x2 x3 : Int32) (v : SY) : Prop := match v with
  | (xw, xl, xm, xn, xo, xe, xi, xc, kd, fs, sd, mo, al, ac, ym) => wY_settle_9 post x1 fu x2 x3 xw xl xm xn xo xe xi xc kd fs sd mo al ac ym
theorem zr_yend {post : Int32 → SY → Prop} {st : Int32} {fu : Nat} {x3 : Int32} {xw xl xm xn xo xe xi xc : Int32} {kd fs sd mo al ac ym : Nat → Int32} (h : post (xo - st) (xw, xl, xm, xn, xo, xe, xi, xc, kd, fs, sd, mo, al, ac, ym)) : wY_settle_9 post st (fu + 1) 0 x3 xw xl xm xn xo xe xi xc kd fs sd mo al ac ym :=
  br_c (fun _ => h) (fun _ => br_t rfl h)
theorem zr_settle {n : Nat} : ∀ m o u v, zr_R n o u v → n = o + m → ∃ o' u' v', zr_R n o' u' v' ∧
    (∀ (post : Int32 → SX → Prop) (st : Int32) (fu : Nat), m < fu → post (nI o' - st) u' → zr_xs post st fu (nI o) u) ∧
    (∀ (post : Int32 → SY → Prop) (st : Int32) (fu t : Nat), m + 1 < fu → t + m ≤ 256 → post (nI o' - st) v' → zr_ys post st fu 1 (nI t) v) := by
  intro m
  induction m with
  | zero =>
    intro o u v I
    refine zr_el (P := fun u v => zr_R n o u v → n = o + 0 → ∃ o' u' v', zr_R n o' u' v' ∧
      (∀ (post : Int32 → SX → Prop) (st : Int32) (fu : Nat), 0 < fu → post (nI o' - st) u' → zr_xs post st fu (nI o) u) ∧
      (∀ (post : Int32 → SY → Prop) (st : Int32) (fu t : Nat), 0 + 1 < fu → t + 0 ≤ 256 → post (nI o' - st) v' → zr_ys post st fu 1 (nI t) v)) I ?_ I
    intro W L M l c g z tc H xe K A B G S AL AC cd bf re ns fc so sb tl gs gm gd ce ls mo al ac kd fs sd ym hF R hno
    obtain rfl : n = o := by omega
    have n2 : n ≤ 256 := hF.2.1.2.1
    refine ⟨n, _, _, R, fun post st fu hfu h => ?_, fun post st fu t hfu ht h => ?_⟩
    · obtain ⟨fu, rfl⟩ : ∃ f', fu = f' + 1 := ⟨fu - 1, by omega⟩
      exact br_t (nI_le (Nat.le_refl _) (by omega)) h
    · obtain ⟨fu, rfl⟩ : ∃ f', fu = f' + 1 + 1 := ⟨fu - 2, by omega⟩
      by_cases h256 : t = 256
      · subst h256
        exact br_t (nI_le (b := 256) (Nat.le_refl _) (by decide)) h
      · exact br_f (nI_ge (b := 256) (by omega) (by decide)) (br_f (by decide) (br_f (nI_nlt (Nat.le_refl _) (by omega)) (nm_e (zr_yend h))))
  | succ m ih =>
    intro o u v I
    refine zr_el (P := fun u v => zr_R n o u v → n = o + (m + 1) → ∃ o' u' v', zr_R n o' u' v' ∧
      (∀ (post : Int32 → SX → Prop) (st : Int32) (fu : Nat), m + 1 < fu → post (nI o' - st) u' → zr_xs post st fu (nI o) u) ∧
      (∀ (post : Int32 → SY → Prop) (st : Int32) (fu t : Nat), m + 1 + 1 < fu → t + (m + 1) ≤ 256 → post (nI o' - st) v' → zr_ys post st fu 1 (nI t) v)) I ?_ I
    intro W L M l c g z tc H xe K A B G S AL AC cd bf re ns fc so sb tl gs gm gd ce ls mo al ac kd fs sd ym hF R hno
    have n2 : n ≤ 256 := hF.2.1.2.1
    rcases zr_step hF (by omega) with ⟨hX, hY⟩ | ⟨u1, v1, R1, hX, hY⟩
    · refine ⟨o, _, _, R, fun post st fu hfu h => ?_, fun post st fu t hfu ht h => ?_⟩
      · obtain ⟨fu, rfl⟩ : ∃ f', fu = f' + 1 := ⟨fu - 1, by omega⟩
        exact br_f (nI_ge (by omega) (by omega)) (hX _ (br_t rfl h))
      · obtain ⟨fu, rfl⟩ : ∃ f', fu = f' + 1 + 1 := ⟨fu - 2, by omega⟩
        exact br_f (nI_ge (b := 256) (by omega) (by decide)) (br_f (by decide) (hY _ (nm_e (zr_yend h))))
    · obtain ⟨o', u', v', R', iX, iY⟩ := ih (o + 1) u1 v1 R1 (by omega)
      obtain ⟨u0, u1, u2, u3, u4, u5, u6, u7, u8, u9, u10, u11, u12, u13, u14, u15, u16, u17, u18, u19, u20, u21, u22, u23, u24, u25, u26, u27, u28, u29⟩ := u1
      obtain ⟨v0, v1, v2, v3, v4, v5, v6, v7, v8, v9, v10, v11, v12, v13, v14⟩ := v1
      refine ⟨o', u', v', R', fun post st fu hfu h => ?_, fun post st fu t hfu ht h => ?_⟩
      · obtain ⟨fu, rfl⟩ : ∃ f', fu = f' + 1 := ⟨fu - 1, by omega⟩
        exact br_f (nI_ge (by omega) (by omega)) (hX _ (br_f (by decide) (nm_r (nI_1 o) (iX post st fu (by omega) h))))
      · obtain ⟨fu, rfl⟩ : ∃ f', fu = f' + 1 := ⟨fu - 1, by omega⟩
        exact br_f (nI_ge (b := 256) (by omega) (by decide)) (br_f (by decide) (hY _ (nm_r (nI_1 t) (iY post st fu (t + 1) (by omega) (by omega) h))))
/-- both settle, with one answer -/
theorem zr_settle2 {n o : Nat} {u : SX} {v : SY} (I : zr_R n o u v) : ∃ r o' u' v', zr_R n o' u' v' ∧ (∀ post : Int32 → SX → Prop, post r u' → wpX_settle post u) ∧ (∀ post : Int32 → SY → Prop, post r v' → wpY_settle post v) := by
  refine zr_el (P := fun u v => zr_R n o u v → ∃ r o' u' v', zr_R n o' u' v' ∧ (∀ post : Int32 → SX → Prop, post r u' → wpX_settle post u) ∧ (∀ post : Int32 → SY → Prop, post r v' → wpY_settle post v)) I ?_ I
  intro W L M l c g z tc H xe K A B G S AL AC cd bf re ns fc so sb tl gs gm gd ce ls mo al ac kd fs sd ym hF R
  have n1 : o ≤ n := hF.2.1.1
  have n2 : n ≤ 256 := hF.2.1.2.1
  obtain ⟨o', u', v', R', hX, hY⟩ := zr_settle (n - o) o _ _ R (by omega)
  exact ⟨nI o' - nI o, o', u', v', R', fun post h => ⟨n - o + 1, hX post (nI o) (n - o + 1) (by omega) h⟩, fun post h => ⟨n - o + 2, hY post (nI o) (n - o + 2) 0 (by omega) (by omega) h⟩⟩
end
section
/-! a new item: the scanner, then both add it and settle -/
section
variable {xw xl xm xn xo xe xt xd xk xh xi xc xg xz : Int32} {cd bf re ns fc so sb tl gs gm gd ce ls mo al ac : Nat → Int32} {K A B K' A' B' : Nat → Nat} {n H tc k a b : Nat}
theorem zr_scan (hn : n < 256) (hS : zs_Sc K (zd_tot K A B) (fun i => zw_wk K A B i n) (zd_dep K n) (zd_tot K A B n) n H tc re ns fc so sb tl) (hd : zd_dep K n ≤ 16)
    (hk : k ≤ 4) (h3 : k = 3 → zd_dep K n < 16) (h4 : k = 4 → 0 < zd_dep K n) (eK : K' = zn_u K n k) (eA : A' = zn_u A n a) (eB : B' = zn_u B n b) :
    ∃ H' tc' re' ns' fc' so' sb' tl', zs_Sc K' (zd_tot K' A' B') (fun i => zw_wk K' A' B' i (n + 1)) (zd_dep K' (n + 1)) (zd_tot K' A' B' (n + 1)) (n + 1) H' tc' re' ns' fc' so' sb' tl' ∧
      ∀ post : SX → Prop, post (xw, xl, xm, xn, xo, xe, nI (zd_tot K A B n), nI (zd_dep K' (n + 1)), nI tc', zz_p H', xi, xc, xg, xz, cd, bf, re', ns', fc', so', sb', tl', gs, gm, gd, ce, ls, mo, al, ac) →
        wpX_scan post (xw, xl, xm, xn, xo, xe, nI (zd_tot K A B n), nI (zd_dep K n), nI tc, zz_p H, xi, xc, xg, xz, cd, bf, re, ns, fc, so, sb, tl, gs, gm, gd, ce, ls, mo, al, ac) (nI n) (nI k) := by
  have hA : ∀ j, j < n → K' j = K j ∧ A' j = A j ∧ B' j = B j := fun j hj => by
    rw [eK, eA, eB, zn_un (by omega), zn_un (by omega), zn_un (by omega)]; exact ⟨rfl, rfl, rfl⟩
  have kn : K' n = k := by rw [eK, zn_us]
  have an : A' n = a := by rw [eA, zn_us]
  have bn : B' n = b := by rw [eB, zn_us]
  have S0 : zs_Sc K' (zd_tot K' A' B') (fun i => zw_wk K' A' B' i n) (zd_dep K n) (zd_tot K A B n) n H tc re ns fc so sb tl :=
    zs_congr (fun i hi => (hA i hi).1) (fun i hi => zd_tot_c i fun j hj => hA j (by omega)) (fun i hi _ => zw_wk_c n hi hA) hS
  have hT : zd_tot K' A' B' (n + 1) = zd_tot K A B n + zd_sz k a b := by
    show zd_tot K' A' B' n + zd_sz (K' n) (A' n) (B' n) = _
    rw [zd_tot_c n hA, kn, an, bn]
  have hTn : zd_tot K' A' B' n = zd_tot K A B n := zd_tot_c n hA
  have hD : zd_dep K' (n + 1) = if k = 3 then zd_dep K n + 1 else if k = 4 then zd_dep K n - 1 else zd_dep K n := by
    show (if K' n = 3 then zd_dep K' n + 1 else if K' n = 4 then zd_dep K' n - 1 else zd_dep K' n) = _
    rw [zd_dep_c n fun j hj => (hA j hj).1, kn]
  have wS : ∀ i, i < n → zw_wk K' A' B' i (n + 1) = zw_st (K' i) k a b (zw_wk K' A' B' i n) := fun i hi => by rw [zw_s hi, kn, an, bn]
  have wN : zw_wk K' A' B' n (n + 1) = (1, if k = 1 then a else 0, true, false, false) := by rw [zw_i, kn, an]
  clear eK eA eB hS
  rw [hT, hD]
  obtain ⟨_, c2, c3, c4, c5, c6⟩ := S0
  have S0 : zs_Sc K' (zd_tot K' A' B') (fun i => zw_wk K' A' B' i n) (zd_dep K n) (zd_tot K A B n) n H tc re ns fc so sb tl := ⟨by assumption, c2, c3, c4, c5, c6⟩
  generalize zd_dep K n = d at *
  generalize zd_tot K A B n = T at *
  have htl : ∀ q, q < tc → ∃ i, i < 256 ∧ tl q = nI i := fun q hq => by
    obtain ⟨i, _, _, _, hi, e, _⟩ := c4 q hq
    exact ⟨i, by omega, e⟩
  by_cases k0 : k = 0
  · subst k0
    refine ⟨H, tc, re, ns, fc, so, sb, tl, ?_, fun post h => zx_scan0 h⟩
    refine zs_congr (fun _ _ => rfl) (fun _ _ => rfl) (fun i hi hki => ?_) (zs_newT (zs_grow S0 b) kn)
    have hin : i < n := by
      have : i ≠ n := fun z => by rw [z] at hki; omega
      omega
    show zw_wk K' A' B' i (n + 1) = zs_ad b (zw_wk K' A' B' i n)
    rw [wS i hin, zs_0]
  by_cases k1 : k = 1
  · subst k1
    have St := zs_tails (by omega) S0
    rcases c3 d (Nat.le_refl d) with hs | ⟨s, _, _, _, hsn, hs, _⟩
    · have S3 := zs_grow (zs_sec0 (by omega) St hs) a
      have S4 := zs_congr (w' := fun i => zw_wk K' A' B' i (n + 1)) (fun _ _ => rfl) (fun _ _ => rfl) (fun i hi hki => by
        show zw_wk K' A' B' i (n + 1) = zs_ad a (zs_fS (K' i) (zs_fT (zw_wk K' A' B' i n)))
        rw [wS i hi, zs_1]) S3
      have S5 := zs_newB hn S4 kn hs wN (by rw [hTn]; rfl)
      exact ⟨H, 0, _, _, _, _, _, _, S5, fun post h => zx_scan1_0 (by omega) htl (by omega) hs hn h⟩
    · have S3 := zs_grow (zs_sec1 (by omega) St hs (by omega)) a
      have S4 := zs_congr (w' := fun i => zw_wk K' A' B' i (n + 1)) (fun _ _ => rfl) (fun _ _ => rfl) (fun i hi hki => by
        show zw_wk K' A' B' i (n + 1) = zs_ad a (zs_fS (K' i) (zs_fT (zw_wk K' A' B' i n)))
        rw [wS i hi, zs_1]) S3
      have S5 := zs_newB hn S4 kn pk_us wN (by rw [hTn]; rfl)
      exact ⟨H, 0, _, _, _, _, _, _, S5, fun post h => zx_scan1_1 (by omega) htl (by omega) hs (by omega) (by omega) hn h⟩
  by_cases k2 : k = 2
  · subst k2
    have St := zs_tails (by omega) S0
    rcases c3 d (Nat.le_refl d) with hs | ⟨s, _, _, _, hsn, hs, _⟩
    · have S3 := zs_newH (zs_sec0 (by omega) St hs) kn
      have S4 := zs_congr (w' := fun i => zw_wk K' A' B' i (n + 1)) (fun _ _ => rfl) (fun _ _ => rfl) (fun i hi hki => by
        have hin : i < n := by
          have : i ≠ n := fun z => by rw [z] at hki; omega
          omega
        show zw_wk K' A' B' i (n + 1) = zs_fH (zs_fS (K' i) (zs_fT (zw_wk K' A' B' i n)))
        rw [wS i hin, zs_2]) S3
      exact ⟨n + 1, 0, _, _, _, _, _, _, S4, fun post h => zx_scan2_0 (by omega) htl (by omega) hs h⟩
    · have S3 := zs_newH (zs_sec1 (by omega) St hs (by omega)) kn
      have S4 := zs_congr (w' := fun i => zw_wk K' A' B' i (n + 1)) (fun _ _ => rfl) (fun _ _ => rfl) (fun i hi hki => by
        have hin : i < n := by
          have : i ≠ n := fun z => by rw [z] at hki; omega
          omega
        show zw_wk K' A' B' i (n + 1) = zs_fH (zs_fS (K' i) (zs_fT (zw_wk K' A' B' i n)))
        rw [wS i hin, zs_2]) S3
      exact ⟨n + 1, 0, _, _, _, _, _, _, S4, fun post h => zx_scan2_1 (by omega) htl (by omega) hs (by omega) (by omega) h⟩
  by_cases k3 : k = 3
  · subst k3
    have hd16 := h3 rfl
    have S5 := zs_newO (w' := fun i => zw_wk K' A' B' i (n + 1)) hn S0 kn (fun i hi _ => by
      show zw_wk K' A' B' i (n + 1) = zs_op (zw_wk K' A' B' i n)
      rw [wS i hi, zs_3]) wN (by rw [hTn]; rfl)
    exact ⟨H, tc, _, _, _, _, _, _, S5, fun post h => zx_scan3 hd16 hn h⟩
  · have k4 : k = 4 := by omega
    subst k4
    obtain ⟨d, rfl⟩ : ∃ d', d = d' + 1 := ⟨d - 1, by have := h4 rfl; omega⟩
    have wC : ∀ i, i < n → K' i = 1 ∨ K' i = 3 → zw_wk K' A' B' i (n + 1) = zs_cl (zw_wk K' A' B' i n) := fun i hi _ => by rw [wS i hi, zs_4]
    obtain ⟨i1, q1, x1, f1, hi1, ho, hK1, hw1, _⟩ := c2 (d + 1) (by omega) (Nat.le_refl _)
    rw [zs_nb_s] at c5
    rcases c3 (d + 1) (Nat.le_refl _) with hs | ⟨i2, q2, x2, f2, hi2, hs, hK2, hw2, _⟩
    · rw [if_pos hs] at c5
      have S5 := zs_newC (w' := fun i => zw_wk K' A' B' i (n + 1)) (i1 := i1) (tc' := tc + 1) (ns' := upd ns i1 0) (fc' := upd fc i1 (zz_b (decide (i1 + 1 < H)))) (tl' := upd tl tc (nI i1)) hn S0 kn wC (by omega) ho
        (fun i hin hi => by
          rcases hi with rfl | hi
          · exact ⟨pk_us, pk_us, tc, by omega, pk_us⟩
          · rw [hs] at hi
            exact absurd hi.symm (zz_nm (by omega)))
        (fun i hi hne _ => ⟨pk_un hne, pk_un hne⟩) (fun q hq => pk_un (by omega)) (by omega)
        (fun q hq1 hq2 => Or.inl (by obtain rfl : q = tc := by omega
                                     exact pk_us)) (by omega)
      exact ⟨H, tc + 1, _, _, _, _, _, _, S5, fun post h => zx_scan4_0 (by omega) ho (by omega) (by omega) (by omega) hs h⟩
    · rw [hs, if_neg (zz_nm (by omega))] at c5
      have hne : i1 ≠ i2 := fun z => by rw [z] at hK1; omega
      have S5 := zs_newC (w' := fun i => zw_wk K' A' B' i (n + 1)) (i1 := i1) (tc' := tc + 1 + 1) (ns' := upd (upd ns i1 0) i2 0) (fc' := upd (upd fc i1 (zz_b (decide (i1 + 1 < H)))) i2 (zz_b (decide (i2 + 1 < H)))) (tl' := upd (upd tl tc (nI i1)) (tc + 1) (nI i2)) hn S0 kn wC (by omega) ho
        (fun i hin hi => by
          rcases hi with rfl | hi
          · rw [pk_un hne, pk_un hne, pk_us, pk_us]
            exact ⟨rfl, rfl, tc, by omega, by rw [pk_un (by omega), pk_us]⟩
          · obtain rfl : i = i2 := zs_inj (by omega) (by omega) (hi.symm.trans hs)
            exact ⟨pk_us, pk_us, tc + 1, by omega, pk_us⟩)
        (fun i hi hni hsi => by
          have : i ≠ i2 := fun z => hsi (by rw [hs, z])
          rw [pk_un this, pk_un this, pk_un hni, pk_un hni]
          exact ⟨rfl, rfl⟩) (fun q hq => by rw [pk_un (by omega), pk_un (by omega)]) (by omega)
        (fun q hq1 hq2 => by
          by_cases hqt : q = tc
          · subst hqt
            exact Or.inl (by rw [pk_un (by omega), pk_us])
          · obtain rfl : q = tc + 1 := by omega
            exact Or.inr ⟨by rw [hs]; exact zz_nm (by omega), by rw [pk_us, hs]⟩) (by omega)
      exact ⟨H, tc + 1 + 1, _, _, _, _, _, _, S5, fun post h => zx_scan4_1 (by omega) ho (by omega) (by omega) (by omega) hs (by omega) h⟩
end
end
section
/-! accept and add -/
def zr_sd (k b : Nat) : Int32 := if k = 0 ∨ k = 4 then nI b else nI b - 8
theorem zr_dep_b {K K' : Nat → Nat} {n k : Nat} (eK : K' = zn_u K n k) (h1 : ∀ j, j ≤ n → zd_dep K j ≤ 16) (h2 : ∀ j, j < n → K j = 4 → 0 < zd_dep K j) (h3 : k = 3 → zd_dep K n < 16) (h4 : k = 4 → 0 < zd_dep K n) :
    (∀ j, j ≤ n + 1 → zd_dep K' j ≤ 16) ∧ (∀ j, j < n + 1 → K' j = 4 → 0 < zd_dep K' j) := by
  have hK : ∀ j, j < n → K' j = K j := fun j hj => by rw [eK, zn_un (by omega)]
  have kn : K' n = k := by rw [eK, zn_us]
  have dc : ∀ j, j ≤ n → zd_dep K' j = zd_dep K j := fun j hj => zd_dep_c j fun i hi => hK i (by omega)
  refine ⟨fun j hj => ?_, fun j hj hk => ?_⟩
  · by_cases hjn : j = n + 1
    · subst hjn
      show (if K' n = 3 then zd_dep K' n + 1 else if K' n = 4 then zd_dep K' n - 1 else zd_dep K' n) ≤ 16
      rw [kn, dc n (Nat.le_refl n)]
      have := h1 n (Nat.le_refl n)
      by_cases c3 : k = 3
      · rw [if_pos c3]; have := h3 c3; omega
      · rw [if_neg c3]
        by_cases c4 : k = 4
        · rw [if_pos c4]; omega
        · rw [if_neg c4]; omega
    · rw [dc j (by omega)]
      exact h1 j (by omega)
  · rw [dc j (by omega)]
    by_cases hjn : j = n
    · subst hjn
      rw [kn] at hk
      exact h4 hk
    · rw [hK j (by omega)] at hk
      exact h2 j (by omega) hk
theorem zr_it {K A B K' A' B' : Nat → Nat} {n k a b : Nat} {cd bf kd fs sd : Nat → Int32} (ok : zw_ok k a b) (hI : zi_It K A B n cd bf kd fs sd) (eK : K' = zn_u K n k) (eA : A' = zn_u A n a) (eB : B' = zn_u B n b) :
    zi_It K' A' B' (n + 1) (upd cd n (nI (k * 65536 + a * 256 + b))) (upd bf n (nI (zd_tot K A B n))) (upd kd n (nI k)) (upd fs n (nI a)) (upd sd n (zr_sd k b)) := by
  have hA : ∀ j, j < n → K' j = K j ∧ A' j = A j ∧ B' j = B j := fun j hj => by
    rw [eK, eA, eB, zn_un (by omega), zn_un (by omega), zn_un (by omega)]; exact ⟨rfl, rfl, rfl⟩
  intro i hi
  by_cases hin : i = n
  · subst hin
    rw [zd_tot_c i hA]
    rw [eK, eA, eB, zn_us, zn_us, zn_us, pk_us, pk_us, pk_us, pk_us, pk_us]
    exact ⟨ok, rfl, rfl, rfl, rfl, rfl⟩
  · obtain ⟨e1, e2, e3⟩ := hA i (by omega)
    rw [zd_tot_c i fun j hj => hA j (by omega), e1, e2, e3, pk_un hin, pk_un hin, pk_un hin, pk_un hin, pk_un hin]
    exact hI i (by omega)
section
variable {W L M n o T d tc H l c g z : Nat} {xe : Int32} {cd bf re ns fc so sb tl gs gm gd ce ls mo al ac kd fs sd ym : Nat → Int32} {K A B G S AL AC : Nat → Nat}
theorem zr_add (hF : zr_F W L M n o l c g z tc H xe K A B G S AL AC cd bf re ns fc so sb tl gs gm gd ce ls mo al ac kd fs sd ym) {k a b : Nat} (ok : zw_ok k a b) (h3 : k = 3 → zd_dep K n < 16) (h4 : k = 4 → 0 < zd_dep K n) :
    ∃ r n' o' u' v', zr_R n' o' u' v' ∧ (∀ post : Int32 → SX → Prop, post r u' → wpX_accept post (nI W, nI L, nI M, nI n, nI o, xe, nI (zd_tot K A B n), nI (zd_dep K n), nI tc, zz_p H, nI l, nI c, nI g, nI z, cd, bf, re, ns, fc, so, sb, tl, gs, gm, gd, ce, ls, mo, al, ac) (nI k) (nI a) (nI b) (nI (zd_sz k a b))) ∧
      (∀ post : Int32 → SY → Prop, post r v' → wpY_add post (nI W, nI L, nI M, nI n, nI o, xe, nI l, nI c, kd, fs, sd, mo, al, ac, ym) (nI k) (nI a) (zr_sd k b)) := by
  have R := zr_in hF
  obtain ⟨⟨w1, w2, w3, w4, w5⟩, ⟨n1, n2, n3, he⟩, hI, ⟨hd1, hd2⟩, hS, hG, hL⟩ := hF
  by_cases hn : n = 256
  · subst hn
    exact ⟨-5, 256, o, _, _, R, fun post h => br_f (nI_nlt (b := 256) (Nat.le_refl _) (by decide)) h, fun post h => br_f (nI_nlt (b := 256) (Nat.le_refl _) (by decide)) h⟩
  have hn : n < 256 := by omega
  have es : nI n - nI o = nI (n - o) := pk_sub n1
  by_cases hst : n = o + L
  · refine ⟨-6, n, o, _, _, R, fun post h => br_t (nI_lt (b := 256) hn (by decide)) (br_f ?_ h), fun post h => br_t (nI_lt (b := 256) hn (by decide)) (br_t ?_ h)⟩
    · rw [es]; exact nI_nlt (by omega) (by omega)
    · rw [es]; exact congrArg nI (by omega)
  obtain ⟨H', tc', re', ns', fc', so', sb', tl', hS', hX⟩ := zr_scan (xw := nI W) (xl := nI L) (xm := nI M) (xn := nI n) (xo := nI o) (xe := xe) (xi := nI l) (xc := nI c) (xg := nI g) (xz := nI z) (cd := upd cd n (nI (k * 65536 + a * 256 + b))) (bf := upd bf n (nI (zd_tot K A B n))) (gs := gs) (gm := gm) (gd := gd) (ce := ce) (ls := ls) (mo := mo) (al := al) (ac := ac) (k := k) (a := a) (b := b) hn hS (hd1 n (Nat.le_refl n)) (zw_okb ok).1 h3 h4 rfl rfl rfl
  have hT : zd_tot (zn_u K n k) (zn_u A n a) (zn_u B n b) (n + 1) = zd_tot K A B n + zd_sz k a b := by
    show zd_tot (zn_u K n k) (zn_u A n a) (zn_u B n b) n + zd_sz (zn_u K n k n) (zn_u A n a n) (zn_u B n b n) = _
    rw [zn_us, zn_us, zn_us, zd_tot_c n (fun j hj => ⟨zn_un (by omega), zn_un (by omega), zn_un (by omega)⟩)]
  have R1 := zr_in (K := zn_u K n k) (A := zn_u A n a) (B := zn_u B n b) ⟨⟨w1, w2, w3, w4, w5⟩, ⟨(by omega : o ≤ n + 1), (by omega : n + 1 ≤ 256), (by omega : n + 1 ≤ o + L), he⟩, zr_it ok hI rfl rfl rfl, zr_dep_b rfl hd1 hd2 h3 h4, hS',
    zg_c (fun j hj => zn_un (by omega)) (fun j hj => zn_un (by omega)) hG, zl_c (fun j hj => zn_un (by omega)) (fun j hj => zn_un (by omega)) (fun j hj => zn_un (by omega)) hL⟩
  rw [hT] at R1
  obtain ⟨r, o', u', v', R', sX, sY⟩ := zr_settle2 R1
  obtain ⟨u0, u1, u2, u3, u4, u5, u6, u7, u8, u9, u10, u11, u12, u13, u14, u15, u16, u17, u18, u19, u20, u21, u22, u23, u24, u25, u26, u27, u28, u29⟩ := u'
  obtain ⟨v0, v1, v2, v3, v4, v5, v6, v7, v8, v9, v10, v11, v12, v13, v14⟩ := v'
  have e : (nI n).toNatClampNeg = n := nI_clamp (by omega)
  have w : vp_in (nI n) 256 := vp_in_nI hn (by decide)
  refine ⟨r, n + 1, o', _, _, R', fun post h => ?_, fun post h => ?_⟩
  · refine br_t (nI_lt (b := 256) hn (by decide)) (br_t (by rw [es]; exact nI_lt (by omega) (by omega)) ⟨w, nm_r (e' := upd cd n (nI (k * 65536 + a * 256 + b))) ?_ ⟨w, nm_r (e' := upd bf n (nI (zd_tot K A B n))) (by rw [e]) ?_⟩⟩)
    · rw [e]
      exact congrArg (upd cd n) (by rw [← nI_add, ← nI_add, ← pk_mul, ← pk_mul]; rfl)
    · exact hX _ (nm_r (nI_add _ _) (nm_r (nI_1 n) (sX _ h)))
  · refine br_t (nI_lt (b := 256) hn (by decide)) (br_f ?_ ⟨w, nm_r (e' := upd kd n (nI k)) (by rw [e]) ⟨w, nm_r (e' := upd fs n (nI a)) (by rw [e]) ⟨w, nm_r (e' := upd sd n (zr_sd k b)) (by rw [e]) (nm_r (nI_1 n) (sY _ h))⟩⟩⟩)
    rw [es]
    exact fun z => by have := (nI_eq (by omega) (by omega)).mp z; omega
end
end
section
/-! the relation at the head of a turn; the constructors; the getters -/
def i_Rel (_ : Nat) (u : SX) (v : SY) : Prop := ∃ n o, zr_R n o u v
theorem i_up {k : Nat} {u : SX} {v : SY} (h : i_Rel k u v) : i_Rel (k + 3) u v := h
theorem zr_el2 {P : SX → SY → Prop} {k : Nat} {u : SX} {v : SY} (I : i_Rel k u v) (h : ∀ (n o W L M l c g z tc H : Nat) (xe : Int32) (K A B G S AL AC : Nat → Nat) (cd bf re ns fc so sb tl gs gm gd ce ls mo al ac kd fs sd ym : Nat → Int32), zr_F W L M n o l c g z tc H xe K A B G S AL AC cd bf re ns fc so sb tl gs gm gd ce ls mo al ac kd fs sd ym → P (nI W, nI L, nI M, nI n, nI o, xe, nI (zd_tot K A B n), nI (zd_dep K n), nI tc, zz_p H, nI l, nI c, nI g, nI z, cd, bf, re, ns, fc, so, sb, tl, gs, gm, gd, ce, ls, mo, al, ac) (nI W, nI L, nI M, nI n, nI o, xe, nI l, nI c, kd, fs, sd, mo, al, ac, ym)) : P u v :=
  Exists.elim I fun n I => Exists.elim I fun o I => zr_el I fun W L M l c g z tc H xe K A B G S AL AC cd bf re ns fc so sb tl gs gm gd ce ls mo al ac kd fs sd ym hF => h n o W L M l c g z tc H xe K A B G S AL AC cd bf re ns fc so sb tl gs gm gd ce ls mo al ac kd fs sd ym hF
theorem zr_F0 {W L M : Nat} {K A B G AL AC : Nat → Nat} {cd bf re ns fc so sb tl gs gm gd ce ls mo al ac kd fs sd ym : Nat → Int32} (hW : 4 ≤ W ∧ W ≤ 40 ∧ 16 ≤ L ∧ L ≤ 96 ∧ M + 1 ≤ W) (h1 : gs 0 = 1) (h2 : gm 0 = 0) (h3 : gd 0 = 3) (h4 : sb 0 = -1) (h5 : ls 0 = 0) :
    zr_F W L M 0 0 0 0 0 0 0 0 0 K A B G (fun _ => 0) AL AC cd bf re ns fc so sb tl gs gm gd ce ls mo al ac kd fs sd ym := by
  refine ⟨hW, ⟨by omega, by omega, by omega, Or.inl rfl⟩, fun i hi => by omega, ⟨fun j hj => ?_, fun j hj => by omega⟩, ⟨fun i hi => by omega, fun l h1l hl => ?_, fun l hl => ?_, fun q hq => by omega, ?_, Nat.le_refl 0⟩, zg_0 h1 h2 h3, zl_0 (S := fun _ => 0) h5⟩
  · obtain rfl : j = 0 := by omega
    exact Nat.zero_le _
  · have : l ≤ 0 := hl
    omega
  · have : l ≤ 0 := hl
    obtain rfl : l = 0 := by omega
    exact Or.inl h4
  · show 0 + 0 + (0 + if sb 0 = -1 then 0 else 1) ≤ 0
    rw [if_pos h4]
    exact Nat.le_refl 0
theorem zx_clear {post : SX → Prop} {xw xl xm xn xo xe xt xd xk xh xi xc xg xz : Int32} {cd bf re ns fc so sb tl gs gm gd ce ls mo al ac : Nat → Int32} (h : post (xw, xl, xm, 0, 0, 0, 0, 0, 0, -1, 0, 0, 0, 0, cd, bf, re, ns, fc, upd so 0 (-1), upd sb 0 (-1), tl, upd gs 0 1, upd gm 0 0, upd gd 0 3, ce, upd ls 0 0, mo, al, ac)) : wpX_clear post (xw, xl, xm, xn, xo, xe, xt, xd, xk, xh, xi, xc, xg, xz, cd, bf, re, ns, fc, so, sb, tl, gs, gm, gd, ce, ls, mo, al, ac) :=
  nm_e (nm_e (nm_e (nm_e (nm_e (nm_e h)))))
theorem zx_cl2 (x : Int32) (lo hi : Nat) (h1 : lo ≤ hi) (h2 : hi < 2 ^ 31) : ∃ m, lo ≤ m ∧ m ≤ hi ∧ zx_cl x (nI lo) (nI hi) = nI m := by
  unfold zx_cl
  by_cases c1 : nI lo ≤ x
  · rw [if_pos c1]
    by_cases c2 : x ≤ nI hi
    · rw [if_pos c2]
      have h0 : (0 : Int32) ≤ x := Int32.le_trans (nI_pos' (n := lo) (by omega)) c1
      obtain ⟨j, hj, rfl⟩ := nI_of (x := x) (Int32.not_lt.mpr h0)
      exact ⟨j, (nI_leI (by omega) hj).mp c1, (nI_leI hj h2).mp c2, rfl⟩
    · rw [if_neg c2]
      exact ⟨hi, h1, Nat.le_refl _, rfl⟩
  · rw [if_neg c1]
    exact ⟨lo, Nat.le_refl _, h1, rfl⟩
section
variable {xw xl xm xn xo xe xi xc : Int32} {kd fs sd mo al ac ym : Nat → Int32} {post : SY → Prop}
theorem zy_i116 {x3 z0 : Int32} (h : post (xw, z0, zx_cl x3 0 (xw - 1), xn, xo, xe, xi, xc, kd, fs, sd, mo, al, ac, ym)) : wY_init_116 post x3 z0 xw xl xm xn xo xe xi xc kd fs sd mo al ac ym := by
  unfold zx_cl at h
  refine nm_e ?_
  by_cases c1 : 0 ≤ x3
  · rw [if_pos c1] at h
    by_cases c2 : x3 ≤ xw - 1
    · rw [if_pos c2] at h; exact br_t c1 (br_t c2 h)
    · rw [if_neg c2] at h; exact br_t c1 (br_f c2 h)
  · rw [if_neg c1] at h; exact br_f c1 h
theorem zy_i89 {x2 x3 z0 : Int32} (h : post (z0, zx_cl x2 16 96, zx_cl x3 0 (z0 - 1), xn, xo, xe, xi, xc, kd, fs, sd, mo, al, ac, ym)) : wY_init_89 post x2 x3 z0 xw xl xm xn xo xe xi xc kd fs sd mo al ac ym := by
  have key : ∀ y : Int32, y = zx_cl x2 16 96 → wY_init_116 post x3 y z0 xl xm xn xo xe xi xc kd fs sd mo al ac ym := fun y ey => by subst ey; exact zy_i116 h
  unfold zx_cl at key
  by_cases c1 : 16 ≤ x2
  · rw [if_pos c1] at key
    by_cases c2 : x2 ≤ 96
    · rw [if_pos c2] at key; exact br_t c1 (br_t c2 (key _ rfl))
    · rw [if_neg c2] at key; exact br_t c1 (br_f c2 (key _ rfl))
  · rw [if_neg c1] at key; exact br_f c1 (key _ rfl)
theorem zy_init {k0 k1 k2 : Int32} (h : post (zx_cl k0 4 40, zx_cl k1 16 96, zx_cl k2 0 (zx_cl k0 4 40 - 1), 0, 0, 0, 0, 0, (fun _ => 0), (fun _ => 0), (fun _ => 0), (fun _ => 0), (fun _ => 0), (fun _ => 0), (fun _ => 0))) : wpY_init post k0 k1 k2 := by
  have key : ∀ y : Int32, y = zx_cl k0 4 40 → wY_init_89 post k1 k2 y 0 0 0 0 0 0 0 0 (fun _ => 0) (fun _ => 0) (fun _ => 0) (fun _ => 0) (fun _ => 0) (fun _ => 0) (fun _ => 0) := fun y ey => by subst ey; exact zy_i89 h
  unfold zx_cl at key
  by_cases c1 : 4 ≤ k0
  · rw [if_pos c1] at key
    by_cases c2 : k0 ≤ 40
    · rw [if_pos c2] at key; exact br_t c1 (br_t c2 (key _ rfl))
    · rw [if_neg c2] at key; exact br_t c1 (br_f c2 (key _ rfl))
  · rw [if_neg c1] at key; exact br_f c1 (key _ rfl)
end
theorem i_vc0 (k0 : Int32) (k1 : Int32) (k2 : Int32) : wpX_init (fun u => wpY_init (fun v => i_Rel 3 u v) k0 k1 k2) k0 k1 k2 := by
  obtain ⟨W, w1, w2, eW⟩ := zx_cl2 k0 4 40 (by omega) (by omega)
  obtain ⟨L, l1, l2, eL⟩ := zx_cl2 k1 16 96 (by omega) (by omega)
  obtain ⟨M, m1, m2, eM⟩ := zx_cl2 k2 0 (W - 1) (by omega) (by omega)
  have eW : zx_cl k0 4 40 = nI W := eW
  have eL : zx_cl k1 16 96 = nI L := eL
  have eM : zx_cl k2 0 (nI W - 1) = nI M := by
    obtain ⟨W', rfl⟩ : ∃ W', W = W' + 1 := ⟨W - 1, by omega⟩
    rw [nI_pred]
    exact eM
  have hy : ∀ P : SY → Prop, P (nI W, nI L, nI M, 0, 0, 0, 0, 0, (fun _ => 0), (fun _ => 0), (fun _ => 0), (fun _ => 0), (fun _ => 0), (fun _ => 0), (fun _ => 0)) → wpY_init P k0 k1 k2 := fun P hP => zy_init (by rw [eW, eL, eM]; exact hP)
  unfold wpX_init
  refine zx_clamp ?_
  rw [eW]
  refine zx_clamp ?_
  rw [eL]
  refine zx_clamp ?_
  rw [eM]
  refine zx_clear (hy _ ?_)
  exact ⟨0, 0, zr_in (K := fun _ => 0) (A := fun _ => 0) (B := fun _ => 0) (G := fun _ => 0) (AL := fun _ => 0) (AC := fun _ => 0) (zr_F0 ⟨w1, w2, l1, l2, by omega⟩ rfl rfl rfl rfl rfl)⟩
theorem i_vc_reset {k : Nat} {u : SX} {v : SY} (I : i_Rel k u v) (hk : k + 3 ≤ 1539) : wpX_reset (fun u' => wpY_reset (fun v' => i_Rel (k + 3) u' v') v) u := by
  refine zr_el2 (P := fun u v => wpX_reset (fun u' => wpY_reset (fun v' => i_Rel (k + 3) u' v') v) u) I ?_
  intro n o W L M l c g z tc H xe K A B G S AL AC cd bf re ns fc so sb tl gs gm gd ce ls mo al ac kd fs sd ym hF
  unfold wpX_reset
  refine zx_clear ?_
  exact ⟨0, 0, zr_in (K := fun _ => 0) (A := fun _ => 0) (B := fun _ => 0) (G := fun _ => 0) (AL := fun _ => 0) (AC := fun _ => 0) (zr_F0 hF.1 rfl rfl rfl rfl rfl)⟩
theorem i_vc_items {k : Nat} {u : SX} {v : SY} (I : i_Rel k u v) (hk : k + 3 ≤ 1539) : wpX_items (fun r => wpY_items (fun r' => r' = r ∧ i_Rel (k + 3) u v) v) u := by
  refine zr_el2 (P := fun u v => i_Rel (k + 3) u v → wpX_items (fun r => wpY_items (fun r' => r' = r ∧ i_Rel (k + 3) u v) v) u) I ?_ I
  intro n o W L M l c g z tc H xe K A B G S AL AC cd bf re ns fc so sb tl gs gm gd ce ls mo al ac kd fs sd ym hF J
  exact ⟨rfl, J⟩
theorem i_vc_emitted {k : Nat} {u : SX} {v : SY} (I : i_Rel k u v) (hk : k + 3 ≤ 1539) : wpX_emitted (fun r => wpY_emitted (fun r' => r' = r ∧ i_Rel (k + 3) u v) v) u := by
  refine zr_el2 (P := fun u v => i_Rel (k + 3) u v → wpX_emitted (fun r => wpY_emitted (fun r' => r' = r ∧ i_Rel (k + 3) u v) v) u) I ?_ I
  intro n o W L M l c g z tc H xe K A B G S AL AC cd bf re ns fc so sb tl gs gm gd ce ls mo al ac kd fs sd ym hF J
  exact ⟨rfl, J⟩
theorem i_vc_lines {k : Nat} {u : SX} {v : SY} (I : i_Rel k u v) (hk : k + 3 ≤ 1539) : wpX_lines (fun r => wpY_lines (fun r' => r' = r ∧ i_Rel (k + 3) u v) v) u := by
  refine zr_el2 (P := fun u v => i_Rel (k + 3) u v → wpX_lines (fun r => wpY_lines (fun r' => r' = r ∧ i_Rel (k + 3) u v) v) u) I ?_ I
  intro n o W L M l c g z tc H xe K A B G S AL AC cd bf re ns fc so sb tl gs gm gd ce ls mo al ac kd fs sd ym hF J
  exact ⟨rfl, J⟩
theorem i_vc_column {k : Nat} {u : SX} {v : SY} (I : i_Rel k u v) (hk : k + 3 ≤ 1539) : wpX_column (fun r => wpY_column (fun r' => r' = r ∧ i_Rel (k + 3) u v) v) u := by
  refine zr_el2 (P := fun u v => i_Rel (k + 3) u v → wpX_column (fun r => wpY_column (fun r' => r' = r ∧ i_Rel (k + 3) u v) v) u) I ?_ I
  intro n o W L M l c g z tc H xe K A B G S AL AC cd bf re ns fc so sb tl gs gm gd ce ls mo al ac kd fs sd ym hF J
  exact ⟨rfl, J⟩
theorem i_vc_finished {k : Nat} {u : SX} {v : SY} (I : i_Rel k u v) (hk : k + 3 ≤ 1539) : wpX_finished (fun r => wpY_finished (fun r' => r' = r ∧ i_Rel (k + 3) u v) v) u := by
  refine zr_el2 (P := fun u v => i_Rel (k + 3) u v → wpX_finished (fun r => wpY_finished (fun r' => r' = r ∧ i_Rel (k + 3) u v) v) u) I ?_ I
  intro n o W L M l c g z tc H xe K A B G S AL AC cd bf re ns fc so sb tl gs gm gd ce ls mo al ac kd fs sd ym hF J
  have e : narrow .boolean (.int xe) = .int xe := by
    rcases hF.2.1.2.2.2 with rfl | rfl <;> rfl
  exact ⟨e, e, rfl, J⟩
theorem i_vc_depth {k : Nat} {u : SX} {v : SY} (I : i_Rel k u v) (hk : k + 3 ≤ 1539) : wpX_depth (fun r => wpY_depth (fun r' => r' = r ∧ i_Rel (k + 3) u v) v) u := by
  refine zr_el2 (P := fun u v => i_Rel (k + 3) u v → wpX_depth (fun r => wpY_depth (fun r' => r' = r ∧ i_Rel (k + 3) u v) v) u) I ?_ I
  intro n o W L M l c g z tc H xe K A B G S AL AC cd bf re ns fc so sb tl gs gm gd ce ls mo al ac kd fs sd ym hF J
  exact zy_depth hF.2.1.2.1 (zi_kd hF.2.2.1 (Nat.le_refl n)) hF.2.2.2.1.2 ⟨rfl, J⟩
theorem i_vc_margin {k : Nat} {u : SX} {v : SY} (I : i_Rel k u v) (hk : k + 3 ≤ 1539) : wpX_margin (fun r => wpY_margin (fun r' => r' = r ∧ i_Rel (k + 3) u v) v) u := by
  refine zr_el2 (P := fun u v => i_Rel (k + 3) u v → wpX_margin (fun r => wpY_margin (fun r' => r' = r ∧ i_Rel (k + 3) u v) v) u) I ?_ I
  intro n o W L M l c g z tc H xe K A B G S AL AC cd bf re ns fc so sb tl gs gm gd ce ls mo al ac kd fs sd ym hF J
  have n2 := hF.2.1.2.1
  have n1 := hF.2.1.1
  have hg : g ≤ 16 := by rw [hF.2.2.2.2.2.1.1]; exact hF.2.2.2.1.1 o n1
  refine ⟨vp_in_nI (by omega) (by decide), ?_⟩
  rw [nI_clamp (by omega)]
  exact zy_margin (by omega) (zi_kd hF.2.2.1 n1) hF.2.2.2.2.2.1 ⟨rfl, J⟩
theorem i_vc_slack {k : Nat} {u : SX} {v : SY} (I : i_Rel k u v) (hk : k + 3 ≤ 1539) : wpX_slack (fun r => wpY_slack (fun r' => r' = r ∧ i_Rel (k + 3) u v) v) u := by
  refine zr_el2 (P := fun u v => i_Rel (k + 3) u v → wpX_slack (fun r => wpY_slack (fun r' => r' = r ∧ i_Rel (k + 3) u v) v) u) I ?_ I
  intro n o W L M l c g z tc H xe K A B G S AL AC cd bf re ns fc so sb tl gs gm gd ce ls mo al ac kd fs sd ym hF J
  have n2 := hF.2.1.2.1
  have n1 := hF.2.1.1
  by_cases ho : o < n
  · refine br_t (nI_lt ho (by omega)) ⟨vp_in_nI (by omega) (by decide), nm_r (e' := nI (zd_tot K A B n - zd_tot K A B o)) ?_ ?_⟩
    · rw [nI_clamp (by omega), (hF.2.2.1 o ho).2.2.1]
      exact pk_sub (zd_totm n1)
    · exact zy_slack n2 ho hF.2.2.1 ⟨rfl, J⟩
  · obtain rfl : o = n := by omega
    exact br_f (nI_nlt (Nat.le_refl _) (by omega)) (br_t rfl ⟨rfl, J⟩)
theorem i_vc_setting {k : Nat} {u : SX} {v : SY} (I : i_Rel k u v) (hk : k + 3 ≤ 1539) (v1 : Int32) : wpX_setting (fun r => wpY_setting (fun r' => r' = r ∧ i_Rel (k + 3) u v) v v1) u v1 := by
  refine zr_el2 (P := fun u v => i_Rel (k + 3) u v → wpX_setting (fun r => wpY_setting (fun r' => r' = r ∧ i_Rel (k + 3) u v) v v1) u v1) I ?_ I
  intro n o W L M l c g z tc H xe K A B G S AL AC cd bf re ns fc so sb tl gs gm gd ce ls mo al ac kd fs sd ym hF J
  by_cases c0 : v1 = 0
  · exact br_t c0 (br_t c0 ⟨rfl, J⟩)
  · by_cases c1 : v1 = 1
    · exact br_f c0 (br_t c1 (br_f c0 (br_t c1 ⟨rfl, J⟩)))
    · by_cases c2 : v1 = 2
      · exact br_f c0 (br_f c1 (br_t c2 (br_f c0 (br_f c1 (br_t c2 ⟨rfl, J⟩)))))
      · exact br_f c0 (br_f c1 (br_f c2 (br_f c0 (br_f c1 (br_f c2 ⟨rfl, J⟩)))))
theorem i_vc_itemLine {k : Nat} {u : SX} {v : SY} (I : i_Rel k u v) (hk : k + 3 ≤ 1539) (v1 : Int32) : wpX_itemLine (fun r => wpY_itemLine (fun r' => r' = r ∧ i_Rel (k + 3) u v) v v1) u v1 := by
  refine zr_el2 (P := fun u v => i_Rel (k + 3) u v → wpX_itemLine (fun r => wpY_itemLine (fun r' => r' = r ∧ i_Rel (k + 3) u v) v v1) u v1) I ?_ I
  intro n o W L M l c g z tc H xe K A B G S AL AC cd bf re ns fc so sb tl gs gm gd ce ls mo al ac kd fs sd ym hF J
  have n2 := hF.2.1.2.1
  have n1 := hF.2.1.1
  by_cases c0 : v1 < 0
  · exact br_t c0 (br_t c0 ⟨rfl, J⟩)
  · by_cases c1 : v1 < nI o
    · obtain ⟨j, hj, rfl⟩ := nI_of c0
      have hjl : j < o := (nI_ltI hj (by omega)).mp c1
      have w : vp_in (nI j) 256 := vp_in_nI (by omega) (by omega)
      exact br_f c0 (br_t c1 ⟨w, br_f c0 (br_t c1 ⟨w, rfl, J⟩)⟩)
    · exact br_f c0 (br_f c1 (br_f c0 (br_f c1 ⟨rfl, J⟩)))
theorem i_vc_itemColumn {k : Nat} {u : SX} {v : SY} (I : i_Rel k u v) (hk : k + 3 ≤ 1539) (v1 : Int32) : wpX_itemColumn (fun r => wpY_itemColumn (fun r' => r' = r ∧ i_Rel (k + 3) u v) v v1) u v1 := by
  refine zr_el2 (P := fun u v => i_Rel (k + 3) u v → wpX_itemColumn (fun r => wpY_itemColumn (fun r' => r' = r ∧ i_Rel (k + 3) u v) v v1) u v1) I ?_ I
  intro n o W L M l c g z tc H xe K A B G S AL AC cd bf re ns fc so sb tl gs gm gd ce ls mo al ac kd fs sd ym hF J
  have n2 := hF.2.1.2.1
  have n1 := hF.2.1.1
  by_cases c0 : v1 < 0
  · exact br_t c0 (br_t c0 ⟨rfl, J⟩)
  · by_cases c1 : v1 < nI o
    · obtain ⟨j, hj, rfl⟩ := nI_of c0
      have hjl : j < o := (nI_ltI hj (by omega)).mp c1
      have w : vp_in (nI j) 256 := vp_in_nI (by omega) (by omega)
      exact br_f c0 (br_t c1 ⟨w, br_f c0 (br_t c1 ⟨w, rfl, J⟩)⟩)
    · exact br_f c0 (br_f c1 (br_f c0 (br_f c1 ⟨rfl, J⟩)))
theorem i_vc_itemMode {k : Nat} {u : SX} {v : SY} (I : i_Rel k u v) (hk : k + 3 ≤ 1539) (v1 : Int32) : wpX_itemMode (fun r => wpY_itemMode (fun r' => r' = r ∧ i_Rel (k + 3) u v) v v1) u v1 := by
  refine zr_el2 (P := fun u v => i_Rel (k + 3) u v → wpX_itemMode (fun r => wpY_itemMode (fun r' => r' = r ∧ i_Rel (k + 3) u v) v v1) u v1) I ?_ I
  intro n o W L M l c g z tc H xe K A B G S AL AC cd bf re ns fc so sb tl gs gm gd ce ls mo al ac kd fs sd ym hF J
  have n2 := hF.2.1.2.1
  have n1 := hF.2.1.1
  by_cases c0 : v1 < 0
  · exact br_t c0 (br_t c0 ⟨rfl, J⟩)
  · by_cases c1 : v1 < nI n
    · obtain ⟨j, hj, rfl⟩ := nI_of c0
      have hjl : j < n := (nI_ltI hj (by omega)).mp c1
      have w : vp_in (nI j) 256 := vp_in_nI (by omega) (by omega)
      by_cases c2 : nI j < nI o
      · exact br_f c0 (br_t c1 (br_t c2 ⟨w, br_f c0 (br_t c1 (br_t c2 ⟨w, rfl, J⟩))⟩))
      · exact br_f c0 (br_t c1 (br_f c2 (br_f c0 (br_t c1 (br_f c2 ⟨rfl, J⟩)))))
    · exact br_f c0 (br_f c1 (br_f c0 (br_f c1 ⟨rfl, J⟩)))
theorem i_vc_itemCode {k : Nat} {u : SX} {v : SY} (I : i_Rel k u v) (hk : k + 3 ≤ 1539) (v1 : Int32) : wpX_itemCode (fun r => wpY_itemCode (fun r' => r' = r ∧ i_Rel (k + 3) u v) v v1) u v1 := by
  refine zr_el2 (P := fun u v => i_Rel (k + 3) u v → wpX_itemCode (fun r => wpY_itemCode (fun r' => r' = r ∧ i_Rel (k + 3) u v) v v1) u v1) I ?_ I
  intro n o W L M l c g z tc H xe K A B G S AL AC cd bf re ns fc so sb tl gs gm gd ce ls mo al ac kd fs sd ym hF J
  have n2 := hF.2.1.2.1
  have n1 := hF.2.1.1
  by_cases c0 : v1 < 0
  · exact br_t c0 (br_t c0 ⟨rfl, J⟩)
  · by_cases c1 : v1 < nI n
    · obtain ⟨j, hj, rfl⟩ := nI_of c0
      have hjl : j < n := (nI_ltI hj (by omega)).mp c1
      have w : vp_in (nI j) 256 := vp_in_nI (by omega) (by omega)
      have e : (nI j).toNatClampNeg = j := nI_clamp (by omega)
      obtain ⟨ok, ecd, ebf, ek, ef, es⟩ := hF.2.2.1 j hjl
      have k4 := (zw_okb ok).1
      have ec : nI (K j * 65536 + A j * 256 + B j) = nI (K j) * 65536 + nI (A j) * 256 + nI (B j) := by rw [← nI_add, ← nI_add, ← pk_mul, ← pk_mul]; rfl
      refine br_f c0 (br_t c1 ⟨w, ?_⟩)
      rw [e, ecd]
      refine br_f c0 (br_t c1 ⟨w, nm_r (e' := nI (K j)) (by rw [e]; exact ek) ?_⟩)
      rw [e, ef, es]
      refine pk_eq (K j) 0 (fun h0 => ⟨w, w, ?_, J⟩) (fun h0 => ?_) rfl rfl (by omega) (by omega)
      · rw [if_pos (Or.inl h0), ec, h0]
        rfl
      · refine pk_eq (K j) 4 (fun h4 => ⟨?_, J⟩) (fun h4 => ⟨w, w, ?_, J⟩) rfl rfl (by omega) (by omega)
        · have : A j = 0 ∧ B j = 0 := by unfold zw_ok at ok; omega
          rw [h4, this.1, this.2]
          rfl
        · rw [if_neg (by omega), ec]
          grind
    · exact br_f c0 (br_f c1 (br_f c0 (br_f c1 ⟨rfl, J⟩)))
end
section
/-! lines and characters -/
section
variable {W L M n o T d tc H l c g z : Nat} {xe : Int32} {cd bf re ns fc so sb tl gs gm gd ce ls mo al ac kd fs sd ym : Nat → Int32} {K A B G S AL AC : Nat → Nat}
theorem zr_ll (hF : zr_F W L M n o l c g z tc H xe K A B G S AL AC cd bf re ns fc so sb tl gs gm gd ce ls mo al ac kd fs sd ym) (v1 : Int32) : ∃ r, (∀ post : Int32 → Prop, post r → wpX_lineLength post (nI W, nI L, nI M, nI n, nI o, xe, nI (zd_tot K A B n), nI (zd_dep K n), nI tc, zz_p H, nI l, nI c, nI g, nI z, cd, bf, re, ns, fc, so, sb, tl, gs, gm, gd, ce, ls, mo, al, ac) v1) ∧ (∀ post : Int32 → Prop, post r → wpY_lineLength post (nI W, nI L, nI M, nI n, nI o, xe, nI l, nI c, kd, fs, sd, mo, al, ac, ym) v1) ∧
    (r = -1 ∨ ∃ p q, v1 = nI p ∧ p ≤ l ∧ r = nI q ∧ q < 20000 ∧ ((p < l ∧ S p + q = S (p + 1)) ∨ (p = l ∧ q = c))) := by
  obtain ⟨hW, ⟨n1, n2, n3, he⟩, hI, hd, hS, hG, hL⟩ := hF
  obtain ⟨h1, h2, h3, h4, h5, h6, h7, h8, h9⟩ := hL
  by_cases c0 : v1 < 0
  · exact ⟨-1, fun post h => br_t c0 h, fun post h => br_t c0 h, Or.inl rfl⟩
  by_cases c1 : v1 ≤ nI l
  · obtain ⟨p, hp, rfl⟩ := nI_of c0
    have hpl : p ≤ l := (nI_leI hp (by omega)).mp c1
    by_cases hpe : p = l
    · subst hpe
      refine ⟨nI c, fun post h => br_f c0 (br_t c1 (br_t rfl h)), fun post h => zy_ll n2 n1 hI c0 c1 (fun j hj hk hm ha => ?_) (fun _ => rfl) h, Or.inr ⟨p, c, rfl, hpl, rfl, by omega, Or.inr ⟨rfl, rfl⟩⟩⟩
      obtain ⟨a1, a2, a3, a4⟩ := h1 j hj
      rw [a1] at ha
      have := (nI_eq (by omega) (by omega)).mp ha
      have := (h4 j hj hk hm).1
      omega
    · have hlt : p < l := by omega
      obtain ⟨j, hj, hk, hm, ha⟩ := h5 p hlt
      obtain ⟨e1, e2⟩ := h4 j hj hk hm
      rw [ha] at e1 e2
      obtain ⟨s1, s2⟩ := h2 p hpl
      obtain ⟨s3, s4⟩ := h2 (p + 1) hlt
      have ne : ¬ nI p = nI l := fun z => hpe ((nI_eq hp (by omega)).mp z)
      refine ⟨nI (AC j), fun post h => br_f c0 (br_t c1 (br_f ne ?_)), fun post h => zy_ll n2 n1 hI c0 c1 (fun i hi hki hmi hai => ?_) (fun z => ?_) h, Or.inr ⟨p, AC j, rfl, hpl, rfl, by omega, Or.inl ⟨hlt, e2⟩⟩⟩
      · rw [nI_1]
        refine ⟨vp_in_nI (by omega) (by decide), vp_in_nI (by omega) (by decide), ?_⟩
        rw [nI_clamp (by omega), nI_clamp (by omega), s1, s3, pk_sub (by omega), show S (p + 1) - S p = AC j by omega]
        exact h
      · obtain ⟨a1, a2, a3, a4⟩ := h1 i hi
        rw [a1] at hai
        have hAL := (nI_eq (by omega) (by omega)).mp hai
        obtain ⟨f1, f2⟩ := h4 i hi hki hmi
        rw [hAL] at f2
        rw [a2]
        exact congrArg nI (by omega)
      · exact absurd (by rw [(h1 j hj).1, ha]) (z j hj hk hm)
  · exact ⟨-1, fun post h => br_f c0 (br_f c1 h), fun post h => br_f c0 (br_f c1 h), Or.inl rfl⟩
end
theorem i_vc_lineLength {k : Nat} {u : SX} {v : SY} (I : i_Rel k u v) (hk : k + 3 ≤ 1539) (v1 : Int32) : wpX_lineLength (fun r => wpY_lineLength (fun r' => r' = r ∧ i_Rel (k + 3) u v) v v1) u v1 := by
  refine zr_el2 (P := fun u v => i_Rel (k + 3) u v → wpX_lineLength (fun r => wpY_lineLength (fun r' => r' = r ∧ i_Rel (k + 3) u v) v v1) u v1) I ?_ I
  intro n o W L M l c g z tc H xe K A B G S AL AC cd bf re ns fc so sb tl gs gm gd ce ls mo al ac kd fs sd ym hF J
  obtain ⟨r, hX, hY, _⟩ := zr_ll hF v1
  exact hX _ (hY _ ⟨rfl, J⟩)
theorem i_vc_charAt {k : Nat} {u : SX} {v : SY} (I : i_Rel k u v) (hk : k + 3 ≤ 1539) (v1 : Int32) (v2 : Int32) : wpX_charAt (fun r => wpY_charAt (fun r' => r' = r ∧ i_Rel (k + 3) u v) v v1 v2) u v1 v2 := by
  refine zr_el2 (P := fun u v => i_Rel (k + 3) u v → wpX_charAt (fun r => wpY_charAt (fun r' => r' = r ∧ i_Rel (k + 3) u v) v v1 v2) u v1 v2) I ?_ I
  intro n o W L M l c g z tc H xe K A B G S AL AC cd bf re ns fc so sb tl gs gm gd ce ls mo al ac kd fs sd ym hF J
  obtain ⟨r, hX, hY, hr⟩ := zr_ll hF v1
  obtain ⟨hW, ⟨n1, n2, n3, he⟩, hI, hd, hS, hG, hL⟩ := hF
  obtain ⟨h1, h2, h3, h4, h5, h6, h7, h8, h9⟩ := hL
  unfold wpX_charAt wpY_charAt
  refine hX _ ?_
  by_cases c0 : v2 < 0
  · refine br_t c0 (hY _ ?_)
    by_cases cr : r = -1
    · exact br_t cr ⟨rfl, J⟩
    · exact br_f cr (br_t c0 ⟨rfl, J⟩)
  · refine br_f c0 ?_
    rcases hr with rfl | ⟨p, q, rfl, hpl, rfl, hq, hpq⟩
    · have c1 : ¬ v2 < -1 := fun z => c0 (Int32.lt_trans z (by decide))
      exact br_f c1 (hY _ (br_t rfl ⟨rfl, J⟩))
    · have cr : ¬ nI q = -1 := zz_nm (by omega)
      by_cases c1 : v2 < nI q
      · obtain ⟨x, hx, rfl⟩ := nI_of c0
        have hxq : x < q := (nI_ltI hx (by omega)).mp c1
        obtain ⟨s1, s2⟩ := h2 p hpl
        have hz : S p + x < z := by
          rcases hpq with ⟨a1, a2⟩ | ⟨a1, a2⟩
          · have := (h2 (p + 1) a1).2
            omega
          · subst a1; omega
        obtain ⟨f1, f2⟩ := h7 p x (by
          rcases hpq with ⟨a1, a2⟩ | ⟨a1, a2⟩
          · exact Or.inl ⟨a1, by omega⟩
          · exact Or.inr ⟨a1, by omega⟩)
        refine br_t c1 ⟨vp_in_nI (by omega) (by decide), ?_⟩
        rw [nI_clamp (by omega), s1, nI_add]
        refine ⟨vp_in_nI (by omega) (by decide), ?_⟩
        rw [nI_clamp (by omega)]
        refine hY _ (br_f cr (br_f c0 (br_t c1 ⟨o + 1, ?_⟩)))
        exact zy_chL (K := K) (A := A) (B := B) (AL := AL) (AC := AC) (v := ce (S p + x)) n2 n1 (by omega) (by omega) hI (fun j hj => ⟨(h1 j hj).1, (h1 j hj).2.1, by have := (h1 j hj).2.2.1; omega, by have := (h1 j hj).2.2.2; omega⟩)
          (fun j hj hm => (f1 j hj hm).symm) (fun hm => (f2 hm).symm) ⟨rfl, J⟩ o 0 (Nat.zero_add o) (fun i hi => by omega) (o + 1) (Nat.lt_succ_self o)
      · exact br_f c1 (hY _ (br_f cr (br_f c0 (br_f c1 ⟨rfl, J⟩))))
end
section
/-! input calls -/
theorem zr_off {v : Int32} (h1 : ¬ v < -8) (h2 : v ≤ 8) : ∃ b, b ≤ 16 ∧ v + 8 = nI b ∧ nI b - 8 = v := by
  rw [Int32.lt_iff_toInt_lt, show (-8 : Int32).toInt = -8 by decide] at h1
  rw [Int32.le_iff_toInt_le, show (8 : Int32).toInt = 8 by decide] at h2
  have e : v + 8 = nI (v.toInt + 8).toNat := by
    apply Int32.toInt_inj.mp
    rw [Int32.toInt_add, nI_toInt (by omega), show (8 : Int32).toInt = 8 by decide, Int.bmod_eq_of_le (by omega) (by omega)]
    omega
  exact ⟨(v.toInt + 8).toNat, by omega, e, by rw [← e, Int32.add_sub_cancel]⟩
theorem i_vc_finish {k : Nat} {u : SX} {v : SY} (I : i_Rel k u v) (hk : k + 3 ≤ 1539) : wpX_finish (fun r u' => wpY_finish (fun r' v' => r' = r ∧ i_Rel (k + 3) u' v') v) u := by
  refine zr_el2 (P := fun u v => i_Rel (k + 3) u v → wpX_finish (fun r u' => wpY_finish (fun r' v' => r' = r ∧ i_Rel (k + 3) u' v') v) u) I ?_ I
  intro n o W L M l c g z tc H xe K A B G S AL AC cd bf re ns fc so sb tl gs gm gd ce ls mo al ac kd fs sd ym hF J
  by_cases ce0 : xe = 0
  · obtain ⟨hW, ⟨n1, n2, n3, he⟩, hR⟩ := hF
    obtain ⟨r, o', u', v', R', hX, hY⟩ := zr_settle2 (zr_in (xe := 1) ⟨hW, ⟨n1, n2, n3, Or.inr rfl⟩, hR⟩)
    obtain ⟨u0, u1, u2, u3, u4, u5, u6, u7, u8, u9, u10, u11, u12, u13, u14, u15, u16, u17, u18, u19, u20, u21, u22, u23, u24, u25, u26, u27, u28, u29⟩ := u'
    obtain ⟨y0, y1, y2, y3, y4, y5, y6, y7, y8, y9, y10, y11, y12, y13, y14⟩ := v'
    exact br_t ce0 (hX _ (br_t ce0 (hY _ ⟨rfl, n, o', R'⟩)))
  · exact br_f ce0 (br_f ce0 ⟨rfl, J⟩)
theorem i_vc_text {k : Nat} {u : SX} {v : SY} (I : i_Rel k u v) (hk : k + 3 ≤ 1539) (v1 : Int32) (v2 : Int32) : wpX_text (fun r u' => wpY_text (fun r' v' => r' = r ∧ i_Rel (k + 3) u' v') v v1 v2) u v1 v2 := by
  refine zr_el2 (P := fun u v => i_Rel (k + 3) u v → wpX_text (fun r u' => wpY_text (fun r' v' => r' = r ∧ i_Rel (k + 3) u' v') v v1 v2) u v1 v2) I ?_ I
  intro n o W L M l c g z tc H xe K A B G S AL AC cd bf re ns fc so sb tl gs gm gd ce ls mo al ac kd fs sd ym hF J
  by_cases ce0 : xe = 0
  rotate_left
  · exact br_f ce0 (br_f ce0 ⟨rfl, J⟩)
  by_cases c1 : v1 < 33
  · exact br_t ce0 (br_t c1 (br_t ce0 (br_t c1 ⟨rfl, J⟩)))
  by_cases c2 : 126 < v1
  · exact br_t ce0 (br_f c1 (br_t c2 (br_t ce0 (br_f c1 (br_t c2 ⟨rfl, J⟩)))))
  by_cases c3 : v2 < 1
  · exact br_t ce0 (br_f c1 (br_f c2 (br_t c3 (br_t ce0 (br_f c1 (br_f c2 (br_t c3 ⟨rfl, J⟩)))))))
  by_cases c4 : v2 ≤ 8
  · obtain ⟨a, ha, rfl⟩ := nI_of2 (x := v1) (M := 126) (n := 126) rfl (fun z => c1 (Int32.lt_trans z (by decide))) (Int32.not_lt.mp c2)
    obtain ⟨b, hb, rfl⟩ := nI_of2 (x := v2) (M := 8) (n := 8) rfl (fun z => c3 (Int32.lt_trans z (by decide))) c4
    have ha1 : 33 ≤ a := Nat.le_of_not_lt fun z => c1 (nI_lt (b := 33) z (by decide))
    have hb1 : 1 ≤ b := Nat.le_of_not_lt fun z => c3 (nI_lt (b := 1) z (by decide))
    obtain ⟨r, n', o', u', v', R', hX, hY⟩ := zr_add hF (k := 0) (a := a) (b := b) (Or.inl ⟨rfl, ha1, ha, hb1, hb⟩) (fun z => by omega) (fun z => by omega)
    obtain ⟨u0, u1, u2, u3, u4, u5, u6, u7, u8, u9, u10, u11, u12, u13, u14, u15, u16, u17, u18, u19, u20, u21, u22, u23, u24, u25, u26, u27, u28, u29⟩ := u'
    obtain ⟨y0, y1, y2, y3, y4, y5, y6, y7, y8, y9, y10, y11, y12, y13, y14⟩ := v'
    exact br_t ce0 (br_f c1 (br_f c2 (br_f c3 (br_t c4 (hX _ (br_t ce0 (br_f c1 (br_f c2 (br_f c3 (br_t c4 (hY _ ⟨rfl, n', o', R'⟩)))))))))))
  · exact br_t ce0 (br_f c1 (br_f c2 (br_f c3 (br_f c4 (br_t ce0 (br_f c1 (br_f c2 (br_f c3 (br_f c4 ⟨rfl, J⟩)))))))))
theorem i_vc_brk {k : Nat} {u : SX} {v : SY} (I : i_Rel k u v) (hk : k + 3 ≤ 1539) (v1 : Int32) (v2 : Int32) : wpX_brk (fun r u' => wpY_brk (fun r' v' => r' = r ∧ i_Rel (k + 3) u' v') v v1 v2) u v1 v2 := by
  refine zr_el2 (P := fun u v => i_Rel (k + 3) u v → wpX_brk (fun r u' => wpY_brk (fun r' v' => r' = r ∧ i_Rel (k + 3) u' v') v v1 v2) u v1 v2) I ?_ I
  intro n o W L M l c g z tc H xe K A B G S AL AC cd bf re ns fc so sb tl gs gm gd ce ls mo al ac kd fs sd ym hF J
  by_cases ce0 : xe = 0
  rotate_left
  · exact br_f ce0 (br_f ce0 ⟨rfl, J⟩)
  by_cases c1 : v1 < 0
  · exact br_t ce0 (br_t c1 (br_t ce0 (br_t c1 ⟨rfl, J⟩)))
  by_cases c2 : 8 < v1
  · exact br_t ce0 (br_f c1 (br_t c2 (br_t ce0 (br_f c1 (br_t c2 ⟨rfl, J⟩)))))
  by_cases c3 : v2 < -8
  · exact br_t ce0 (br_f c1 (br_f c2 (br_t c3 (br_t ce0 (br_f c1 (br_f c2 (br_t c3 ⟨rfl, J⟩)))))))
  by_cases c4 : v2 ≤ 8
  · obtain ⟨a, ha, rfl⟩ := nI_of2 (x := v1) (M := 8) (n := 8) rfl c1 (Int32.not_lt.mp c2)
    obtain ⟨b, hb, e1, e2⟩ := zr_off c3 c4
    obtain ⟨r, n', o', u', v', R', hX, hY⟩ := zr_add hF (k := 1) (a := a) (b := b) (Or.inr (Or.inl ⟨rfl, ha, hb⟩)) (fun z => by omega) (fun z => by omega)
    obtain ⟨u0, u1, u2, u3, u4, u5, u6, u7, u8, u9, u10, u11, u12, u13, u14, u15, u16, u17, u18, u19, u20, u21, u22, u23, u24, u25, u26, u27, u28, u29⟩ := u'
    obtain ⟨y0, y1, y2, y3, y4, y5, y6, y7, y8, y9, y10, y11, y12, y13, y14⟩ := v'
    rw [← e1] at hX
    rw [show zr_sd 1 b = v2 from e2] at hY
    exact br_t ce0 (br_f c1 (br_f c2 (br_f c3 (br_t c4 (hX _ (br_t ce0 (br_f c1 (br_f c2 (br_f c3 (br_t c4 (hY _ ⟨rfl, n', o', R'⟩)))))))))))
  · exact br_t ce0 (br_f c1 (br_f c2 (br_f c3 (br_f c4 (br_t ce0 (br_f c1 (br_f c2 (br_f c3 (br_f c4 ⟨rfl, J⟩)))))))))
theorem i_vc_hard {k : Nat} {u : SX} {v : SY} (I : i_Rel k u v) (hk : k + 3 ≤ 1539) (v1 : Int32) : wpX_hard (fun r u' => wpY_hard (fun r' v' => r' = r ∧ i_Rel (k + 3) u' v') v v1) u v1 := by
  refine zr_el2 (P := fun u v => i_Rel (k + 3) u v → wpX_hard (fun r u' => wpY_hard (fun r' v' => r' = r ∧ i_Rel (k + 3) u' v') v v1) u v1) I ?_ I
  intro n o W L M l c g z tc H xe K A B G S AL AC cd bf re ns fc so sb tl gs gm gd ce ls mo al ac kd fs sd ym hF J
  by_cases ce0 : xe = 0
  rotate_left
  · exact br_f ce0 (br_f ce0 ⟨rfl, J⟩)
  by_cases c3 : v1 < -8
  · exact br_t ce0 (br_t c3 (br_t ce0 (br_t c3 ⟨rfl, J⟩)))
  by_cases c4 : v1 ≤ 8
  · obtain ⟨b, hb, e1, e2⟩ := zr_off c3 c4
    obtain ⟨r, n', o', u', v', R', hX, hY⟩ := zr_add hF (k := 2) (a := 0) (b := b) (Or.inr (Or.inr (Or.inl ⟨rfl, rfl, hb⟩))) (fun z => by omega) (fun z => by omega)
    obtain ⟨u0, u1, u2, u3, u4, u5, u6, u7, u8, u9, u10, u11, u12, u13, u14, u15, u16, u17, u18, u19, u20, u21, u22, u23, u24, u25, u26, u27, u28, u29⟩ := u'
    obtain ⟨y0, y1, y2, y3, y4, y5, y6, y7, y8, y9, y10, y11, y12, y13, y14⟩ := v'
    rw [← e1] at hX
    rw [show zr_sd 2 b = v1 from e2] at hY
    exact br_t ce0 (br_f c3 (br_t c4 (hX _ (br_t ce0 (br_f c3 (br_t c4 (hY _ ⟨rfl, n', o', R'⟩)))))))
  · exact br_t ce0 (br_f c3 (br_f c4 (br_t ce0 (br_f c3 (br_f c4 ⟨rfl, J⟩)))))
theorem i_vc_open {k : Nat} {u : SX} {v : SY} (I : i_Rel k u v) (hk : k + 3 ≤ 1539) (v1 : Int32) (v2 : Int32) : wpX_open (fun r u' => wpY_open (fun r' v' => r' = r ∧ i_Rel (k + 3) u' v') v v1 v2) u v1 v2 := by
  refine zr_el2 (P := fun u v => i_Rel (k + 3) u v → wpX_open (fun r u' => wpY_open (fun r' v' => r' = r ∧ i_Rel (k + 3) u' v') v v1 v2) u v1 v2) I ?_ I
  intro n o W L M l c g z tc H xe K A B G S AL AC cd bf re ns fc so sb tl gs gm gd ce ls mo al ac kd fs sd ym hF J
  by_cases ce0 : xe = 0
  rotate_left
  · exact br_f ce0 (br_f ce0 ⟨rfl, J⟩)
  by_cases c1 : v1 < 0
  · exact br_t ce0 (br_t c1 (br_t ce0 (br_t c1 ⟨rfl, J⟩)))
  by_cases c2 : 3 < v1
  · exact br_t ce0 (br_f c1 (br_t c2 (br_t ce0 (br_f c1 (br_t c2 ⟨rfl, J⟩)))))
  by_cases c3 : v2 < -8
  · exact br_t ce0 (br_f c1 (br_f c2 (br_t c3 (br_t ce0 (br_f c1 (br_f c2 (br_t c3 ⟨rfl, J⟩)))))))
  by_cases c4 : v2 ≤ 8
  · have dY : ∀ P : Int32 → Prop, P (nI (zd_dep K n)) → wpY_depth P (nI W, nI L, nI M, nI n, nI o, xe, nI l, nI c, kd, fs, sd, mo, al, ac, ym) := fun P hP => zy_depth hF.2.1.2.1 (zi_kd hF.2.2.1 (Nat.le_refl n)) hF.2.2.2.1.2 hP
    have hd : zd_dep K n ≤ 16 := hF.2.2.2.1.1 n (Nat.le_refl n)
    by_cases c5 : zd_dep K n = 16
    · refine br_t ce0 (br_f c1 (br_f c2 (br_f c3 (br_t c4 (br_f ?_ (br_t ce0 (br_f c1 (br_f c2 (br_f c3 (br_t c4 (dY _ (br_t ?_ ⟨rfl, J⟩))))))))))))
      · rw [c5]; decide
      · rw [c5]; rfl
    · obtain ⟨a, ha, rfl⟩ := nI_of2 (x := v1) (M := 3) (n := 3) rfl c1 (Int32.not_lt.mp c2)
      obtain ⟨b, hb, e1, e2⟩ := zr_off c3 c4
      obtain ⟨r, n', o', u', v', R', hX, hY⟩ := zr_add hF (k := 3) (a := a) (b := b) (Or.inr (Or.inr (Or.inr (Or.inl ⟨rfl, ha, hb⟩)))) (fun z => by omega) (fun z => by omega)
      obtain ⟨u0, u1, u2, u3, u4, u5, u6, u7, u8, u9, u10, u11, u12, u13, u14, u15, u16, u17, u18, u19, u20, u21, u22, u23, u24, u25, u26, u27, u28, u29⟩ := u'
      obtain ⟨y0, y1, y2, y3, y4, y5, y6, y7, y8, y9, y10, y11, y12, y13, y14⟩ := v'
      rw [← e1] at hX
      rw [show zr_sd 3 b = v2 from e2] at hY
      refine br_t ce0 (br_f c1 (br_f c2 (br_f c3 (br_t c4 (br_t (nI_lt (b := 16) (by omega) (by decide)) (hX _ (br_t ce0 (br_f c1 (br_f c2 (br_f c3 (br_t c4 (dY _ (br_f ?_ (hY _ ⟨rfl, n', o', R'⟩))))))))))))))
      exact fun z => c5 ((nI_eq (b := 16) (by omega) (by decide)).mp z)
  · exact br_t ce0 (br_f c1 (br_f c2 (br_f c3 (br_f c4 (br_t ce0 (br_f c1 (br_f c2 (br_f c3 (br_f c4 ⟨rfl, J⟩)))))))))
theorem i_vc_close {k : Nat} {u : SX} {v : SY} (I : i_Rel k u v) (hk : k + 3 ≤ 1539) : wpX_close (fun r u' => wpY_close (fun r' v' => r' = r ∧ i_Rel (k + 3) u' v') v) u := by
  refine zr_el2 (P := fun u v => i_Rel (k + 3) u v → wpX_close (fun r u' => wpY_close (fun r' v' => r' = r ∧ i_Rel (k + 3) u' v') v) u) I ?_ I
  intro n o W L M l c g z tc H xe K A B G S AL AC cd bf re ns fc so sb tl gs gm gd ce ls mo al ac kd fs sd ym hF J
  by_cases ce0 : xe = 0
  rotate_left
  · exact br_f ce0 (br_f ce0 ⟨rfl, J⟩)
  have dY : ∀ P : Int32 → Prop, P (nI (zd_dep K n)) → wpY_depth P (nI W, nI L, nI M, nI n, nI o, xe, nI l, nI c, kd, fs, sd, mo, al, ac, ym) := fun P hP => zy_depth hF.2.1.2.1 (zi_kd hF.2.2.1 (Nat.le_refl n)) hF.2.2.2.1.2 hP
  have hd : zd_dep K n ≤ 16 := hF.2.2.2.1.1 n (Nat.le_refl n)
  by_cases c5 : zd_dep K n = 0
  · refine br_t ce0 (br_f ?_ (br_t ce0 (dY _ (br_t ?_ ⟨rfl, J⟩))))
    · rw [c5]; decide
    · rw [c5]; rfl
  · obtain ⟨r, n', o', u', v', R', hX, hY⟩ := zr_add hF (k := 4) (a := 0) (b := 0) (Or.inr (Or.inr (Or.inr (Or.inr ⟨rfl, rfl, rfl⟩)))) (fun z => by omega) (fun z => by omega)
    obtain ⟨u0, u1, u2, u3, u4, u5, u6, u7, u8, u9, u10, u11, u12, u13, u14, u15, u16, u17, u18, u19, u20, u21, u22, u23, u24, u25, u26, u27, u28, u29⟩ := u'
    obtain ⟨y0, y1, y2, y3, y4, y5, y6, y7, y8, y9, y10, y11, y12, y13, y14⟩ := v'
    exact br_t ce0 (br_t (nI_lt (a := 0) (by omega) (by omega)) (hX _ (br_t ce0 (dY _ (br_f (nI_ne0 (by omega) (by omega)) (hY _ ⟨rfl, n', o', R'⟩))))))
end
