section
theorem pk_us {f : Nat → Int32} {k : Nat} {x : Int32} : upd f k x k = x := if_pos rfl
theorem pk_un {f : Nat → Int32} {k j : Nat} {x : Int32} (h : j ≠ k) : upd f k x j = f j := if_neg h
theorem pk_sub {a b : Nat} (h : b ≤ a) : nI a - nI b = nI (a - b) := by
  obtain ⟨c, rfl⟩ : ∃ c, a = c + b := ⟨a - b, by omega⟩
  rw [← nI_add, Int32.add_sub_cancel, Nat.add_sub_cancel]
theorem pk_m1 (n : Nat) : nI (n + 1) + (-1) = nI n := by
  rw [← nI_1, Int32.add_assoc, show (1 : Int32) + (-1) = 0 from rfl, Int32.add_zero]
theorem pk_mul (a b : Nat) : nI a * nI b = nI (a * b) := (Int32.ofNat_mul a b).symm
theorem pk_div {a d : Nat} (ha : a < 2 ^ 31) (h0 : 0 < d) (hd : d < 2 ^ 31) : nI a / nI d = nI (a / d) := by
  apply Int32.toInt_inj.mp
  rw [lg_idiv_nonneg (by rw [nI_toInt ha]; omega) (by rw [nI_toInt hd]; omega), nI_toInt ha, nI_toInt hd, nI_toInt (Nat.lt_of_le_of_lt (Nat.div_le_self a d) ha)]
  first | rfl | exact (Int.natCast_ediv _ _).symm
theorem pk_rem {a d : Nat} (ha : a < 2 ^ 31) (h0 : 0 < d) (hd : d < 2 ^ 31) : nI a - nI a / nI d * nI d = nI (a % d) := by
  rw [pk_div ha h0 hd, pk_mul, pk_sub (Nat.div_mul_le_self a d)]
  exact congrArg nI (by have := Nat.div_add_mod' a d; omega)
theorem pk_sub_toInt {a b : Nat} (ha : a < 2 ^ 30) (hb : b < 2 ^ 30) : (nI a - nI b).toInt = (a : Int) - b := by
  rw [Int32.toInt_sub, nI_toInt (by omega), nI_toInt (by omega)]
  exact Int.bmod_eq_of_le (by omega) (by omega)
theorem pk_sneg {a b : Nat} (hb : b < 2 ^ 30) (h : a < b) : nI a - nI b < 0 := by
  rw [Int32.lt_iff_toInt_lt, pk_sub_toInt (by omega) hb, show (0 : Int32).toInt = 0 from by decide]
  omega
theorem pk_ix (x : Int32) {n : Nat} (hn : n < 2 ^ 31) : x < 0 ∨ nI n ≤ x ∨ ∃ j : Nat, j < n ∧ x = nI j := by
  by_cases h : x < 0
  · exact Or.inl h
  · obtain ⟨j, hj, rfl⟩ := nI_of h
    by_cases h2 : j < n
    · exact Or.inr (Or.inr ⟨j, h2, rfl⟩)
    · exact Or.inr (Or.inl (nI_le (by omega) hj))
theorem pk_le {x y : Int32} {A B : Prop} (a b : Nat) (f : a ≤ b → A) (g : b < a → B) (hx : x = nI a := by rfl) (hy : y = nI b := by rfl) (ha : a < 2 ^ 31 := by omega) (hb : b < 2 ^ 31 := by omega) : (x ≤ y → A) ∧ (¬ x ≤ y → B) := by
  subst hx hy
  rw [nI_leI ha hb]
  exact ⟨f, fun z => g (by omega)⟩
theorem pk_lt {x y : Int32} {A B : Prop} (a b : Nat) (f : a < b → A) (g : b ≤ a → B) (hx : x = nI a := by rfl) (hy : y = nI b := by rfl) (ha : a < 2 ^ 31 := by omega) (hb : b < 2 ^ 31 := by omega) : (x < y → A) ∧ (¬ x < y → B) := by
  subst hx hy
  rw [nI_ltI ha hb]
  exact ⟨f, fun z => g (by omega)⟩
theorem pk_eq {x y : Int32} {A B : Prop} (a b : Nat) (f : a = b → A) (g : a ≠ b → B) (hx : x = nI a := by rfl) (hy : y = nI b := by rfl) (ha : a < 2 ^ 31 := by omega) (hb : b < 2 ^ 31 := by omega) : (x = y → A) ∧ (¬ x = y → B) := by
  subst hx hy
  rw [nI_eq ha hb]
  exact ⟨f, g⟩
theorem pk_in {x : Int32} (n N : Nat) (h : n < N) (hx : x = nI n := by rfl) (hN : N < 2 ^ 31 := by omega) : vp_in x N := by
  subst hx
  exact vp_in_nI h hN
theorem pk_cl {x : Int32} (n : Nat) (hx : x = nI n := by rfl) (h : n < 2 ^ 31 := by omega) : x.toNatClampNeg = n := by
  subst hx
  exact nI_clamp h
theorem pk_tn {n : Nat} (h : n < 2 ^ 32) : (nI n).toBitVec.toNat = n := Nat.mod_eq_of_lt h
theorem pk_and (x : Int32) {m : Int32} (k : Nat) (hm : m.toBitVec.toNat = 2 ^ k - 1) : x &&& m = nI (x.toBitVec.toNat % 2 ^ k) := by
  apply Int32.toBitVec_inj.mp
  apply BitVec.eq_of_toNat_eq
  rw [Int32.toBitVec_and, BitVec.toNat_and, hm, Nat.and_two_pow_sub_one_eq_mod]
  show _ = (BitVec.ofNat 32 _).toNat
  rw [BitVec.toNat_ofNat]
  exact (Nat.mod_eq_of_lt (Nat.lt_of_le_of_lt (Nat.mod_le _ _) x.toBitVec.isLt)).symm
theorem pk_andN {n : Nat} (h : n < 2 ^ 32) {m : Int32} (k : Nat) (hm : m.toBitVec.toNat = 2 ^ k - 1) : nI n &&& m = nI (n % 2 ^ k) := by
  rw [pk_and _ k hm, pk_tn h]
theorem pk_andE (x : Int32) {m : Int32} (k : Nat) (hm : m.toBitVec.toNat = 2 ^ k - 1) : ∃ j : Nat, j < 2 ^ k ∧ x &&& m = nI j := ⟨_, Nat.mod_lt _ (Nat.two_pow_pos k), pk_and x k hm⟩
theorem pk_andIn (x : Int32) {m : Int32} (k : Nat) (hm : m.toBitVec.toNat = 2 ^ k - 1) (hk : k ≤ 30) : vp_in (x &&& m) (2 ^ k) := by
  obtain ⟨j, hj, e⟩ := pk_andE x k hm
  rw [e]
  exact vp_in_nI hj (Nat.lt_of_le_of_lt (Nat.pow_le_pow_right (by decide) hk) (by decide))
end
section
/-! sums over a stretch, the greatest over a stretch -/
def zb_sm (f : Nat → Int32) (b : Nat) : Nat → Int32
  | 0 => 0
  | n + 1 => zb_sm f b n + f (b + n)
theorem zb_sm_s (f : Nat → Int32) (b n : Nat) : zb_sm f b (n + 1) = zb_sm f b n + f (b + n) := rfl
theorem zb_r1 (s v f : Int32) : s + v = s + f + (v - f) := by grind
theorem zb_r2 (s v f g : Int32) : s + (v - f) + g = s + g + (v - f) := by grind
theorem zb_r3 (s f : Int32) : s - f = s + (0 - f) := by grind
theorem zb_r4 (s f : Int32) : s + f = s + (f - 0) := by grind
theorem zb_r5 (s f : Int32) : s + (f - f) = s := by grind
theorem zb_sm_upd (f : Nat → Int32) (b k : Nat) (v : Int32) (n : Nat) : zb_sm (upd f k v) b n = if b ≤ k ∧ k < b + n then zb_sm f b n + (v - f k) else zb_sm f b n := by
  induction n with
  | zero => rw [if_neg (by omega)]; rfl
  | succ n ih =>
    rw [zb_sm_s, zb_sm_s, ih]
    by_cases e : b + n = k
    · subst e
      rw [pk_us, if_neg (by omega), if_pos (by omega)]
      exact zb_r1 _ _ _
    · rw [pk_un e]
      by_cases h : b ≤ k ∧ k < b + n
      · rw [if_pos h, if_pos (by omega)]
        exact zb_r2 _ _ _ _
      · rw [if_neg h, if_neg (by omega)]
theorem zb_sm_in {f : Nat → Int32} {b k : Nat} {v : Int32} {n : Nat} (h : b ≤ k ∧ k < b + n) : zb_sm (upd f k v) b n = zb_sm f b n + (v - f k) := by
  rw [zb_sm_upd, if_pos h]
theorem zb_sm_out {f : Nat → Int32} {b k : Nat} {v : Int32} {n : Nat} (h : ¬ (b ≤ k ∧ k < b + n)) : zb_sm (upd f k v) b n = zb_sm f b n := by
  rw [zb_sm_upd, if_neg h]
theorem zb_sm_congr {f g : Nat → Int32} {b d : Nat} (n : Nat) (h : ∀ i, i < n → f (b + i) = g (d + i)) : zb_sm f b n = zb_sm g d n := by
  induction n with
  | zero => rfl
  | succ n ih => rw [zb_sm_s, zb_sm_s, ih (fun i hi => h i (by omega)), h n (by omega)]
def zb_mx (f : Nat → Int32) (b : Nat) : Nat → Int32
  | 0 => 0
  | n + 1 => if f (b + n) ≤ zb_mx f b n then zb_mx f b n else f (b + n)
theorem zb_mx_s (f : Nat → Int32) (b n : Nat) : zb_mx f b (n + 1) = if f (b + n) ≤ zb_mx f b n then zb_mx f b n else f (b + n) := rfl
theorem zb_mx_congr {f g : Nat → Int32} {b d : Nat} (n : Nat) (h : ∀ i, i < n → f (b + i) = g (d + i)) : zb_mx f b n = zb_mx g d n := by
  induction n with
  | zero => rfl
  | succ n ih => rw [zb_mx_s, zb_mx_s, ih (fun i hi => h i (by omega)), h n (by omega)]
def zb_IM (f : Nat → Int32) (b n : Nat) (m : Int32) : Prop := 0 ≤ m.toInt ∧ (∀ i, i < n → (f (b + i)).toInt ≤ m.toInt) ∧ (m.toInt = 0 ∨ ∃ i, i < n ∧ m = f (b + i))
theorem zb_z : (0 : Int32).toInt = 0 := by decide
theorem zb_mx_is (f : Nat → Int32) (b n : Nat) : zb_IM f b n (zb_mx f b n) := by
  induction n with
  | zero => exact ⟨Int.le_of_eq zb_z.symm, fun i hi => absurd hi (by omega), Or.inl zb_z⟩
  | succ n ih =>
    obtain ⟨h0, h1, h2⟩ := ih
    rw [zb_mx_s]
    by_cases h : f (b + n) ≤ zb_mx f b n
    · rw [if_pos h]
      rw [Int32.le_iff_toInt_le] at h
      refine ⟨h0, fun i hi => ?_, ?_⟩
      · by_cases e : i = n
        · rw [e]; exact h
        · exact h1 i (by omega)
      · rcases h2 with h2 | ⟨i, hi, e⟩
        · exact Or.inl h2
        · exact Or.inr ⟨i, by omega, e⟩
    · rw [if_neg h]
      rw [Int32.le_iff_toInt_le] at h
      refine ⟨by omega, fun i hi => ?_, Or.inr ⟨n, by omega, rfl⟩⟩
      by_cases e : i = n
      · rw [e]; exact Int.le_refl _
      · have := h1 i (by omega)
        omega
theorem zb_im_le {f : Nat → Int32} {b n : Nat} {m k : Int32} (h : zb_IM f b n m) (g : zb_IM f b n k) : m.toInt ≤ k.toInt := by
  rcases h.2.2 with e | ⟨i, hi, e⟩
  · have := g.1; omega
  · rw [e]; exact g.2.1 i hi
theorem zb_im_u {f : Nat → Int32} {b n : Nat} {m : Int32} (h : zb_IM f b n m) : m = zb_mx f b n := by
  apply Int32.toInt_inj.mp
  have h1 := zb_im_le h (zb_mx_is f b n)
  have h2 := zb_im_le (zb_mx_is f b n) h
  omega
theorem zb_mx_up {f : Nat → Int32} {b n s : Nat} {v : Int32} (hs : s < n) (h : ¬ v < zb_mx f b n) : v = zb_mx (upd f (b + s) v) b n := by
  have ⟨h0, h1, h2⟩ := zb_mx_is f b n
  rw [Int32.lt_iff_toInt_lt] at h
  refine zb_im_u ⟨by omega, fun i hi => ?_, Or.inr ⟨s, hs, pk_us.symm⟩⟩
  by_cases e : i = s
  · rw [e, pk_us]; exact Int.le_refl _
  · rw [pk_un (by omega)]
    have := h1 i hi
    omega
theorem zb_mx_keep {f : Nat → Int32} {b n s : Nat} {v : Int32} (h : v < zb_mx f b n) (hb : ¬ f (b + s) = zb_mx f b n) : zb_mx f b n = zb_mx (upd f (b + s) v) b n := by
  have ⟨h0, h1, h2⟩ := zb_mx_is f b n
  rw [Int32.lt_iff_toInt_lt] at h
  refine zb_im_u ⟨h0, fun i hi => ?_, ?_⟩
  · by_cases e : i = s
    · rw [e, pk_us]; omega
    · rw [pk_un (by omega)]
      exact h1 i hi
  · rcases h2 with h2 | ⟨i, hi, e⟩
    · exact Or.inl h2
    · refine Or.inr ⟨i, hi, ?_⟩
      have hne : i ≠ s := fun z => hb (by rw [← z]; exact e.symm)
      rw [pk_un (by omega)]
      exact e
/-! reads: their sum and number, the mean, the look back, the rule -/
def zb_ps (x : Int32) : Int32 := if x < 0 then 0 else x
def zb_in (x : Int32) : Int32 := if x < 0 then 0 else 1
def zb_rs (R : Nat → Int32) (b n : Nat) : Int32 := zb_sm (fun j => zb_ps (R j)) b n
def zb_rc (R : Nat → Int32) (b n : Nat) : Int32 := zb_sm (fun j => zb_in (R j)) b n
theorem zb_rs_s (R : Nat → Int32) (b n : Nat) : zb_rs R b (n + 1) = zb_rs R b n + zb_ps (R (b + n)) := rfl
theorem zb_rc_s (R : Nat → Int32) (b n : Nat) : zb_rc R b (n + 1) = zb_rc R b n + zb_in (R (b + n)) := rfl
theorem zb_comp (g : Int32 → Int32) (f : Nat → Int32) (k : Nat) (v : Int32) : (fun j => g (upd f k v j)) = upd (fun j => g (f j)) k (g v) := by
  funext j
  by_cases e : j = k
  · rw [e, pk_us, pk_us]
  · rw [pk_un e, pk_un e]
theorem zb_rs_upd (R : Nat → Int32) (k : Nat) (v : Int32) (c : Nat) : zb_rs (upd R k v) (c * 8) 8 = if c = k / 8 then zb_rs R (c * 8) 8 + (zb_ps v - zb_ps (R k)) else zb_rs R (c * 8) 8 := by
  unfold zb_rs
  rw [zb_comp]
  by_cases h : c = k / 8
  · rw [if_pos h, zb_sm_in (by omega)]
  · rw [if_neg h, zb_sm_out (by omega)]
theorem zb_rc_upd (R : Nat → Int32) (k : Nat) (v : Int32) (c : Nat) : zb_rc (upd R k v) (c * 8) 8 = if c = k / 8 then zb_rc R (c * 8) 8 + (zb_in v - zb_in (R k)) else zb_rc R (c * 8) 8 := by
  unfold zb_rc
  rw [zb_comp]
  by_cases h : c = k / 8
  · rw [if_pos h, zb_sm_in (by omega)]
  · rw [if_neg h, zb_sm_out (by omega)]
theorem zb_rc_n (R : Nat → Int32) (b n : Nat) : ∃ m, m ≤ n ∧ zb_rc R b n = nI m := by
  induction n with
  | zero => exact ⟨0, Nat.le_refl _, rfl⟩
  | succ n ih =>
    obtain ⟨m, hm, e⟩ := ih
    rw [zb_rc_s, e]
    unfold zb_in
    by_cases h : R (b + n) < 0
    · rw [if_pos h, Int32.add_zero]; exact ⟨m, by omega, rfl⟩
    · rw [if_neg h, nI_1]; exact ⟨m + 1, by omega, rfl⟩
def zb_mn (R : Nat → Int32) (c : Nat) : Int32 := if zb_rc R (c * 8) 8 = 0 then 0 else zb_rs R (c * 8) 8 / zb_rc R (c * 8) 8
def zb_lk (R : Nat → Int32) (b s : Nat) (d : Int32) : Nat → Int32
  | 0 => d
  | q + 1 => if R (b + (q * 8 + s)) < 0 then zb_lk R b s d q else R (b + (q * 8 + s))
theorem zb_lk_s (R : Nat → Int32) (b s : Nat) (d : Int32) (q : Nat) : zb_lk R b s d (q + 1) = if R (b + (q * 8 + s)) < 0 then zb_lk R b s d q else R (b + (q * 8 + s)) := rfl
def zb_ru (R : Nat → Int32) (a i : Nat) : Int32 := zb_lk R (a * 48) (i % 8) (zb_mn R (a * 6 + i / 8)) (i / 8 + 1)
theorem zb_mn_ind {R T : Nat → Int32} {k c : Nat} (h : ∀ j, j ≠ k → T j = R j) (hc : c ≠ k / 8) : zb_mn T c = zb_mn R c := by
  have e1 : zb_rc T (c * 8) 8 = zb_rc R (c * 8) 8 := zb_sm_congr 8 fun i hi => congrArg zb_in (h _ (by omega))
  have e2 : zb_rs T (c * 8) 8 = zb_rs R (c * 8) 8 := zb_sm_congr 8 fun i hi => congrArg zb_ps (h _ (by omega))
  unfold zb_mn
  rw [e1, e2]
theorem zb_lk_ind {R T : Nat → Int32} {k b s : Nat} {d : Int32} (h : ∀ j, j ≠ k → T j = R j) (q : Nat) (hq : ∀ p, p < q → b + (p * 8 + s) = k → ∃ t, p < t ∧ t < q ∧ ¬ T (b + (t * 8 + s)) < 0) : zb_lk T b s d q = zb_lk R b s d q := by
  induction q with
  | zero => rfl
  | succ q ih =>
    have hn : b + (q * 8 + s) ≠ k := fun z => by
      obtain ⟨t, h1, h2, _⟩ := hq q (by omega) z
      omega
    rw [zb_lk_s, zb_lk_s, h _ hn]
    by_cases hr : R (b + (q * 8 + s)) < 0
    · rw [if_pos hr, if_pos hr]
      refine ih fun p hp e => ?_
      obtain ⟨t, h1, h2, h3⟩ := hq p (by omega) e
      refine ⟨t, h1, ?_, h3⟩
      by_cases et : t = q
      · rw [et, h _ hn] at h3; exact absurd hr h3
      · omega
    · rw [if_neg hr, if_neg hr]
/-- the places that may hang on a read of account a at interval i in later periods: no read of their own between -/
def zb_D (T : Nat → Int32) (a i x j : Nat) : Prop := x = a ∧ i < j ∧ j % 8 = i % 8 ∧ ∀ t, i / 8 < t → t ≤ j / 8 → T (a * 48 + (t * 8 + i % 8)) < 0
theorem zb_ru_ind {R T : Nat → Int32} {a i x j : Nat} (hi : i < 48) (hj : j < 48) (h : ∀ y, y ≠ a * 48 + i → T y = R y) (h1 : ¬ (x = a ∧ j / 8 = i / 8)) (h2 : ¬ zb_D T a i x j) : zb_ru T x j = zb_ru R x j := by
  unfold zb_ru
  rw [zb_mn_ind h (by omega)]
  refine zb_lk_ind h _ fun p hp e => ?_
  have ea : x = a := by omega
  subst ea
  have ep : p = i / 8 := by omega
  have es : j % 8 = i % 8 := by omega
  have hlt : i / 8 < j / 8 := by omega
  by_cases hx : ∃ t, i / 8 < t ∧ t ≤ j / 8 ∧ ¬ T (x * 48 + (t * 8 + i % 8)) < 0
  · obtain ⟨t, t1, t2, t3⟩ := hx
    refine ⟨t, by omega, by omega, ?_⟩
    rw [es]; exact t3
  · exfalso
    refine h2 ⟨rfl, by omega, es, fun t t1 t2 => ?_⟩
    by_cases z : T (x * 48 + (t * 8 + i % 8)) < 0
    · exact z
    · exact absurd ⟨t, t1, t2, z⟩ hx
/-- all usages but those of S are up to date -/
def zb_OK (S : Nat → Nat → Prop) (U T : Nat → Int32) : Prop := ∀ x j, x < 2 → j < 48 → S x j ∨ U (x * 48 + j) = zb_ru T x j
theorem zb_OK_upd {S S' : Nat → Nat → Prop} {U T : Nat → Int32} {a i : Nat} (hi : i < 48) (h : zb_OK S U T) (hS : ∀ x j, x < 2 → j < 48 → S x j → (x = a ∧ j = i) ∨ S' x j) : zb_OK S' (upd U (a * 48 + i) (zb_ru T a i)) T := by
  intro x j hx hj
  by_cases e : x = a ∧ j = i
  · obtain ⟨rfl, rfl⟩ := e
    exact Or.inr pk_us
  · rcases h x j hx hj with h1 | h1
    · rcases hS x j hx hj h1 with h2 | h2
      · exact absurd h2 e
      · exact Or.inl h2
    · refine Or.inr ?_
      rw [pk_un (by omega)]
      exact h1
theorem zb_OK_mono {S S' : Nat → Nat → Prop} {U T : Nat → Int32} (h : zb_OK S U T) (hS : ∀ x j, x < 2 → j < 48 → S x j → S' x j) : zb_OK S' U T := by
  intro x j hx hj
  rcases h x j hx hj with h1 | h1
  · exact Or.inl (hS x j hx hj h1)
  · exact Or.inr h1
end
section
/-! bills -/
def zb_ls (t : Nat → Int32) (e : Int32) : Int32 := if t 5 * 1000 ≤ e then e else t 5 * 1000
def zb_ab (x : Int32) : Int32 := if x ≤ 2000 then 0 else x - 2000
def zb_en (l m h g : Int32) (t : Nat → Int32) (z : Int32) : Int32 := (((l * t 0 + m * t 1) + h * t 2) + g * t 3) + z * t 4
def zb_rt (l m h g : Int32) (t : Nat → Int32) : Int32 := zb_ls t (zb_en l m h g t (zb_ab (l + m + h)))
def zb_bd (n : Nat) : Nat := if n < 3 then 0 else if n < 5 then 1 else 2
def zb_am (V t : Nat → Int32) : Nat → Int32
  | 0 => 0
  | n + 1 => zb_am V t n + V n * t (zb_bd n)
def zb_yr (V t : Nat → Int32) : Int32 := zb_rt (zb_sm V 0 3) (zb_sm V 3 2) (zb_sm V 5 3) (zb_mx V 0 8) t
theorem zb_rt_congr {l m h g : Int32} {t s : Nat → Int32} (e : ∀ k, k < 6 → t k = s k) : zb_rt l m h g t = zb_rt l m h g s := by
  unfold zb_rt zb_ls zb_en
  rw [e 0 (by decide), e 1 (by decide), e 2 (by decide), e 3 (by decide), e 4 (by decide), e 5 (by decide)]
theorem zb_yr_congr {V W t s : Nat → Int32} (h : ∀ k, k < 8 → V k = W k) (e : ∀ k, k < 6 → t k = s k) : zb_yr V t = zb_yr W s := by
  unfold zb_yr
  rw [zb_rt_congr e]
  rw [zb_sm_congr (f := V) (g := W) (b := 0) (d := 0) 3 (fun i hi => h _ (by omega)), zb_sm_congr (f := V) (g := W) (b := 3) (d := 3) 2 (fun i hi => h _ (by omega)), zb_sm_congr (f := V) (g := W) (b := 5) (d := 5) 3 (fun i hi => h _ (by omega)), zb_mx_congr (f := V) (g := W) (b := 0) (d := 0) 8 (fun i hi => h _ (by omega))]
theorem zb_ring1 (a b c d e f g h x y z : Int32) : 0 + a * x + b * x + c * x + d * y + e * y + f * z + g * z + h * z = ((0 + a + b + c) * x + (0 + d + e) * y) + (0 + f + g + h) * z := by grind
theorem zb_ring2 (a b c d e f g h : Int32) : 0 + a + b + c + d + e + f + g + h = (0 + a + b + c) + (0 + d + e) + (0 + f + g + h) := by grind
theorem zb_ring3 (a b : Int32) : a = a + 0 * b := by grind
theorem zb_am8 (V t : Nat → Int32) : zb_am V t 8 = (zb_sm V 0 3 * t 0 + zb_sm V 3 2 * t 1) + zb_sm V 5 3 * t 2 := zb_ring1 (V 0) (V 1) (V 2) (V 3) (V 4) (V 5) (V 6) (V 7) (t 0) (t 1) (t 2)
theorem zb_sm8 (V : Nat → Int32) : zb_sm V 0 8 = zb_sm V 0 3 + zb_sm V 3 2 + zb_sm V 5 3 := zb_ring2 (V 0) (V 1) (V 2) (V 3) (V 4) (V 5) (V 6) (V 7)
theorem zb_y_le {V t : Nat → Int32} (h : zb_sm V 0 8 ≤ 2000) : zb_ls t (zb_am V t 8 + zb_mx V 0 8 * t 3) = zb_yr V t := by
  unfold zb_yr zb_rt zb_en zb_ab
  rw [← zb_sm8, if_pos h, ← zb_am8, ← zb_ring3]
theorem zb_y_gt {V t : Nat → Int32} (h : ¬ zb_sm V 0 8 ≤ 2000) : zb_ls t (zb_am V t 8 + zb_mx V 0 8 * t 3 + (zb_sm V 0 8 - 2000) * t 4) = zb_yr V t := by
  unfold zb_yr zb_rt zb_en zb_ab
  rw [← zb_sm8, if_neg h, ← zb_am8]
def zb_tf (c : Nat) (it fx : Nat → Int32) (p : Nat) : Nat → Int32 := fun k => if c ≤ p then it k else fx (p * 6 + k)
def zb_bl (c : Nat) (it fx R : Nat → Int32) (a p : Nat) : Int32 := zb_yr (fun s => zb_ru R a (p * 8 + s)) (zb_tf c it fx p)
theorem zb_bl_ind {c : Nat} {it fx R T : Nat → Int32} {a i x p : Nat} (hi : i < 48) (hp : p < 6) (h : ∀ y, y ≠ a * 48 + i → T y = R y) (h1 : x ≠ a ∨ p < i / 8) : zb_bl c it fx T x p = zb_bl c it fx R x p := by
  unfold zb_bl
  refine zb_yr_congr (fun s hs => ?_) fun k hk => rfl
  show zb_ru T x (p * 8 + s) = zb_ru R x (p * 8 + s)
  refine zb_ru_ind hi (by omega) h (by omega) fun hd => ?_
  obtain ⟨e, hl, _⟩ := hd
  omega
theorem zb_bl_it {c : Nat} {it iu fx R : Nat → Int32} {x p : Nat} (hp : p < c) : zb_bl c iu fx R x p = zb_bl c it fx R x p := by
  unfold zb_bl
  refine zb_yr_congr (fun s hs => rfl) fun k hk => ?_
  unfold zb_tf
  rw [if_neg (by omega), if_neg (by omega)]
/-! the ledgers' rings -/
def zb_tn (z : Int32) : Nat := z.toBitVec.toNat
theorem zb_tn_and (z : Int32) : z &&& 7 = nI (zb_tn z % 8) := pk_and z 3 (by decide)
theorem zb_tn_1 (z : Int32) : zb_tn (z + 1) = (zb_tn z + 1) % 4294967296 := by
  unfold zb_tn
  rw [Int32.toBitVec_add, BitVec.toNat_add]
  rfl
theorem zb_tn_k (z : Int32) {k : Nat} (hk : k < 8) : ((z - 1) - nI k) &&& 7 = nI ((zb_tn z + 7 - k) % 8) := by
  rw [zb_tn_and]
  refine congrArg nI ?_
  have hz : zb_tn z < 4294967296 := z.toBitVec.isLt
  have e1 : (1 : Int32).toBitVec.toNat = 1 := by decide
  have e2 : (nI k).toBitVec.toNat = k := pk_tn (by omega)
  have e : zb_tn (z - 1 - nI k) = (4294967296 - k + (4294967296 - 1 + zb_tn z) % 4294967296) % 4294967296 := by
    unfold zb_tn
    rw [Int32.toBitVec_sub, Int32.toBitVec_sub, BitVec.toNat_sub, BitVec.toNat_sub, e1, e2]
  rw [e]
  omega
def zb_L1 (ct la am : Nat → Int32) : Prop := ∀ a k, a < 2 → k < 8 → am (a * 8 + k) = la (a * 8 + (zb_tn (ct a) + 7 - k) % 8)
def zb_sh (b : Nat) (x : Int32) : Nat → (Nat → Int32) → Nat → Int32
  | 0, f => upd f b x
  | k + 1, f => zb_sh b x k (upd f (b + (k + 1)) (f (b + k)))
theorem zb_sh_at (b : Nat) (x : Int32) (k : Nat) : ∀ (f : Nat → Int32) (j : Nat), zb_sh b x k f j = if j = b then x else if b < j ∧ j ≤ b + k then f (j - 1) else f j := by
  induction k with
  | zero =>
    intro f j
    rw [if_neg (show ¬ (b < j ∧ j ≤ b + 0) by omega)]
    rfl
  | succ k ih =>
    intro f j
    show zb_sh b x k (upd f (b + (k + 1)) (f (b + k))) j = _
    rw [ih]
    by_cases h : j = b
    · rw [if_pos h, if_pos h]
    · rw [if_neg h, if_neg h]
      by_cases h2 : b < j ∧ j ≤ b + k
      · rw [if_pos h2, if_pos (by omega), pk_un (by omega)]
      · rw [if_neg h2]
        by_cases h3 : j = b + (k + 1)
        · rw [h3, pk_us, if_pos (by omega)]
          exact congrArg f (by omega)
        · rw [pk_un h3, if_neg (by omega)]
theorem zb_L1_add {ct la am : Nat → Int32} {a : Nat} (x : Int32) (h : zb_L1 ct la am) (ha : a < 2) : zb_L1 (upd ct a (ct a + 1)) (upd la (a * 8 + zb_tn (ct a) % 8) x) (zb_sh (a * 8) x 7 am) := by
  intro y k hy hk
  rw [zb_sh_at]
  by_cases e : y = a
  · subst e
    rw [pk_us, zb_tn_1]
    have hh := h y (k - 1) hy (by omega)
    have hz : zb_tn (ct y) < 4294967296 := (ct y).toBitVec.isLt
    generalize zb_tn (ct y) = T at hh hz
    by_cases h0 : k = 0
    · rw [if_pos (by omega), show y * 8 + ((T + 1) % 4294967296 + 7 - k) % 8 = y * 8 + T % 8 by omega, pk_us]
    · rw [if_neg (by omega), if_pos (by omega), pk_un (by omega), show y * 8 + k - 1 = y * 8 + (k - 1) by omega, hh]
      exact congrArg la (by omega)
  · rw [pk_un e, if_neg (by omega), if_neg (by omega), pk_un (by omega)]
    exact h y k hy hk
def zb_LR (ct la lp am pe : Nat → Int32) : Prop := zb_L1 ct la am ∧ zb_L1 ct lp pe
/-! what the relation holds -/
def zb_RD (R kn rd rc rs : Nat → Int32) : Prop := (∀ j, j < 96 → (kn j = 0 ↔ R j < 0) ∧ (¬ R j < 0 → rd j = R j)) ∧ (∀ c, c < 12 → rc c = zb_rc R (c * 8) 8 ∧ rs c = zb_rs R (c * 8) 8)
theorem zb_in_n {x : Int32} (h : x < 0) : zb_in x = 0 := if_pos h
theorem zb_in_p {x : Int32} (h : ¬ x < 0) : zb_in x = 1 := if_neg h
theorem zb_ps_n {x : Int32} (h : x < 0) : zb_ps x = 0 := if_pos h
theorem zb_ps_p {x : Int32} (h : ¬ x < 0) : zb_ps x = x := if_neg h
theorem zb_m1n : (-1 : Int32) < 0 := by decide
theorem zb_RD_f0 {R kn rd rc rs : Nat → Int32} {k : Nat} (h : zb_RD R kn rd rc rs) (hk : k < 96) (hz : kn k = 0) : zb_RD (upd R k (-1)) kn rd rc rs := by
  have hR : R k < 0 := (h.1 k hk).1.mp hz
  refine ⟨fun j hj => ?_, fun c hc => ?_⟩
  · by_cases e : j = k
    · rw [e, pk_us]
      exact ⟨⟨fun _ => zb_m1n, fun _ => hz⟩, fun z => absurd zb_m1n z⟩
    · rw [pk_un e]; exact h.1 j hj
  · rw [zb_rc_upd, zb_rs_upd, zb_in_n hR, zb_in_n zb_m1n, zb_ps_n hR, zb_ps_n zb_m1n, zb_r5, zb_r5, ite_self, ite_self]
    exact h.2 c hc
theorem zb_RD_f1 {R kn rd rc rs : Nat → Int32} {k : Nat} (h : zb_RD R kn rd rc rs) (hk : k < 96) (hz : ¬ kn k = 0) : zb_RD (upd R k (-1)) (upd kn k 0) rd (upd rc (k / 8) (rc (k / 8) - 1)) (upd rs (k / 8) (rs (k / 8) - rd k)) := by
  have hR : ¬ R k < 0 := fun z => hz ((h.1 k hk).1.mpr z)
  refine ⟨fun j hj => ?_, fun c hc => ?_⟩
  · by_cases e : j = k
    · rw [e, pk_us, pk_us]
      exact ⟨⟨fun _ => zb_m1n, fun _ => rfl⟩, fun z => absurd zb_m1n z⟩
    · rw [pk_un e, pk_un e]; exact h.1 j hj
  · rw [zb_rc_upd, zb_rs_upd, zb_in_p hR, zb_in_n zb_m1n, zb_ps_p hR, zb_ps_n zb_m1n]
    by_cases e : c = k / 8
    · rw [if_pos e, if_pos e, ← e, pk_us, pk_us, (h.2 c hc).1, (h.2 c hc).2, (h.1 k hk).2 hR]
      exact ⟨zb_r3 _ _, zb_r3 _ _⟩
    · rw [if_neg e, if_neg e, pk_un e, pk_un e]
      exact h.2 c hc
theorem zb_RD_set {R kn rd rc rs : Nat → Int32} {k : Nat} {v : Int32} (h : zb_RD R kn rd rc rs) (hR : R k < 0) (hv : ¬ v < 0) : zb_RD (upd R k v) (upd kn k 1) (upd rd k v) (upd rc (k / 8) (rc (k / 8) + 1)) (upd rs (k / 8) (rs (k / 8) + v)) := by
  refine ⟨fun j hj => ?_, fun c hc => ?_⟩
  · by_cases e : j = k
    · rw [e, pk_us, pk_us, pk_us]
      exact ⟨⟨fun z => absurd z (by decide), fun z => absurd z hv⟩, fun _ => rfl⟩
    · rw [pk_un e, pk_un e, pk_un e]; exact h.1 j hj
  · rw [zb_rc_upd, zb_rs_upd, zb_in_n hR, zb_in_p hv, zb_ps_n hR, zb_ps_p hv]
    by_cases e : c = k / 8
    · rw [if_pos e, if_pos e, ← e, pk_us, pk_us, (h.2 c hc).1, (h.2 c hc).2]
      exact ⟨zb_r4 _ _, zb_r4 _ _⟩
    · rw [if_neg e, if_neg e, pk_un e, pk_un e]
      exact h.2 c hc
def zb_A3 (U lo mi hi : Nat → Int32) : Prop := ∀ c, c < 12 → lo c = zb_sm U (c * 8) 3 ∧ mi c = zb_sm U (c * 8 + 3) 2 ∧ hi c = zb_sm U (c * 8 + 5) 3
def zb_GR (U gr : Nat → Int32) : Prop := ∀ c, c < 12 → gr c = zb_mx U (c * 8) 8
theorem zb_A3_lo {U lo mi hi : Nat → Int32} {k : Nat} {v : Int32} (h : zb_A3 U lo mi hi) (hs : k % 8 < 3) : zb_A3 (upd U k v) (upd lo (k / 8) (lo (k / 8) + (v - U k))) mi hi := by
  intro c hc
  obtain ⟨h1, h2, h3⟩ := h c hc
  by_cases e : c = k / 8
  · rw [← e, pk_us, zb_sm_in (by omega), zb_sm_out (by omega), zb_sm_out (by omega), h1]
    exact ⟨rfl, h2, h3⟩
  · rw [pk_un e, zb_sm_out (by omega), zb_sm_out (by omega), zb_sm_out (by omega)]
    exact ⟨h1, h2, h3⟩
theorem zb_A3_mi {U lo mi hi : Nat → Int32} {k : Nat} {v : Int32} (h : zb_A3 U lo mi hi) (hs : 3 ≤ k % 8) (ht : k % 8 < 5) : zb_A3 (upd U k v) lo (upd mi (k / 8) (mi (k / 8) + (v - U k))) hi := by
  intro c hc
  obtain ⟨h1, h2, h3⟩ := h c hc
  by_cases e : c = k / 8
  · rw [← e, pk_us, zb_sm_out (b := c * 8) (by omega), zb_sm_in (by omega), zb_sm_out (by omega), h2]
    exact ⟨h1, rfl, h3⟩
  · rw [pk_un e, zb_sm_out (by omega), zb_sm_out (by omega), zb_sm_out (by omega)]
    exact ⟨h1, h2, h3⟩
theorem zb_A3_hi {U lo mi hi : Nat → Int32} {k : Nat} {v : Int32} (h : zb_A3 U lo mi hi) (hs : 5 ≤ k % 8) : zb_A3 (upd U k v) lo mi (upd hi (k / 8) (hi (k / 8) + (v - U k))) := by
  intro c hc
  obtain ⟨h1, h2, h3⟩ := h c hc
  by_cases e : c = k / 8
  · rw [← e, pk_us, zb_sm_out (b := c * 8) (by omega), zb_sm_out (b := c * 8 + 3) (by omega), zb_sm_in (by omega), h3]
    exact ⟨h1, h2, rfl⟩
  · rw [pk_un e, zb_sm_out (by omega), zb_sm_out (by omega), zb_sm_out (by omega)]
    exact ⟨h1, h2, h3⟩
theorem zb_mx_out {U : Nat → Int32} {k c : Nat} {v : Int32} (e : c ≠ k / 8) : zb_mx (upd U k v) (c * 8) 8 = zb_mx U (c * 8) 8 := zb_mx_congr 8 fun i hi => pk_un (by omega)
theorem zb_GR_up {U gr : Nat → Int32} {k : Nat} {v : Int32} (h : zb_GR U gr) (hk : k < 96) (hv : ¬ v < gr (k / 8)) : zb_GR (upd U k v) (upd gr (k / 8) v) := by
  intro c hc
  by_cases e : c = k / 8
  · rw [← e, h c hc] at hv
    rw [← e, pk_us]
    have := zb_mx_up (s := k % 8) (by omega) hv
    rw [show c * 8 + k % 8 = k by omega] at this
    exact this
  · rw [pk_un e, zb_mx_out e]
    exact h c hc
theorem zb_GR_keep {U gr : Nat → Int32} {k : Nat} {v : Int32} (h : zb_GR U gr) (hk : k < 96) (hv : v < gr (k / 8)) (hb : ¬ U k = gr (k / 8)) : zb_GR (upd U k v) gr := by
  intro c hc
  by_cases e : c = k / 8
  · rw [← e, h c hc] at hv hb
    rw [show k = c * 8 + k % 8 by omega] at hb
    have := zb_mx_keep (s := k % 8) hv hb
    rw [show c * 8 + k % 8 = k by omega] at this
    rw [h c hc]
    exact this
  · rw [zb_mx_out e]
    exact h c hc
theorem zb_GR_re {U gr : Nat → Int32} {k : Nat} {v : Int32} (h : zb_GR U gr) : zb_GR (upd U k v) (upd gr (k / 8) (zb_mx (upd U k v) (k / 8 * 8) 8)) := by
  intro c hc
  by_cases e : c = k / 8
  · rw [← e, pk_us]
  · rw [pk_un e, zb_mx_out e]
    exact h c hc
theorem zb_upd_same {U : Nat → Int32} {k : Nat} {v : Int32} (h : v = U k) : U = upd U k v := by
  funext j
  by_cases e : j = k
  · rw [e, pk_us, h]
  · rw [pk_un e]
theorem zb_upd_upd {U : Nat → Int32} {k : Nat} {v w : Int32} : upd (upd U k v) k w = upd U k w := by
  funext j
  by_cases e : j = k
  · rw [e, pk_us, pk_us]
  · rw [pk_un e, pk_un e, pk_un e]
def zb_UU (U T : Nat → Int32) : Prop := ∀ x j, x < 2 → j < 48 → U (x * 48 + j) = zb_ru T x j
theorem zb_rate_eq {U lo mi hi gr T t : Nat → Int32} {a p : Nat} (h3 : zb_A3 U lo mi hi) (hg : zb_GR U gr) (hu : zb_UU U T) (ha : a < 2) (hp : p < 6) : zb_rt (lo (a * 6 + p)) (mi (a * 6 + p)) (hi (a * 6 + p)) (gr (a * 6 + p)) t = zb_yr (fun s => zb_ru T a (p * 8 + s)) t := by
  obtain ⟨h1, h2, h4⟩ := h3 (a * 6 + p) (by omega)
  have hV : ∀ s, s < 8 → U ((a * 6 + p) * 8 + s) = zb_ru T a (p * 8 + s) := fun s hs => by
    rw [show (a * 6 + p) * 8 + s = a * 48 + (p * 8 + s) by omega]
    exact hu a _ ha (by omega)
  unfold zb_yr
  rw [h1, h2, h4, hg (a * 6 + p) (by omega)]
  rw [zb_sm_congr (f := U) (g := fun s => zb_ru T a (p * 8 + s)) (b := (a * 6 + p) * 8) (d := 0) 3 (fun i hi => by rw [hV i (by omega), Nat.zero_add])]
  rw [zb_sm_congr (f := U) (g := fun s => zb_ru T a (p * 8 + s)) (b := (a * 6 + p) * 8 + 3) (d := 3) 2 (fun i hi => by rw [Nat.add_assoc, hV (3 + i) (by omega)])]
  rw [zb_sm_congr (f := U) (g := fun s => zb_ru T a (p * 8 + s)) (b := (a * 6 + p) * 8 + 5) (d := 5) 3 (fun i hi => by rw [Nat.add_assoc, hV (5 + i) (by omega)])]
  rw [zb_mx_congr (f := U) (g := fun s => zb_ru T a (p * 8 + s)) (b := (a * 6 + p) * 8) (d := 0) 8 (fun i hi => by rw [hV i (by omega), Nat.zero_add])]
def zb_BL (c : Nat) (it fx R bi : Nat → Int32) : Prop := ∀ a p, a < 2 → p < c → bi (a * 6 + p) = zb_bl c it fx R a p
end
section
/-! numbers -/
theorem zb_m48 (a i : Nat) : nI a * 48 + nI i = nI (a * 48 + i) := by
  rw [show (48 : Int32) = nI 48 from rfl, pk_mul, nI_add]
theorem zb_m6 (a i : Nat) : nI a * 6 + nI i = nI (a * 6 + i) := by
  rw [show (6 : Int32) = nI 6 from rfl, pk_mul, nI_add]
theorem zb_m8 (a i : Nat) : nI a * 8 + nI i = nI (a * 8 + i) := by
  rw [show (8 : Int32) = nI 8 from rfl, pk_mul, nI_add]
theorem zb_d8 {i : Nat} (h : i < 2 ^ 31) : nI i / 8 = nI (i / 8) := pk_div (d := 8) h (by decide) (by decide)
theorem zb_d6 {i : Nat} (h : i < 2 ^ 31) : nI i / 6 = nI (i / 6) := pk_div (d := 6) h (by decide) (by decide)
theorem zb_e8 {i : Nat} (h : i < 2 ^ 31) : nI i - nI i / 8 * 8 = nI (i % 8) := pk_rem (d := 8) h (by decide) (by decide)
theorem zb_e6 {i : Nat} (h : i < 2 ^ 31) : nI i - nI i / 6 * 6 = nI (i % 6) := pk_rem (d := 6) h (by decide) (by decide)
theorem zb_ce {a i : Nat} (h : i < 2 ^ 31) : nI a * 6 + nI i / 8 = nI (a * 6 + i / 8) := by rw [zb_d8 h, zb_m6]
theorem zb_p8 (q s : Nat) : nI ((q + 1) * 8 + s) + (-8) = nI (q * 8 + s) := by
  rw [show (q + 1) * 8 + s = q * 8 + s + 8 by omega, ← nI_add, Int32.add_assoc, show nI 8 + (-8) = 0 from rfl, Int32.add_zero]
theorem zb_p8' (q s : Nat) : nI ((q + 1) * 8 + s) - 8 = nI (q * 8 + s) := by
  rw [show (q + 1) * 8 + s = q * 8 + s + 8 by omega, show (8 : Int32) = nI 8 from rfl, pk_sub (by omega), Nat.add_sub_cancel]
theorem zb_neg : ∀ s, s < 8 → nI (0 * 8 + s) + (-8) < 0 ∧ nI (0 * 8 + s) - 8 < 0 := by decide
def zb_bad (n : Nat) (x : Int32) : Prop := x < 0 ∨ ∃ j, n ≤ j ∧ j < 2 ^ 31 ∧ x = nI j
theorem zb_cls (n : Nat) (x : Int32) : (∃ j, j < n ∧ j < 2 ^ 31 ∧ x = nI j) ∨ zb_bad n x := by
  by_cases h : x < 0
  · exact Or.inr (Or.inl h)
  · obtain ⟨j, hj, e⟩ := nI_of h
    by_cases h2 : j < n
    · exact Or.inl ⟨j, h2, hj, e⟩
    · exact Or.inr (Or.inr ⟨j, by omega, hj, e⟩)
theorem zb_nb0 : vp_nar .boolean 0 = 0 := rfl
theorem zb_nb1 : vp_nar .boolean 1 = 1 := rfl
section
variable {c : Nat} {it fx kn rd us rc rs lo mi hg gr bi sm ct la lp R : Nat → Int32}
theorem zb_xA0 {post : Int32 → Prop} {a : Nat} (ha : a < 2) (h : post 0) : wpX_badAccount post (nI a) :=
  br_f (nI_pos (by omega)) (br_t (nI_le (b := 1) (by omega) (by decide)) h)
theorem zb_xA1 {post : Int32 → Prop} {x : Int32} (hx : zb_bad 2 x) (h : post 1) : wpX_badAccount post x := by
  rcases hx with hx | ⟨j, h1, h2, rfl⟩
  · exact br_t hx h
  · exact br_f (nI_pos h2) (br_f (nI_ge (a := 1) (by omega) h2) h)
theorem zb_xI0 {post : Int32 → Prop} {a : Nat} (ha : a < 48) (h : post 0) : wpX_badInterval post (nI a) :=
  br_f (nI_pos (by omega)) (br_t (nI_lt (b := 48) (by omega) (by decide)) h)
theorem zb_xI1 {post : Int32 → Prop} {x : Int32} (hx : zb_bad 48 x) (h : post 1) : wpX_badInterval post x := by
  rcases hx with hx | ⟨j, h1, h2, rfl⟩
  · exact br_t hx h
  · exact br_f (nI_pos h2) (br_f (nI_nlt (b := 48) (by omega) h2) h)
/-! reads -/
theorem zb_xforget {post : SX → Prop} {a i : Nat} (ha : a < 2) (hi : i < 48) (h : zb_RD R kn rd rc rs) (K : ∀ kn' rc' rs', zb_RD (upd R (a * 48 + i) (-1)) kn' rd rc' rs' → post (nI c, it, fx, kn', rd, us, rc', rs', lo, mi, hg, gr, bi, sm, ct, la, lp)) : wpX_forgetRead post (nI c, it, fx, kn, rd, us, rc, rs, lo, mi, hg, gr, bi, sm, ct, la, lp) (nI a) (nI i) := by
  have hk : a * 48 + i < 96 := by omega
  have i96 : vp_in (nI (a * 48 + i)) 96 := vp_in_nI hk (by omega)
  have i12 : vp_in (nI (a * 6 + i / 8)) 12 := vp_in_nI (by omega) (by omega)
  refine nm_r (e' := nI (a * 48 + i)) (zb_m48 a i) ?_
  rw [nI_clamp (show a * 48 + i < 2 ^ 31 by omega)]
  refine ⟨i96, br_c (fun hz => K _ _ _ (zb_RD_f0 h hk hz)) fun hz => ⟨by decide, nm_r (e' := nI (a * 6 + i / 8)) (zb_ce (by omega)) ?_⟩⟩
  rw [nI_clamp (show a * 6 + i / 8 < 2 ^ 31 by omega)]
  have h1 := zb_RD_f1 h hk hz
  rw [show (a * 48 + i) / 8 = a * 6 + i / 8 by omega] at h1
  exact ⟨i96, nm_e ⟨i12, i12, nm_e ⟨i12, i96, i12, nm_e (K _ _ _ h1)⟩⟩⟩
theorem zb_xrule_l {post : Int32 → Prop} {a i : Nat} (ha : a < 2) (hi : i < 48) (h : zb_RD R kn rd rc rs) : ∀ q n : Nat, q ≤ i / 8 + 1 → q < n → post (zb_lk R (a * 48) (i % 8) (zb_mn R (a * 6 + i / 8)) q) → wX_rule_2 post (nI a) (nI i) (nI c) it fx kn rd us rc rs lo mi hg gr bi sm ct la lp n (nI (q * 8 + i % 8) + (-8)) := by
  intro q
  induction q with
  | zero =>
    intro n hq hn hp
    obtain ⟨n, rfl⟩ : ∃ m, n = m + 1 := ⟨n - 1, by omega⟩
    have i12 : vp_in (nI (a * 6 + i / 8)) 12 := vp_in_nI (by omega) (by omega)
    refine br_t (zb_neg (i % 8) (by omega)).1 ⟨by decide, nm_r (e' := nI (a * 6 + i / 8)) (zb_ce (by omega)) ⟨i12, ?_⟩⟩
    rw [nI_clamp (show a * 6 + i / 8 < 2 ^ 31 by omega)]
    obtain ⟨e1, e2⟩ := h.2 (a * 6 + i / 8) (by omega)
    obtain ⟨m, hm, em⟩ := zb_rc_n R ((a * 6 + i / 8) * 8) 8
    refine nm_r (e' := nI m) (e1.trans em) ?_
    have hp' : post (zb_mn R (a * 6 + i / 8)) := hp
    unfold zb_mn at hp'
    rw [em] at hp'
    by_cases z : m = 0
    · subst z
      rw [if_pos nI_0] at hp'
      exact br_t (by decide) hp'
    · rw [if_neg (nI_ne0 (by omega) (by omega))] at hp'
      refine br_f (nI_nle (by omega) (by omega)) ⟨i12, nI_ne0 (by omega) (by omega), ?_⟩
      rw [e2]
      exact hp'
  | succ q ih =>
    intro n hq hn hp
    obtain ⟨n, rfl⟩ : ∃ m, n = m + 1 := ⟨n - 1, by omega⟩
    have hk : a * 48 + (q * 8 + i % 8) < 96 := by omega
    have i96 : vp_in (nI (a * 48 + (q * 8 + i % 8))) 96 := vp_in_nI hk (by omega)
    rw [zb_p8]
    refine br_f (nI_pos (by omega)) ?_
    rw [zb_m48, nI_clamp (show a * 48 + (q * 8 + i % 8) < 2 ^ 31 by omega)]
    rw [zb_lk_s] at hp
    have hh := h.1 (a * 48 + (q * 8 + i % 8)) hk
    refine ⟨i96, br_c (fun hz => ?_) fun hz => ⟨i96, ?_⟩⟩
    · rw [if_pos (hh.1.mp hz)] at hp
      exact nm_e (ih n (by omega) (by omega) hp)
    · have hR : ¬ R (a * 48 + (q * 8 + i % 8)) < 0 := fun z => hz (hh.1.mpr z)
      rw [if_neg hR] at hp
      rw [hh.2 hR]
      exact hp
theorem zb_xrule {post : Int32 → Prop} {a i : Nat} (ha : a < 2) (hi : i < 48) (h : zb_RD R kn rd rc rs) (hp : post (zb_ru R a i)) : wpX_rule post (nI c, it, fx, kn, rd, us, rc, rs, lo, mi, hg, gr, bi, sm, ct, la, lp) (nI a) (nI i) := by
  have h1 := zb_xrule_l (c := c) (it := it) (fx := fx) (us := us) (lo := lo) (mi := mi) (hg := hg) (gr := gr) (bi := bi) (sm := sm) (ct := ct) (la := la) (lp := lp) ha hi h (i / 8 + 1) (i / 8 + 3) (by omega) (by omega) hp
  rw [zb_p8, show i / 8 * 8 + i % 8 = i by omega] at h1
  exact Exists.intro _ h1
theorem zb_xrescan_l {post : SX → Prop} {k0 : Nat} (hc : k0 < 12) (K : post (nI c, it, fx, kn, rd, us, rc, rs, lo, mi, hg, upd gr k0 (zb_mx us (k0 * 8) 8), bi, sm, ct, la, lp)) : ∀ d k n : Nat, k + d = 8 → d < n → wX_rescan_24 post (nI k0) (nI (k0 * 8)) (nI c) it fx kn rd us rc rs lo mi hg gr bi sm ct la lp n (zb_mx us (k0 * 8) k) (nI (k0 * 8 + k)) := by
  have e8 : nI (k0 * 8) + 8 = nI (k0 * 8 + 8) := nI_add (k0 * 8) 8
  intro d
  induction d with
  | zero =>
    intro k n hk hn
    obtain ⟨n, rfl⟩ : ∃ m, n = m + 1 := ⟨n - 1, by omega⟩
    obtain rfl : k = 8 := by omega
    refine br_t (by rw [e8]; exact Int32.le_refl _) ⟨vp_in_nI hc (by omega), nm_e ?_⟩
    rw [nI_clamp (show k0 < 2 ^ 31 by omega)]
    exact K
  | succ d ih =>
    intro k n hk hn
    obtain ⟨n, rfl⟩ : ∃ m, n = m + 1 := ⟨n - 1, by omega⟩
    have i96 : vp_in (nI (k0 * 8 + k)) 96 := vp_in_nI (by omega) (by omega)
    have h1 := ih (k + 1) n (by omega) (by omega)
    rw [zb_mx_s] at h1
    refine br_f (by rw [e8]; exact nI_ge (by omega) (by omega)) ⟨i96, ?_⟩
    rw [nI_clamp (show k0 * 8 + k < 2 ^ 31 by omega)]
    refine br_c (fun hz => nm_r (e' := nI (k0 * 8 + (k + 1))) (nI_1 _) ?_) fun hz => ⟨i96, nm_e (nm_r (e' := nI (k0 * 8 + (k + 1))) (nI_1 _) ?_)⟩
    · rw [if_pos hz] at h1; exact h1
    · rw [if_neg hz] at h1; exact h1
theorem zb_xrescan {post : SX → Prop} {k0 : Nat} (hc : k0 < 12) (K : post (nI c, it, fx, kn, rd, us, rc, rs, lo, mi, hg, upd gr k0 (zb_mx us (k0 * 8) 8), bi, sm, ct, la, lp)) : wpX_rescan post (nI c, it, fx, kn, rd, us, rc, rs, lo, mi, hg, gr, bi, sm, ct, la, lp) (nI k0) := by
  refine And.intro (by decide) (nm_r (e' := nI (k0 / 6)) (zb_d6 (by omega)) ⟨by decide, nm_r (e' := nI (k0 * 8)) ?_ ?_⟩)
  · rw [zb_e6 (by omega), show (8 : Int32) = nI 8 from rfl, pk_mul, zb_m48]
    exact congrArg nI (by omega)
  · exact Exists.intro 9 (zb_xrescan_l hc K 8 0 9 rfl (by decide))
theorem zb_xu119 {post : SX → Prop} {U : Nat → Int32} {k : Nat} {v : Int32} (hk : k < 96) (h4 : zb_GR U gr) (K : ∀ gr', zb_GR (upd U k v) gr' → post (nI c, it, fx, kn, rd, upd U k v, rc, rs, lo, mi, hg, gr', bi, sm, ct, la, lp)) : wX_update_119 post v (U k) (nI (k / 8)) (nI c) it fx kn rd (upd U k v) rc rs lo mi hg gr bi sm ct la lp := by
  have i12 : vp_in (nI (k / 8)) 12 := vp_in_nI (by omega) (by omega)
  refine And.intro i12 ?_
  rw [nI_clamp (show k / 8 < 2 ^ 31 by omega)]
  exact br_c (fun hv => ⟨i12, br_c (fun hb => zb_xrescan (by omega) (K _ (zb_GR_re h4))) fun hb => K _ (zb_GR_keep h4 hk hv hb)⟩) fun hv => ⟨i12, nm_e (K _ (zb_GR_up h4 hk hv))⟩
theorem zb_xupd {post : SX → Prop} {a i : Nat} (ha : a < 2) (hi : i < 48) (h : zb_RD R kn rd rc rs) (h3 : zb_A3 us lo mi hg) (h4 : zb_GR us gr) (K : ∀ lo' mi' hg' gr', zb_A3 (upd us (a * 48 + i) (zb_ru R a i)) lo' mi' hg' → zb_GR (upd us (a * 48 + i) (zb_ru R a i)) gr' → post (nI c, it, fx, kn, rd, upd us (a * 48 + i) (zb_ru R a i), rc, rs, lo', mi', hg', gr', bi, sm, ct, la, lp)) : wpX_update post (nI c, it, fx, kn, rd, us, rc, rs, lo, mi, hg, gr, bi, sm, ct, la, lp) (nI a) (nI i) := by
  have hk : a * 48 + i < 96 := by omega
  have i96 : vp_in (nI (a * 48 + i)) 96 := vp_in_nI hk (by omega)
  have e8 : (a * 48 + i) / 8 = a * 6 + i / 8 := by omega
  have i12 : vp_in (nI ((a * 48 + i) / 8)) 12 := vp_in_nI (by omega) (by omega)
  refine nm_r (e' := nI (a * 48 + i)) (zb_m48 a i) (zb_xrule ha hi h ?_)
  rw [nI_clamp (show a * 48 + i < 2 ^ 31 by omega)]
  refine ⟨i96, nm_e (br_c (fun hz => ?_) fun hz => ⟨i96, nm_e ⟨by decide, nm_r (e' := nI (i % 8)) (zb_e8 (by omega)) ⟨by decide, nm_r (e' := nI ((a * 48 + i) / 8)) (by rw [e8]; exact zb_ce (by omega)) ?_⟩⟩⟩)⟩
  · have e := zb_upd_same hz
    have h1 := K lo mi hg gr (by rw [← e]; exact h3) (by rw [← e]; exact h4)
    rw [← e] at h1
    exact h1
  · rw [nI_clamp (show (a * 48 + i) / 8 < 2 ^ 31 by omega)]
    exact pk_le 3 (i % 8) (fun h3' => pk_le 5 (i % 8) (fun h5 => ⟨i12, i12, nm_e (zb_xu119 hk h4 fun gr' hG => K _ _ _ _ (zb_A3_hi h3 (by omega)) hG)⟩) fun h5 => ⟨i12, i12, nm_e (zb_xu119 hk h4 fun gr' hG => K _ _ _ _ (zb_A3_mi h3 (by omega) (by omega)) hG)⟩) fun h3' => ⟨i12, i12, nm_e (zb_xu119 hk h4 fun gr' hG => K _ _ _ _ (zb_A3_lo h3 (by omega)) hG)⟩
/-! bills -/
theorem zb_xitem {post : Int32 → Prop} {p : Nat} (k : Nat) (hc : c ≤ 6) (hp : p < 6) (hk : k < 6) (h : post (zb_tf c it fx p k)) : wpX_item post (nI c, it, fx, kn, rd, us, rc, rs, lo, mi, hg, gr, bi, sm, ct, la, lp) (nI p) (nI k) := by
  unfold zb_tf at h
  refine pk_le c p (fun hz => ⟨vp_in_nI hk (by omega), ?_⟩) fun hz => ?_
  · rw [if_pos hz] at h
    rw [nI_clamp (show k < 2 ^ 31 by omega)]
    exact h
  · rw [if_neg (by omega)] at h
    rw [zb_m6, nI_clamp (show p * 6 + k < 2 ^ 31 by omega)]
    exact ⟨vp_in_nI (by omega) (by omega), h⟩
theorem zb_x105 {post : Int32 → Prop} {p : Nat} {y w z : Int32} (hc : c ≤ 6) (hp : p < 6) (h : post (zb_ls (zb_tf c it fx p) ((y + w) + z * zb_tf c it fx p 4))) : wX_rate_105 post (nI p) y w z (nI c) it fx kn rd us rc rs lo mi hg gr bi sm ct la lp := by
  unfold wX_rate_105
  refine zb_xitem 4 hc hp (by decide) (nm_e (zb_xitem 5 hc hp (by decide) (nm_e ?_)))
  unfold zb_ls at h
  refine br_c (fun z => ?_) fun z => ?_
  · rw [if_pos z] at h; exact h
  · rw [if_neg z] at h; exact h
theorem zb_xrate {post : Int32 → Prop} {a p : Nat} (hc : c ≤ 6) (ha : a < 2) (hp : p < 6) (h : post (zb_rt (lo (a * 6 + p)) (mi (a * 6 + p)) (hg (a * 6 + p)) (gr (a * 6 + p)) (zb_tf c it fx p))) : wpX_rate post (nI c, it, fx, kn, rd, us, rc, rs, lo, mi, hg, gr, bi, sm, ct, la, lp) (nI a) (nI p) := by
  have i12 : vp_in (nI (a * 6 + p)) 12 := vp_in_nI (by omega) (by omega)
  refine nm_r (e' := nI (a * 6 + p)) (zb_m6 a p) ?_
  rw [nI_clamp (show a * 6 + p < 2 ^ 31 by omega)]
  refine ⟨i12, zb_xitem 0 hc hp (by decide) ⟨i12, zb_xitem 1 hc hp (by decide) ⟨i12, zb_xitem 2 hc hp (by decide) (nm_e ⟨i12, zb_xitem 3 hc hp (by decide) (nm_e ⟨i12, i12, i12, nm_e ?_⟩)⟩)⟩⟩⟩
  unfold zb_rt zb_ab zb_en at h
  refine br_c (fun z => zb_x105 hc hp ?_) fun z => zb_x105 hc hp ?_
  · rw [if_pos z] at h; exact h
  · rw [if_neg z] at h; exact h
/-! ledgers -/
def zb_ct1 (ct : Nat → Int32) (a : Nat) : Nat → Int32 := upd ct a (ct a + 1)
def zb_sm1 (sm : Nat → Int32) (a : Nat) (x : Int32) : Nat → Int32 := upd sm a (sm a + x)
def zb_la1 (ct la : Nat → Int32) (a : Nat) (x : Int32) : Nat → Int32 := upd la (a * 8 + zb_tn (ct a) % 8) x
theorem zb_xadd {post : SX → Prop} {a : Nat} {p x : Int32} (ha : a < 2) (K : post (nI c, it, fx, kn, rd, us, rc, rs, lo, mi, hg, gr, bi, zb_sm1 sm a x, zb_ct1 ct a, zb_la1 ct la a x, zb_la1 ct lp a p)) : wpX_addLine post (nI c, it, fx, kn, rd, us, rc, rs, lo, mi, hg, gr, bi, sm, ct, la, lp) (nI a) p x := by
  have i2 : vp_in (nI a) 2 := vp_in_nI ha (by omega)
  have i16 : vp_in (nI (a * 8 + zb_tn (ct a) % 8)) 16 := vp_in_nI (by omega) (by omega)
  refine And.intro i2 ?_
  rw [nI_clamp (show a < 2 ^ 31 by omega)]
  refine nm_r (e' := nI (a * 8 + zb_tn (ct a) % 8)) (by rw [zb_tn_and, zb_m8]) ?_
  rw [nI_clamp (show a * 8 + zb_tn (ct a) % 8 < 2 ^ 31 by omega)]
  exact ⟨i16, nm_e ⟨i16, nm_e ⟨i2, i2, nm_e ⟨i2, i2, nm_e K⟩⟩⟩⟩
theorem zb_xreb {post : Int32 → SX → Prop} {a p : Nat} {r : Int32} (hc : c ≤ 6) (ha : a < 2) (hp : p < 6) (hr : zb_rt (lo (a * 6 + p)) (mi (a * 6 + p)) (hg (a * 6 + p)) (gr (a * 6 + p)) (zb_tf c it fx p) = r) (K0 : r = bi (a * 6 + p) → post 0 (nI c, it, fx, kn, rd, us, rc, rs, lo, mi, hg, gr, bi, sm, ct, la, lp)) (K1 : ¬ r = bi (a * 6 + p) → post 1 (nI c, it, fx, kn, rd, us, rc, rs, lo, mi, hg, gr, upd bi (a * 6 + p) r, zb_sm1 (zb_sm1 sm a (-bi (a * 6 + p))) a r, zb_ct1 (zb_ct1 ct a) a, zb_la1 (zb_ct1 ct a) (zb_la1 ct la a (-bi (a * 6 + p))) a r, zb_la1 (zb_ct1 ct a) (zb_la1 ct lp a (nI p)) a (nI p))) : wpX_rebill post (nI c, it, fx, kn, rd, us, rc, rs, lo, mi, hg, gr, bi, sm, ct, la, lp) (nI a) (nI p) := by
  have i12 : vp_in (nI (a * 6 + p)) 12 := vp_in_nI (by omega) (by omega)
  refine nm_r (e' := nI (a * 6 + p)) (zb_m6 a p) (zb_xrate hc ha hp ?_)
  rw [nI_clamp (show a * 6 + p < 2 ^ 31 by omega), hr]
  exact ⟨i12, br_c K0 fun hz => ⟨i12, zb_xadd ha (zb_xadd ha ⟨i12, nm_e (K1 hz)⟩)⟩⟩
end
end
section
section
variable {c : Nat} {R it fx bi ct sm am pe : Nat → Int32}
theorem zb_yA0 {post : Int32 → Prop} {a : Nat} (ha : a < 2) (h : post 0) : wpY_badAccount post (nI c, R, it, fx, bi, ct, sm, am, pe) (nI a) :=
  br_f (nI_pos (by omega)) (br_t (nI_le (b := 1) (by omega) (by decide)) h)
theorem zb_yA1 {post : Int32 → Prop} {x : Int32} (hx : zb_bad 2 x) (h : post 1) : wpY_badAccount post (nI c, R, it, fx, bi, ct, sm, am, pe) x := by
  rcases hx with hx | ⟨j, h1, h2, rfl⟩
  · exact br_t hx h
  · exact br_f (nI_pos h2) (br_f (nI_ge (a := 1) (by omega) h2) h)
theorem zb_yI0 {post : Int32 → Prop} {a : Nat} (ha : a < 48) (h : post 0) : wpY_badInterval post (nI c, R, it, fx, bi, ct, sm, am, pe) (nI a) :=
  br_f (nI_pos (by omega)) (br_t (nI_le (b := 47) (by omega) (by decide)) h)
theorem zb_yI1 {post : Int32 → Prop} {x : Int32} (hx : zb_bad 48 x) (h : post 1) : wpY_badInterval post (nI c, R, it, fx, bi, ct, sm, am, pe) x := by
  rcases hx with hx | ⟨j, h1, h2, rfl⟩
  · exact br_t hx h
  · exact br_f (nI_pos h2) (br_f (nI_ge (a := 47) (by omega) h2) h)
theorem zb_yus69 {post : Int32 → Prop} {a i : Nat} (ha : a < 2) (hi : i < 48) (hp : post (zb_mn R (a * 6 + i / 8))) : ∀ d j m n : Nat, j + d = 48 → d < n → ((j ≤ i / 8 * 8 ∧ m = 0) ∨ (i / 8 * 8 ≤ j ∧ j ≤ i / 8 * 8 + 8 ∧ m = j - i / 8 * 8) ∨ (i / 8 * 8 + 8 ≤ j ∧ m = 8)) → wY_usage_69 post (nI a) (nI i) (nI c) R it fx bi ct sm am pe n (zb_rs R ((a * 6 + i / 8) * 8) m) (zb_rc R ((a * 6 + i / 8) * 8) m) (nI j) := by
  intro d
  induction d with
  | zero =>
    intro j m n hj hn hm
    obtain ⟨n, rfl⟩ : ∃ m, n = m + 1 := ⟨n - 1, by omega⟩
    obtain rfl : j = 48 := by omega
    obtain rfl : m = 8 := by omega
    unfold zb_mn at hp
    refine br_t (by decide) (br_c (fun z => ?_) fun z => ⟨z, ?_⟩)
    · rw [if_pos z] at hp; exact hp
    · rw [if_neg z] at hp; exact hp
  | succ d ih =>
    intro j m n hj hn hm
    obtain ⟨n, rfl⟩ : ∃ m, n = m + 1 := ⟨n - 1, by omega⟩
    refine br_f (nI_ge (b := 48) (by omega) (by decide)) ⟨by decide, by decide, pk_eq (j / 8) (i / 8) (fun hq => ?_) (fun hq => nm_r (e' := nI (j + 1)) (nI_1 _) (ih (j + 1) m n (by omega) (by omega) (by omega))) (zb_d8 (by omega)) (zb_d8 (by omega))⟩
    have h1 := ih (j + 1) (m + 1) n (by omega) (by omega) (by omega)
    have hk : (a * 6 + i / 8) * 8 + m = a * 48 + j := by omega
    have i96 : vp_in (nI (a * 48 + j)) 96 := vp_in_nI (by omega) (by omega)
    rw [zb_rs_s, zb_rc_s, hk] at h1
    rw [zb_m48, nI_clamp (show a * 48 + j < 2 ^ 31 by omega)]
    refine ⟨i96, br_c (fun hz => nm_r (e' := nI (j + 1)) (nI_1 _) ?_) fun hz => ⟨i96, nm_e (nm_e (nm_r (e' := nI (j + 1)) (nI_1 _) ?_))⟩⟩
    · rw [zb_ps_n hz, zb_in_n hz, Int32.add_zero, Int32.add_zero] at h1; exact h1
    · rw [zb_ps_p hz, zb_in_p hz] at h1; exact h1
theorem zb_yus23 {post : Int32 → Prop} {a i : Nat} (ha : a < 2) (hi : i < 48) : ∀ q n : Nat, q ≤ i / 8 + 1 → q < n → post (zb_lk R (a * 48) (i % 8) (zb_mn R (a * 6 + i / 8)) q) → wY_usage_23 post (nI a) (nI i) (nI c) R it fx bi ct sm am pe n (nI (q * 8 + i % 8) - 8) := by
  intro q
  induction q with
  | zero =>
    intro n hq hn hp
    obtain ⟨n, rfl⟩ : ∃ m, n = m + 1 := ⟨n - 1, by omega⟩
    exact br_t (zb_neg (i % 8) (by omega)).2 ⟨49, zb_yus69 ha hi hp 48 0 0 49 rfl (by decide) (Or.inl ⟨by omega, rfl⟩)⟩
  | succ q ih =>
    intro n hq hn hp
    obtain ⟨n, rfl⟩ : ∃ m, n = m + 1 := ⟨n - 1, by omega⟩
    have hk : a * 48 + (q * 8 + i % 8) < 96 := by omega
    have i96 : vp_in (nI (a * 48 + (q * 8 + i % 8))) 96 := vp_in_nI hk (by omega)
    rw [zb_p8']
    refine br_f (nI_pos (by omega)) ?_
    rw [zb_m48, nI_clamp (show a * 48 + (q * 8 + i % 8) < 2 ^ 31 by omega)]
    rw [zb_lk_s] at hp
    refine ⟨i96, br_c (fun hz => ?_) fun hz => ⟨i96, ?_⟩⟩
    · rw [if_pos hz] at hp
      exact nm_e (ih n (by omega) (by omega) hp)
    · rw [if_neg hz] at hp
      exact hp
theorem zb_yusage {post : Int32 → Prop} {a i : Nat} (ha : a < 2) (hi : i < 48) (hp : post (zb_ru R a i)) : wpY_usage post (nI c, R, it, fx, bi, ct, sm, am, pe) (nI a) (nI i) := by
  have h1 := zb_yus23 (c := c) (it := it) (fx := fx) (bi := bi) (ct := ct) (sm := sm) (am := am) (pe := pe) ha hi (i / 8 + 1) (i / 8 + 3) (by omega) (by omega) hp
  rw [zb_p8', show i / 8 * 8 + i % 8 = i by omega] at h1
  unfold wpY_usage
  exact zb_yA0 ha (br_t rfl (zb_yI0 hi (br_t rfl ⟨_, h1⟩)))
theorem zb_yrate {post : Int32 → Prop} {p : Nat} (k : Nat) (hc : c ≤ 6) (hp : p < 6) (hk : k < 6) (h : post (zb_tf c it fx p k)) : wpY_rate post (nI c, R, it, fx, bi, ct, sm, am, pe) (nI p) (nI k) := by
  unfold zb_tf at h
  refine pk_le c p (fun hz => ⟨vp_in_nI hk (by omega), ?_⟩) fun hz => ?_
  · rw [if_pos hz] at h
    rw [nI_clamp (show k < 2 ^ 31 by omega)]
    exact h
  · rw [if_neg (by omega)] at h
    rw [zb_m6, nI_clamp (show p * 6 + k < 2 ^ 31 by omega)]
    exact ⟨vp_in_nI (by omega) (by omega), h⟩
theorem zb_y159 {post : Int32 → Prop} {p : Nat} {y : Int32} (hc : c ≤ 6) (hp : p < 6) (h : post (zb_ls (zb_tf c it fx p) y)) : wY_amount_159 post (nI p) y (nI c) R it fx bi ct sm am pe := by
  unfold wY_amount_159
  refine zb_yrate 5 hc hp (by decide) (nm_e ?_)
  unfold zb_ls at h
  refine br_c (fun z => ?_) fun z => ?_
  · rw [if_pos z] at h; exact h
  · rw [if_neg z] at h; exact h
theorem zb_y75 {post : Int32 → Prop} {J : Int32 → Int32 → Int32 → Int32 → Prop} {p s : Nat} {x y z w u : Int32} (k : Nat) (hc : c ≤ 6) (hp : p < 6) (hk : k < 6) (h : J (y + u * zb_tf c it fx p k) (if u ≤ z then z else u) (w + u) (nI (s + 1))) : wY_amount_75 post J x (nI p) y z w (nI s) u (nI k) (nI c) R it fx bi ct sm am pe := by
  unfold wY_amount_75
  refine zb_yrate k hc hp hk (nm_e (nm_e (br_c (fun hz => nm_r (e' := nI (s + 1)) (nI_1 _) ?_) fun hz => nm_r (e' := nI (s + 1)) (nI_1 _) ?_)))
  · rw [if_pos hz] at h; exact h
  · rw [if_neg hz] at h; exact h
theorem zb_am_s (V t : Nat → Int32) (n : Nat) : zb_am V t (n + 1) = zb_am V t n + V n * t (zb_bd n) := rfl
theorem zb_y33 {post : Int32 → Prop} {a p : Nat} (hc : c ≤ 6) (ha : a < 2) (hp : p < 6) (V : Nat → Int32) (hV : V = fun s => zb_ru R a (p * 8 + s)) (h : post (zb_yr V (zb_tf c it fx p))) : ∀ d s n : Nat, s + d = 8 → d < n → wY_amount_33 post (nI a) (nI p) (nI c) R it fx bi ct sm am pe n (zb_am V (zb_tf c it fx p) s) (zb_mx V 0 s) (zb_sm V 0 s) (nI s) := by
  intro d
  induction d with
  | zero =>
    intro s n hs hn
    obtain ⟨n, rfl⟩ : ∃ m, n = m + 1 := ⟨n - 1, by omega⟩
    obtain rfl : s = 8 := by omega
    refine br_t (by decide) (zb_yrate 3 hc hp (by decide) (nm_e (br_c (fun hz => zb_y159 hc hp ?_) fun hz => zb_yrate 4 hc hp (by decide) (nm_e (zb_y159 hc hp ?_)))))
    · rw [zb_y_le hz]; exact h
    · rw [zb_y_gt hz]; exact h
  | succ d ih =>
    intro s n hs hn
    obtain ⟨n, rfl⟩ : ∃ m, n = m + 1 := ⟨n - 1, by omega⟩
    have h1 := ih (s + 1) n (by omega) (by omega)
    rw [zb_am_s, zb_mx_s, zb_sm_s, Nat.zero_add] at h1
    have hu : zb_ru R a (p * 8 + s) = V s := by rw [hV]
    refine br_f (nI_ge (b := 8) (by omega) (by decide)) ?_
    rw [zb_m8]
    refine zb_yusage ha (by omega) ?_
    rw [hu]
    refine pk_le 3 s (fun h3 => pk_le 5 s (fun h5 => zb_y75 2 hc hp (by decide) ?_) fun h5 => zb_y75 1 hc hp (by decide) ?_) fun h3 => zb_y75 0 hc hp (by decide) ?_
    · rw [show zb_bd s = 2 by unfold zb_bd; rw [if_neg (by omega), if_neg (by omega)]] at h1; exact h1
    · rw [show zb_bd s = 1 by unfold zb_bd; rw [if_neg (by omega), if_pos (by omega)]] at h1; exact h1
    · rw [show zb_bd s = 0 by unfold zb_bd; rw [if_pos (by omega)]] at h1; exact h1
theorem zb_yamount {post : Int32 → Prop} {a p : Nat} (hc : c ≤ 6) (ha : a < 2) (hp : p < 6) (h : post (zb_bl c it fx R a p)) : wpY_amount post (nI c, R, it, fx, bi, ct, sm, am, pe) (nI a) (nI p) := by
  unfold wpY_amount
  exact zb_yA0 ha (br_t rfl (br_f (nI_pos (by omega)) (br_t (nI_le (b := 5) (by omega) (by decide)) ⟨9, zb_y33 hc ha hp _ rfl h 8 0 9 rfl (by decide)⟩)))
theorem zb_yline_l {post : SY → Prop} {a : Nat} {p x : Int32} (ha : a < 2) : ∀ k n : Nat, k ≤ 7 → k < n → ∀ am pe : Nat → Int32, post (nI c, R, it, fx, bi, zb_ct1 ct a, zb_sm1 sm a x, zb_sh (a * 8) x k am, zb_sh (a * 8) p k pe) → wY_line_9 post (nI a) p x (nI c) n (nI (a * 8 + k)) R it fx bi ct sm am pe := by
  have e : nI a * 8 = nI (a * 8) := pk_mul a 8
  have i2 : vp_in (nI a) 2 := vp_in_nI ha (by omega)
  intro k
  induction k with
  | zero =>
    intro n hk hn am pe K
    obtain ⟨n, rfl⟩ : ∃ m, n = m + 1 := ⟨n - 1, by omega⟩
    have i16 : vp_in (nI (a * 8)) 16 := vp_in_nI (by omega) (by omega)
    refine br_t (by rw [e]; exact Int32.le_refl _) ?_
    rw [e, nI_clamp (show a * 8 < 2 ^ 31 by omega), nI_clamp (show a < 2 ^ 31 by omega)]
    exact ⟨i16, nm_e ⟨i16, nm_e ⟨i2, i2, nm_e ⟨i2, i2, nm_e K⟩⟩⟩⟩
  | succ k ih =>
    intro n hk hn am pe K
    obtain ⟨n, rfl⟩ : ∃ m, n = m + 1 := ⟨n - 1, by omega⟩
    have i16 : vp_in (nI (a * 8 + k)) 16 := vp_in_nI (by omega) (by omega)
    have j16 : vp_in (nI (a * 8 + (k + 1))) 16 := vp_in_nI (by omega) (by omega)
    have e1 : nI (a * 8 + (k + 1)) - 1 = nI (a * 8 + k) := nI_pred (a * 8 + k)
    refine br_f (by rw [e]; exact nI_ge (by omega) (by omega)) ?_
    rw [e1, nI_clamp (show a * 8 + k < 2 ^ 31 by omega), nI_clamp (show a * 8 + (k + 1) < 2 ^ 31 by omega)]
    exact ⟨i16, j16, nm_e ⟨i16, j16, nm_e (nm_r (e' := nI (a * 8 + k)) (pk_m1 (a * 8 + k)) (ih n (by omega) (by omega) _ _ K))⟩⟩
theorem zb_yline {post : SY → Prop} {a : Nat} {p x : Int32} (ha : a < 2) (K : post (nI c, R, it, fx, bi, zb_ct1 ct a, zb_sm1 sm a x, zb_sh (a * 8) x 7 am, zb_sh (a * 8) p 7 pe)) : wpY_line post (nI c, R, it, fx, bi, ct, sm, am, pe) (nI a) p x := by
  refine nm_r (e' := nI (a * 8 + 7)) (zb_m8 a 7) (Exists.intro 8 ?_)
  exact zb_yline_l ha 7 8 (by decide) (by decide) am pe K
end
end
section
section
variable {c : Nat} {it fx kn rd us rc rs lo mi hg gr bi sm ct la lp R am pe : Nat → Int32}
theorem zb_LR_add {a : Nat} (x p : Int32) (h : zb_LR ct la lp am pe) (ha : a < 2) : zb_LR (zb_ct1 ct a) (zb_la1 ct la a x) (zb_la1 ct lp a p) (zb_sh (a * 8) x 7 am) (zb_sh (a * 8) p 7 pe) := ⟨zb_L1_add x h.1 ha, zb_L1_add p h.2 ha⟩
/-- the two rebill loops from a period p on: one outcome for both -/
theorem zb_both {a : Nat} (hc : c ≤ 6) (ha : a < 2) (h3 : zb_A3 us lo mi hg) (h4 : zb_GR us gr) (hu : zb_UU us R) : ∀ (d p : Nat) (bi sm ct la lp am pe : Nat → Int32) (r : Int32), p + d = c → zb_LR ct la lp am pe → (∀ x q, x < 2 → q < c → (x ≠ a ∨ q < p) → bi (x * 6 + q) = zb_bl c it fx R x q) → ∃ (r' : Int32) (bi' sm' ct' la' lp' am' pe' : Nat → Int32), zb_LR ct' la' lp' am' pe' ∧ zb_BL c it fx R bi' ∧ (∀ post : Int32 → SX → Prop, post r' (nI c, it, fx, kn, rd, us, rc, rs, lo, mi, hg, gr, bi', sm', ct', la', lp') → wX_refresh_103 post (nI a) (d + 1) r (nI p) (nI c) it fx kn rd us rc rs lo mi hg gr bi sm ct la lp) ∧ (∀ post : Int32 → SY → Prop, post r' (nI c, R, it, fx, bi', ct', sm', am', pe') → wY_rebill_4 post (nI a) (d + 1) r (nI p) (nI c) R it fx bi ct sm am pe) := by
  intro d
  induction d with
  | zero =>
    intro p bi sm ct la lp am pe r hp hL hB
    have h : nI c ≤ nI p := nI_le (by omega) (by omega)
    exact ⟨r, bi, sm, ct, la, lp, am, pe, hL, fun x q hx hq => hB x q hx hq (Or.inr (by omega)), fun post hp => br_t h hp, fun post hp => br_t h hp⟩
  | succ d ih =>
    intro p bi sm ct la lp am pe r hp hL hB
    have hp6 : p < 6 := by omega
    have hn : ¬ nI c ≤ nI p := nI_ge (by omega) (by omega)
    have i12 : vp_in (nI (a * 6 + p)) 12 := vp_in_nI (by omega) (by omega)
    have hr : zb_rt (lo (a * 6 + p)) (mi (a * 6 + p)) (hg (a * 6 + p)) (gr (a * 6 + p)) (zb_tf c it fx p) = zb_bl c it fx R a p := zb_rate_eq h3 h4 hu ha hp6
    by_cases z : zb_bl c it fx R a p = bi (a * 6 + p)
    · obtain ⟨r', bi', sm', ct', la', lp', am', pe', g1, g2, hX, hY⟩ := ih (p + 1) bi sm ct la lp am pe r (by omega) hL (fun x q hx hq h => by
        by_cases e : x = a ∧ q = p
        · obtain ⟨rfl, rfl⟩ := e
          exact z.symm
        · exact hB x q hx hq (by omega))
      refine ⟨r', bi', sm', ct', la', lp', am', pe', g1, g2, fun post hp => ?_, fun post hp => ?_⟩
      · exact br_f hn (zb_xreb hc ha hp6 hr (fun _ => br_t rfl (nm_r (e' := nI (p + 1)) (nI_1 p) (hX post hp))) fun h => absurd z h)
      · refine br_f hn ?_
        rw [zb_m6, nI_clamp (show a * 6 + p < 2 ^ 31 by omega)]
        exact ⟨i12, nm_e (zb_yamount hc ha hp6 (br_t z (nm_r (e' := nI (p + 1)) (nI_1 p) (hY post hp))))⟩
    · obtain ⟨r', bi', sm', ct', la', lp', am', pe', g1, g2, hX, hY⟩ := ih (p + 1) (upd bi (a * 6 + p) (zb_bl c it fx R a p)) (zb_sm1 (zb_sm1 sm a (-bi (a * 6 + p))) a (zb_bl c it fx R a p)) (zb_ct1 (zb_ct1 ct a) a) (zb_la1 (zb_ct1 ct a) (zb_la1 ct la a (-bi (a * 6 + p))) a (zb_bl c it fx R a p)) (zb_la1 (zb_ct1 ct a) (zb_la1 ct lp a (nI p)) a (nI p)) (zb_sh (a * 8) (zb_bl c it fx R a p) 7 (zb_sh (a * 8) (-bi (a * 6 + p)) 7 am)) (zb_sh (a * 8) (nI p) 7 (zb_sh (a * 8) (nI p) 7 pe)) (r + 1) (by omega) (zb_LR_add _ _ (zb_LR_add _ _ hL ha) ha) (fun x q hx hq h => by
        by_cases e : x = a ∧ q = p
        · obtain ⟨rfl, rfl⟩ := e
          exact pk_us
        · rw [pk_un (by omega)]
          exact hB x q hx hq (by omega))
      refine ⟨r', bi', sm', ct', la', lp', am', pe', g1, g2, fun post hp => ?_, fun post hp => ?_⟩
      · exact br_f hn (zb_xreb hc ha hp6 hr (fun h => absurd h z) fun _ => br_f (by decide) (nm_e (nm_r (e' := nI (p + 1)) (nI_1 p) (hX post hp))))
      · refine br_f hn ?_
        rw [zb_m6, nI_clamp (show a * 6 + p < 2 ^ 31 by omega)]
        exact ⟨i12, nm_e (zb_yamount hc ha hp6 (br_f z (zb_yline ha (zb_yline ha ⟨i12, nm_e (nm_e (nm_r (e' := nI (p + 1)) (nI_1 p) (hY post hp)))⟩))))⟩
/-- the reference looks at the earlier periods too, and finds nothing to do there -/
theorem zb_yskip {post : Int32 → SY → Prop} {a P n : Nat} (hc : c ≤ 6) (ha : a < 2) (hP : P ≤ c) (hB : ∀ q, q < P → bi (a * 6 + q) = zb_bl c it fx R a q) (K : wY_rebill_4 post (nI a) n 0 (nI P) (nI c) R it fx bi ct sm am pe) : ∀ d p : Nat, p + d = P → wY_rebill_4 post (nI a) (n + d) 0 (nI p) (nI c) R it fx bi ct sm am pe := by
  intro d
  induction d with
  | zero =>
    intro p hp
    obtain rfl : p = P := by omega
    exact K
  | succ d ih =>
    intro p hp
    have i12 : vp_in (nI (a * 6 + p)) 12 := vp_in_nI (by omega) (by omega)
    show wY_rebill_4 post (nI a) ((n + d) + 1) 0 (nI p) (nI c) R it fx bi ct sm am pe
    refine br_f (nI_ge (by omega) (by omega)) ?_
    rw [zb_m6, nI_clamp (show a * 6 + p < 2 ^ 31 by omega)]
    exact ⟨i12, nm_e (zb_yamount hc ha (by omega) (br_t (hB p (by omega)).symm (nm_r (e' := nI (p + 1)) (nI_1 p) (ih (p + 1) (by omega)))))⟩
/-! refresh -/
theorem zb_xref2 {post : Int32 → SX → Prop} {a i : Nat} (ha : a < 2) (hi : i < 48) (h : zb_RD R kn rd rc rs) (K : ∀ us lo mi hg gr : Nat → Int32, zb_A3 us lo mi hg → zb_GR us gr → zb_UU us R → ∃ n, wX_refresh_103 post (nI a) n 0 (nI (i / 8)) (nI c) it fx kn rd us rc rs lo mi hg gr bi sm ct la lp) : ∀ (d j n : Nat) (us lo mi hg gr : Nat → Int32), 48 ≤ j + 8 * d → j < 64 → j % 8 = i % 8 → i < j → d < n → zb_A3 us lo mi hg → zb_GR us gr → zb_OK (fun x y => zb_D R a i x y ∧ j ≤ y) us R → wX_refresh_45 post (nI a) (nI (i / 8)) n 1 (nI j) (nI c) it fx kn rd us rc rs lo mi hg gr bi sm ct la lp := by
  intro d
  induction d with
  | zero =>
    intro j n us lo mi hg gr hj hj2 hm hij hn h3 h4 hO
    obtain ⟨n, rfl⟩ : ∃ m, n = m + 1 := ⟨n - 1, by omega⟩
    refine br_t (nI_le (a := 48) (by omega) (by omega)) (K _ _ _ _ _ h3 h4 fun x y hx hy => ?_)
    rcases hO x y hx hy with hS | hS
    · have := hS.2; omega
    · exact hS
  | succ d ih =>
    intro j n us lo mi hg gr hj hj2 hm hij hn h3 h4 hO
    obtain ⟨n, rfl⟩ : ∃ m, n = m + 1 := ⟨n - 1, by omega⟩
    by_cases hx : 48 ≤ j
    · refine br_t (nI_le (a := 48) (by omega) (by omega)) (K _ _ _ _ _ h3 h4 fun x y hx hy => ?_)
      rcases hO x y hx hy with hS | hS
      · have := hS.2; omega
      · exact hS
    · have i96 : vp_in (nI (a * 48 + j)) 96 := vp_in_nI (by omega) (by omega)
      have hh := h.1 (a * 48 + j) (by omega)
      refine br_f (nI_ge (b := 48) (by omega) (by decide)) (br_f (by decide) ?_)
      rw [zb_m48, nI_clamp (show a * 48 + j < 2 ^ 31 by omega)]
      refine ⟨i96, br_c (fun hz => ?_) fun hz => ?_⟩
      · unfold wX_refresh_77
        refine br_f (by decide) (zb_xupd ha (by omega) h h3 h4 fun lo' mi' hg' gr' h3' h4' => nm_r (e' := nI (j + 8)) (nI_add j 8) (ih (j + 8) n _ _ _ _ _ (by omega) (by omega) (by omega) (by omega) (by omega) h3' h4' (zb_OK_upd (by omega) hO fun x y hx hy hS => ?_)))
        obtain ⟨hD, hle⟩ := hS
        by_cases e : y = j
        · exact Or.inl ⟨hD.1, e⟩
        · have := hD.2.2.1
          exact Or.inr ⟨hD, by omega⟩
      · obtain ⟨n, rfl⟩ : ∃ m, n = m + 1 := ⟨n - 1, by omega⟩
        have hR : ¬ R (a * 48 + j) < 0 := fun z => hz (hh.1.mpr z)
        have hK := K _ _ _ _ _ h3 h4 fun x y hx hy => by
          rcases hO x y hx hy with hS | hS
          · obtain ⟨hD, hle⟩ := hS
            have h5 := hD.2.2.2 (j / 8) (by omega) (by omega)
            rw [show j / 8 * 8 + i % 8 = j by omega] at h5
            exact absurd h5 hR
          · exact hS
        unfold wX_refresh_77
        exact br_t rfl (nm_r (e' := nI (j + 8)) (nI_add j 8) (br_c (fun _ => hK) fun _ => br_t rfl hK))
theorem zb_xref1 {post : Int32 → SX → Prop} {a i : Nat} (ha : a < 2) (hi : i < 48) (h : zb_RD R kn rd rc rs) (K : ∀ us lo mi hg gr : Nat → Int32, zb_A3 us lo mi hg → zb_GR us gr → zb_UU us R → ∃ n, wX_refresh_103 post (nI a) n 0 (nI (i / 8)) (nI c) it fx kn rd us rc rs lo mi hg gr bi sm ct la lp) : ∀ (d s n : Nat) (us lo mi hg gr : Nat → Int32), s + d = 8 → d < n → zb_A3 us lo mi hg → zb_GR us gr → zb_OK (fun x y => (x = a ∧ y / 8 = i / 8 ∧ s ≤ y % 8) ∨ zb_D R a i x y) us R → wX_refresh_11 post (nI a) (nI i) (nI (i / 8)) n (nI (i / 8 * 8 + s)) (nI c) it fx kn rd us rc rs lo mi hg gr bi sm ct la lp := by
  have e8 : nI (i / 8) * 8 + 8 = nI (i / 8 * 8 + 8) := zb_m8 (i / 8) 8
  intro d
  induction d with
  | zero =>
    intro s n us lo mi hg gr hs hn h3 h4 hO
    obtain ⟨n, rfl⟩ : ∃ m, n = m + 1 := ⟨n - 1, by omega⟩
    obtain rfl : s = 8 := by omega
    refine br_t (by rw [e8]; exact Int32.le_refl _) (nm_r (e' := nI (i + 8)) (nI_add i 8) ⟨7, zb_xref2 ha hi h K 6 (i + 8) 7 _ _ _ _ _ (by omega) (by omega) (by omega) (by omega) (by omega) h3 h4 (zb_OK_mono hO fun x y hx hy hS => ?_)⟩)
    rcases hS with ⟨_, _, hS⟩ | hS
    · omega
    · refine ⟨hS, ?_⟩
      have h1 := hS.2.1
      have h2 := hS.2.2.1
      omega
  | succ d ih =>
    intro s n us lo mi hg gr hs hn h3 h4 hO
    obtain ⟨n, rfl⟩ : ∃ m, n = m + 1 := ⟨n - 1, by omega⟩
    refine br_f (by rw [e8]; exact nI_ge (by omega) (by omega)) (zb_xupd ha (by omega) h h3 h4 fun lo' mi' hg' gr' h3' h4' => nm_r (e' := nI (i / 8 * 8 + (s + 1))) (nI_1 _) (ih (s + 1) n _ _ _ _ _ (by omega) (by omega) h3' h4' (zb_OK_upd (by omega) hO fun x y hx hy hS => ?_)))
    rcases hS with ⟨h5, h6, h7⟩ | hS
    · by_cases e : y = i / 8 * 8 + s
      · exact Or.inl ⟨h5, e⟩
      · exact Or.inr (Or.inl ⟨h5, h6, by omega⟩)
    · exact Or.inr (Or.inr hS)
theorem zb_xrefresh {post : Int32 → SX → Prop} {a i : Nat} (ha : a < 2) (hi : i < 48) (h : zb_RD R kn rd rc rs) (h3 : zb_A3 us lo mi hg) (h4 : zb_GR us gr) (hO : zb_OK (fun x y => (x = a ∧ y / 8 = i / 8) ∨ zb_D R a i x y) us R) (K : ∀ us lo mi hg gr : Nat → Int32, zb_A3 us lo mi hg → zb_GR us gr → zb_UU us R → ∃ n, wX_refresh_103 post (nI a) n 0 (nI (i / 8)) (nI c) it fx kn rd us rc rs lo mi hg gr bi sm ct la lp) : wpX_refresh post (nI c, it, fx, kn, rd, us, rc, rs, lo, mi, hg, gr, bi, sm, ct, la, lp) (nI a) (nI i) := by
  refine And.intro (by decide) (nm_r (e' := nI (i / 8)) (zb_d8 (by omega)) (nm_r (e' := nI (i / 8 * 8)) (pk_mul _ 8) ⟨9, ?_⟩))
  refine zb_xref1 ha hi h K 8 0 9 _ _ _ _ _ rfl (by decide) h3 h4 (zb_OK_mono hO fun x y hx hy hS => ?_)
  rcases hS with ⟨h5, h6⟩ | hS
  · exact Or.inl ⟨h5, h6, Nat.zero_le _⟩
  · exact Or.inr hS
/-- refresh against the reference's rebill, after a change of one read: T before, R after -/
theorem zb_rr {post : Int32 → SX → Prop} {T : Nat → Int32} {a i : Nat} (hc : c ≤ 6) (ha : a < 2) (hi : i < 48) (hT : ∀ y, y ≠ a * 48 + i → R y = T y) (h : zb_RD R kn rd rc rs) (h3 : zb_A3 us lo mi hg) (h4 : zb_GR us gr) (hu : zb_UU us T) (hB : zb_BL c it fx T bi) (hL : zb_LR ct la lp am pe) (K : ∀ (r : Int32) (us lo mi hg gr bi' sm' ct' la' lp' am' pe' : Nat → Int32), zb_A3 us lo mi hg → zb_GR us gr → zb_UU us R → zb_BL c it fx R bi' → zb_LR ct' la' lp' am' pe' → (∀ post : Int32 → SY → Prop, post r (nI c, R, it, fx, bi', ct', sm', am', pe') → wpY_rebill post (nI c, R, it, fx, bi, ct, sm, am, pe) (nI a)) → post r (nI c, it, fx, kn, rd, us, rc, rs, lo, mi, hg, gr, bi', sm', ct', la', lp')) : wpX_refresh post (nI c, it, fx, kn, rd, us, rc, rs, lo, mi, hg, gr, bi, sm, ct, la, lp) (nI a) (nI i) := by
  have hO : zb_OK (fun x y => (x = a ∧ y / 8 = i / 8) ∨ zb_D R a i x y) us R := fun x y hx hy => by
    by_cases e : x = a ∧ y / 8 = i / 8
    · exact Or.inl (Or.inl e)
    · by_cases hD : zb_D R a i x y
      · exact Or.inl (Or.inr hD)
      · refine Or.inr ?_
        rw [zb_ru_ind hi hy hT e hD]
        exact hu x y hx hy
  have hB2 : ∀ x q, x < 2 → q < c → (x ≠ a ∨ q < i / 8) → bi (x * 6 + q) = zb_bl c it fx R x q := fun x q hx hq h1 => by
    rw [zb_bl_ind hi (by omega) hT h1]
    exact hB x q hx hq
  refine zb_xrefresh ha hi h h3 h4 hO fun us lo mi hg gr h3 h4 hu => ?_
  by_cases hp : i / 8 ≤ c
  · obtain ⟨r, bi', sm', ct', la', lp', am', pe', g1, g2, hX, hY⟩ := zb_both (kn := kn) (rd := rd) (rc := rc) (rs := rs) hc ha h3 h4 hu (c - i / 8) (i / 8) bi sm ct la lp am pe 0 (by omega) hL hB2
    exact ⟨_, hX post (K r us lo mi hg gr bi' sm' ct' la' lp' am' pe' h3 h4 hu g2 g1 fun post hq => Exists.intro _ (zb_yskip hc ha hp (fun q hq => hB2 a q ha (by omega) (Or.inr hq)) (hY post hq) (i / 8) 0 (by omega)))⟩
  · refine ⟨1, br_t (nI_le (by omega) (by omega)) (K 0 us lo mi hg gr bi sm ct la lp am pe h3 h4 hu (fun x q hx hq => hB2 x q hx hq (Or.inr (by omega))) hL fun post hq => Exists.intro _ (zb_yskip (n := 1) hc ha (Nat.le_refl c) (fun q hq => hB2 a q ha hq (Or.inr (by omega))) (br_t (Int32.le_refl _) hq) c 0 (by omega)))⟩
end
end
section
section
variable {c : Nat} {it fx kn rd us rc rs lo mi hg gr bi sm ct la lp R am pe : Nat → Int32}
/-! lines asked for -/
def zb_nl (ct : Nat → Int32) (x y : Int32) : Prop := zb_bad 2 x ∨ ∃ a, a < 2 ∧ x = nI a ∧ (zb_bad 8 y ∨ ∃ k, k < 8 ∧ y = nI k ∧ ¬ nI k < ct a)
theorem zb_nlc (ct : Nat → Int32) (x y : Int32) : (∃ a k, a < 2 ∧ k < 8 ∧ x = nI a ∧ y = nI k ∧ nI k < ct a) ∨ zb_nl ct x y := by
  rcases zb_cls 2 x with ⟨a, ha, _, ex⟩ | hb
  · rcases zb_cls 8 y with ⟨k, hk, _, ey⟩ | hb
    · by_cases h : nI k < ct a
      · exact Or.inl ⟨a, k, ha, hk, ex, ey, h⟩
      · exact Or.inr (Or.inr ⟨a, ha, ex, Or.inr ⟨k, hk, ey, h⟩⟩)
    · exact Or.inr (Or.inr ⟨a, ha, ex, Or.inl hb⟩)
  · exact Or.inr (Or.inl hb)
theorem zb_xnl0 {post : Int32 → Prop} {a k : Nat} (ha : a < 2) (hk : k < 8) (hz : nI k < ct a) (h : post 0) : wpX_noLine post (nI c, it, fx, kn, rd, us, rc, rs, lo, mi, hg, gr, bi, sm, ct, la, lp) (nI a) (nI k) := by
  unfold wpX_noLine
  refine zb_xA0 ha (br_t rfl (br_f (nI_pos (by omega)) (br_f (nI_nlt (a := 7) (by omega) (by omega)) ⟨vp_in_nI ha (by omega), ?_⟩)))
  rw [nI_clamp (show a < 2 ^ 31 by omega)]
  exact br_t hz h
theorem zb_ynl0 {post : Int32 → Prop} {a k : Nat} (ha : a < 2) (hk : k < 8) (hz : nI k < ct a) (h : post 0) : wpY_noLine post (nI c, R, it, fx, bi, ct, sm, am, pe) (nI a) (nI k) := by
  unfold wpY_noLine
  refine zb_yA0 ha (br_t rfl (br_f (nI_pos (by omega)) (br_f (nI_nlt (a := 7) (by omega) (by omega)) ⟨vp_in_nI ha (by omega), ?_⟩)))
  rw [nI_clamp (show a < 2 ^ 31 by omega)]
  exact br_t hz h
theorem zb_xnl1 {post : Int32 → Prop} {x y : Int32} (hb : zb_nl ct x y) (h : post 1) : wpX_noLine post (nI c, it, fx, kn, rd, us, rc, rs, lo, mi, hg, gr, bi, sm, ct, la, lp) x y := by
  unfold wpX_noLine
  rcases hb with hb | ⟨a, ha, rfl, hb⟩
  · exact zb_xA1 hb (br_f (by decide) h)
  · refine zb_xA0 ha (br_t rfl ?_)
    rcases hb with hb | ⟨k, hk, rfl, hz⟩
    · rcases hb with hb | ⟨j, h1, h2, rfl⟩
      · exact br_t hb h
      · exact br_f (nI_pos h2) (br_t (nI_lt (a := 7) (by omega) h2) h)
    · refine br_f (nI_pos (by omega)) (br_f (nI_nlt (a := 7) (by omega) (by omega)) ⟨vp_in_nI ha (by omega), ?_⟩)
      rw [nI_clamp (show a < 2 ^ 31 by omega)]
      exact br_f hz h
theorem zb_ynl1 {post : Int32 → Prop} {x y : Int32} (hb : zb_nl ct x y) (h : post 1) : wpY_noLine post (nI c, R, it, fx, bi, ct, sm, am, pe) x y := by
  unfold wpY_noLine
  rcases hb with hb | ⟨a, ha, rfl, hb⟩
  · exact zb_yA1 hb (br_f (by decide) h)
  · refine zb_yA0 ha (br_t rfl ?_)
    rcases hb with hb | ⟨k, hk, rfl, hz⟩
    · rcases hb with hb | ⟨j, h1, h2, rfl⟩
      · exact br_t hb h
      · exact br_f (nI_pos h2) (br_t (nI_lt (a := 7) (by omega) h2) h)
    · refine br_f (nI_pos (by omega)) (br_f (nI_nlt (a := 7) (by omega) (by omega)) ⟨vp_in_nI ha (by omega), ?_⟩)
      rw [nI_clamp (show a < 2 ^ 31 by omega)]
      exact br_f hz h
/-! close -/
def zb_cp (it : Nat → Int32) (b : Nat) (f : Nat → Int32) : Nat → Nat → Int32
  | 0 => f
  | n + 1 => upd (zb_cp it b f n) (b + n) (it n)
theorem zb_cp_lo (it : Nat → Int32) (b : Nat) (f : Nat → Int32) {j : Nat} (hj : j < b) (n : Nat) : zb_cp it b f n j = f j := by
  induction n with
  | zero => rfl
  | succ n ih =>
    show upd (zb_cp it b f n) (b + n) (it n) j = f j
    rw [pk_un (by omega)]
    exact ih
theorem zb_x19 {post : Int32 → SX → Prop} (hc : c < 6) (K : ∃ n, wX_close_57 post (nI c) n 0 (nI (c + 1)) it (zb_cp it (c * 6) fx 6) kn rd us rc rs lo mi hg gr bi sm ct la lp) : ∀ d s n : Nat, s + d = 6 → d < n → wX_close_19 post (nI c) (nI c) n (nI s) it (zb_cp it (c * 6) fx s) kn rd us rc rs lo mi hg gr bi sm ct la lp := by
  intro d
  induction d with
  | zero =>
    intro s n hs hn
    obtain ⟨n, rfl⟩ : ∃ m, n = m + 1 := ⟨n - 1, by omega⟩
    obtain rfl : s = 6 := by omega
    exact br_t (by decide) (nm_r (e' := nI (c + 1)) (nI_1 c) K)
  | succ d ih =>
    intro s n hs hn
    obtain ⟨n, rfl⟩ : ∃ m, n = m + 1 := ⟨n - 1, by omega⟩
    refine br_f (nI_ge (b := 6) (by omega) (by decide)) ?_
    rw [zb_m6, nI_clamp (show s < 2 ^ 31 by omega), nI_clamp (show c * 6 + s < 2 ^ 31 by omega)]
    exact ⟨vp_in_nI (by omega) (by omega), vp_in_nI (by omega) (by omega), nm_e (nm_r (e' := nI (s + 1)) (nI_1 s) (ih (s + 1) n (by omega) (by omega)))⟩
theorem zb_y19 {post : Int32 → SY → Prop} (hc : c < 6) (K : ∃ n, wY_close_57 post (nI c) n 0 (nI (c + 1)) R it (zb_cp it (c * 6) fx 6) bi ct sm am pe) : ∀ d s n : Nat, s + d = 6 → d < n → wY_close_19 post (nI c) (nI c) n (nI s) R it (zb_cp it (c * 6) fx s) bi ct sm am pe := by
  intro d
  induction d with
  | zero =>
    intro s n hs hn
    obtain ⟨n, rfl⟩ : ∃ m, n = m + 1 := ⟨n - 1, by omega⟩
    obtain rfl : s = 6 := by omega
    exact br_t (by decide) (nm_r (e' := nI (c + 1)) (nI_1 c) K)
  | succ d ih =>
    intro s n hs hn
    obtain ⟨n, rfl⟩ : ∃ m, n = m + 1 := ⟨n - 1, by omega⟩
    refine br_f (nI_ge (b := 6) (by omega) (by decide)) ?_
    rw [zb_m6, nI_clamp (show s < 2 ^ 31 by omega), nI_clamp (show c * 6 + s < 2 ^ 31 by omega)]
    exact ⟨vp_in_nI (by omega) (by omega), vp_in_nI (by omega) (by omega), nm_e (nm_r (e' := nI (s + 1)) (nI_1 s) (ih (s + 1) n (by omega) (by omega)))⟩
theorem zb_x57 {post : Int32 → SX → Prop} {a n : Nat} {r : Int32} (hc : c < 6) (ha : a < 2) (hr : zb_rt (lo (a * 6 + c)) (mi (a * 6 + c)) (hg (a * 6 + c)) (gr (a * 6 + c)) (zb_tf (c + 1) it fx c) = r) (K : wX_close_57 post (nI c) n (nI (a + 1)) (nI (c + 1)) it fx kn rd us rc rs lo mi hg gr (upd bi (a * 6 + c) r) (zb_sm1 sm a r) (zb_ct1 ct a) (zb_la1 ct la a r) (zb_la1 ct lp a (nI c))) : wX_close_57 post (nI c) (n + 1) (nI a) (nI (c + 1)) it fx kn rd us rc rs lo mi hg gr bi sm ct la lp := by
  refine br_f (nI_ge (b := 2) (by omega) (by decide)) (zb_xrate (by omega) ha hc ?_)
  rw [zb_m6, nI_clamp (show a * 6 + c < 2 ^ 31 by omega), hr]
  exact ⟨vp_in_nI (by omega) (by omega), nm_e (zb_xadd ha (nm_r (e' := nI (a + 1)) (nI_1 a) K))⟩
theorem zb_y57 {post : Int32 → SY → Prop} {a n : Nat} {r : Int32} (hc : c < 6) (ha : a < 2) (hr : zb_bl (c + 1) it fx R a c = r) (K : wY_close_57 post (nI c) n (nI (a + 1)) (nI (c + 1)) R it fx (upd bi (a * 6 + c) r) (zb_ct1 ct a) (zb_sm1 sm a r) (zb_sh (a * 8) r 7 am) (zb_sh (a * 8) (nI c) 7 pe)) : wY_close_57 post (nI c) (n + 1) (nI a) (nI (c + 1)) R it fx bi ct sm am pe := by
  refine br_f (nI_ge (b := 2) (by omega) (by decide)) (zb_yamount (by omega) ha hc ?_)
  rw [zb_m6, nI_clamp (show a * 6 + c < 2 ^ 31 by omega), hr]
  exact ⟨vp_in_nI (by omega) (by omega), nm_e (zb_yline ha (nm_r (e' := nI (a + 1)) (nI_1 a) K))⟩
/-! the constructors -/
theorem zb_sm_0 {f : Nat → Int32} {b : Nat} (n : Nat) (h : ∀ i, i < n → f (b + i) = 0) : zb_sm f b n = 0 := by
  induction n with
  | zero => rfl
  | succ n ih => rw [zb_sm_s, ih (fun i hi => h i (by omega)), h n (by omega)]; rfl
theorem zb_mx_0 (b n : Nat) : zb_mx (fun _ => 0) b n = 0 := by
  induction n with
  | zero => rfl
  | succ n ih => rw [zb_mx_s, ih, ite_self]
theorem zb_lk_neg {b s : Nat} {d : Int32} (q : Nat) (h : ∀ p, p < q → R (b + (p * 8 + s)) < 0) : zb_lk R b s d q = d := by
  induction q with
  | zero => rfl
  | succ q ih => rw [zb_lk_s, if_pos (h q (by omega))]; exact ih fun p hp => h p (by omega)
theorem zb_yfill {post : SY → Prop} {f : Int32} (K : ∀ R : Nat → Int32, (∀ t, t < 96 → R t = -1) → post (f, R, it, fx, bi, ct, sm, am, pe)) : ∀ (d j n : Nat) (R : Nat → Int32), j + d = 96 → d < n → (∀ t, t < j → R t = -1) → wY_init_68 post f n (nI j) R it fx bi ct sm am pe := by
  intro d
  induction d with
  | zero =>
    intro j n R hj hn hR
    obtain ⟨n, rfl⟩ : ∃ m, n = m + 1 := ⟨n - 1, by omega⟩
    obtain rfl : j = 96 := by omega
    exact br_t (by decide) (K R hR)
  | succ d ih =>
    intro j n R hj hn hR
    obtain ⟨n, rfl⟩ : ∃ m, n = m + 1 := ⟨n - 1, by omega⟩
    refine br_f (nI_ge (b := 96) (by omega) (by decide)) ⟨vp_in_nI (by omega) (by omega), nm_e (nm_r (e' := nI (j + 1)) (nI_1 j) (ih (j + 1) n _ (by omega) (by omega) fun t ht => ?_))⟩
    rw [nI_clamp (show j < 2 ^ 31 by omega)]
    by_cases e : t = j
    · rw [e, pk_us]
    · rw [pk_un e]; exact hR t (by omega)
end
end
section
def zb_F (c : Nat) (it fx kn rd us rc rs lo mi hg gr bi ct la lp R am pe : Nat → Int32) : Prop := c ≤ 6 ∧ zb_RD R kn rd rc rs ∧ zb_A3 us lo mi hg ∧ zb_GR us gr ∧ zb_UU us R ∧ zb_BL c it fx R bi ∧ zb_LR ct la lp am pe
/-- the relation: tariffs, closed, bills, sums and numbers of lines alike; reads, usages and the sums over them as they should be; the rings against the shifted lines -/
def i_Rel (k : Nat) (u : SX) (v : SY) : Prop := ∃ (c : Nat) (it fx kn rd us rc rs lo mi hg gr bi sm ct la lp R am pe : Nat → Int32), u = (nI c, it, fx, kn, rd, us, rc, rs, lo, mi, hg, gr, bi, sm, ct, la, lp) ∧ v = (nI c, R, it, fx, bi, ct, sm, am, pe) ∧ zb_F c it fx kn rd us rc rs lo mi hg gr bi ct la lp R am pe
theorem zb_el {k : Nat} {u : SX} {v : SY} {P : SX → SY → Prop} (h : ∀ (c : Nat) (it fx kn rd us rc rs lo mi hg gr bi sm ct la lp R am pe : Nat → Int32), zb_F c it fx kn rd us rc rs lo mi hg gr bi ct la lp R am pe → P (nI c, it, fx, kn, rd, us, rc, rs, lo, mi, hg, gr, bi, sm, ct, la, lp) (nI c, R, it, fx, bi, ct, sm, am, pe)) (I : i_Rel k u v) : P u v := by
  obtain ⟨c, it, fx, kn, rd, us, rc, rs, lo, mi, hg, gr, bi, sm, ct, la, lp, R, am, pe, e1, e2, H⟩ := I
  rw [e1, e2]
  exact h c it fx kn rd us rc rs lo mi hg gr bi sm ct la lp R am pe H
theorem zb_mk {k c : Nat} {it fx kn rd us rc rs lo mi hg gr bi sm ct la lp R am pe : Nat → Int32} (H : zb_F c it fx kn rd us rc rs lo mi hg gr bi ct la lp R am pe) : i_Rel k (nI c, it, fx, kn, rd, us, rc, rs, lo, mi, hg, gr, bi, sm, ct, la, lp) (nI c, R, it, fx, bi, ct, sm, am, pe) := ⟨c, it, fx, kn, rd, us, rc, rs, lo, mi, hg, gr, bi, sm, ct, la, lp, R, am, pe, rfl, rfl, H⟩
theorem i_up {k : Nat} {u : SX} {v : SY} (h : i_Rel k u v) : i_Rel (k + 4) u v := h
theorem zb_F0 {R : Nat → Int32} (hR : ∀ t, t < 96 → R t = -1) : zb_F 0 (fun _ => 0) (fun _ => 0) (fun _ => 0) (fun _ => 0) (fun _ => 0) (fun _ => 0) (fun _ => 0) (fun _ => 0) (fun _ => 0) (fun _ => 0) (fun _ => 0) (fun _ => 0) (fun _ => 0) (fun _ => 0) (fun _ => 0) R (fun _ => 0) (fun _ => 0) := by
  have hn : ∀ t, t < 96 → R t < 0 := fun t ht => by rw [hR t ht]; exact zb_m1n
  have hc : ∀ c, c < 12 → zb_rc R (c * 8) 8 = 0 := fun c hc => zb_sm_0 8 fun i hi => zb_in_n (hn _ (by omega))
  refine ⟨by decide, ⟨fun j hj => ⟨⟨fun _ => hn j hj, fun _ => rfl⟩, fun z => absurd (hn j hj) z⟩, fun c h => ⟨(hc c h).symm, (zb_sm_0 8 fun i hi => zb_ps_n (hn _ (by omega))).symm⟩⟩, fun c h => ⟨(zb_sm_0 3 fun i hi => rfl).symm, (zb_sm_0 2 fun i hi => rfl).symm, (zb_sm_0 3 fun i hi => rfl).symm⟩, fun c h => (zb_mx_0 _ _).symm, fun x j hx hj => ?_, fun a p ha hp => absurd hp (by omega), fun a k ha hk => rfl, fun a k ha hk => rfl⟩
  unfold zb_ru
  rw [zb_lk_neg _ fun p hp => hn _ (by omega)]
  unfold zb_mn
  rw [if_pos (hc _ (by omega))]
theorem i_vc0 : wpX_init (fun u => wpY_init (fun v => i_Rel 0 u v)) := by
  refine Exists.intro 97 ?_
  exact zb_yfill (f := 0) (fun R hR => zb_mk (c := 0) (zb_F0 hR)) 96 0 97 _ rfl (by decide) (fun t ht => absurd ht (by omega))
theorem i_vc_tariff {k : Nat} {u : SX} {v : SY} (I : i_Rel k u v) (hk : k + 4 ≤ 2048) (v1 : Int32) (v2 : Int32) : wpX_tariff (fun r u' => wpY_tariff (fun r' v' => r' = r ∧ i_Rel (k + 4) u' v') v v1 v2) u v1 v2 := by
  refine zb_el (P := fun u v => wpX_tariff (fun r u' => wpY_tariff (fun r' v' => r' = r ∧ i_Rel (k + 4) u' v') v v1 v2) u v1 v2) ?_ I
  intro c it fx kn rd us rc rs lo mi hg gr bi sm ct la lp R am pe H
  rcases zb_cls 6 v1 with ⟨j, hj, _, rfl⟩ | hb
  · have g0 : ¬ nI j < 0 := nI_pos (by omega)
    have g1 : nI j ≤ 5 := nI_le (b := 5) (by omega) (by decide)
    have i6 : vp_in (nI j) 6 := vp_in_nI hj (by omega)
    rcases zb_cls 100 v2 with ⟨w, hw, _, rfl⟩ | hb
    · have f0 : ¬ nI w < 0 := nI_pos (by omega)
      have f1 : nI w ≤ 99 := nI_le (b := 99) (by omega) (by decide)
      refine br_f g0 (br_t g1 (br_f f0 (br_t f1 ⟨i6, nm_e ⟨i6, nm_e (br_f g0 (br_t g1 (br_f f0 (br_t f1 ⟨i6, nm_e ⟨i6, nm_e ⟨rfl, zb_mk ?_⟩⟩⟩))))⟩⟩)))
      obtain ⟨hc, h1, h2, h3, h4, h5, h6⟩ := H
      exact ⟨hc, h1, h2, h3, h4, fun a p ha hp => by rw [h5 a p ha hp]; exact zb_bl_it hp, h6⟩
    · rcases hb with hb | ⟨w, h1, h2, rfl⟩
      · exact br_f g0 (br_t g1 (br_t hb (br_f g0 (br_t g1 (br_t hb ⟨rfl, zb_mk H⟩)))))
      · have f0 : ¬ nI w < 0 := nI_pos h2
        have f1 : ¬ nI w ≤ 99 := nI_ge (a := 99) (by omega) h2
        exact br_f g0 (br_t g1 (br_f f0 (br_f f1 (br_f g0 (br_t g1 (br_f f0 (br_f f1 ⟨rfl, zb_mk H⟩)))))))
  · rcases hb with hb | ⟨w, h1, h2, rfl⟩
    · exact br_t hb (br_t hb ⟨rfl, zb_mk H⟩)
    · have f0 : ¬ nI w < 0 := nI_pos h2
      have f1 : ¬ nI w ≤ 5 := nI_ge (a := 5) (by omega) h2
      exact br_f f0 (br_f f1 (br_f f0 (br_f f1 ⟨rfl, zb_mk H⟩)))
theorem i_vc_read {k : Nat} {u : SX} {v : SY} (I : i_Rel k u v) (hk : k + 4 ≤ 2048) (v1 : Int32) (v2 : Int32) (v3 : Int32) : wpX_read (fun r u' => wpY_read (fun r' v' => r' = r ∧ i_Rel (k + 4) u' v') v v1 v2 v3) u v1 v2 v3 := by
  refine zb_el (P := fun u v => wpX_read (fun r u' => wpY_read (fun r' v' => r' = r ∧ i_Rel (k + 4) u' v') v v1 v2 v3) u v1 v2 v3) ?_ I
  intro c it fx kn rd us rc rs lo mi hg gr bi sm ct la lp R am pe H
  unfold wpX_read wpY_read
  dsimp only
  rcases zb_cls 2 v1 with ⟨a, ha, _, rfl⟩ | hb
  · refine zb_xA0 ha (br_t rfl ?_)
    rcases zb_cls 48 v2 with ⟨i, hi, _, rfl⟩ | hb
    · refine zb_xI0 hi (br_t rfl ?_)
      by_cases f0 : v3 < 0
      · exact br_t f0 (zb_yA0 ha (br_t rfl (zb_yI0 hi (br_t rfl (br_t f0 ⟨rfl, zb_mk H⟩)))))
      · by_cases f1 : v3 ≤ 999
        · obtain ⟨hc, h1, h2, h3, h4, h5, h6⟩ := H
          have hk : a * 48 + i < 96 := by omega
          have i96 : vp_in (nI (a * 48 + i)) 96 := vp_in_nI hk (by omega)
          have i12 : vp_in (nI (a * 6 + i / 8)) 12 := vp_in_nI (by omega) (by omega)
          refine br_f f0 (br_t f1 (nm_r (e' := nI (a * 48 + i)) (zb_m48 a i) (zb_xforget ha hi h1 fun kn' rc' rs' h1' => ?_)))
          rw [nI_clamp (show a * 48 + i < 2 ^ 31 by omega)]
          refine ⟨i96, nm_e ⟨i96, nm_e ⟨by decide, nm_r (e' := nI (a * 6 + i / 8)) (zb_ce (by omega)) ?_⟩⟩⟩
          rw [nI_clamp (show a * 6 + i / 8 < 2 ^ 31 by omega)]
          have g1 := zb_RD_set (k := a * 48 + i) h1' (by rw [pk_us]; exact zb_m1n) f0
          rw [zb_upd_upd, show (a * 48 + i) / 8 = a * 6 + i / 8 by omega] at g1
          refine ⟨i12, i12, nm_e ⟨i12, i12, nm_e (zb_rr (am := am) (pe := pe) hc ha hi (fun y hy => pk_un hy) g1 h2 h3 h4 h5 h6 fun r us lo mi hg gr bi' sm' ct' la' lp' am' pe' q1 q2 q3 q4 q5 hY => ?_)⟩⟩
          refine zb_yA0 ha (br_t rfl (zb_yI0 hi (br_t rfl (br_f f0 (br_t f1 ?_)))))
          rw [zb_m48, nI_clamp (show a * 48 + i < 2 ^ 31 by omega)]
          exact ⟨i96, nm_e (hY _ ⟨rfl, zb_mk ⟨hc, g1, q1, q2, q3, q4, q5⟩⟩)⟩
        · exact br_f f0 (br_f f1 (zb_yA0 ha (br_t rfl (zb_yI0 hi (br_t rfl (br_f f0 (br_f f1 ⟨rfl, zb_mk H⟩)))))))
    · exact zb_xI1 hb (br_f (by decide) (zb_yA0 ha (br_t rfl (zb_yI1 hb (br_f (by decide) ⟨rfl, zb_mk H⟩)))))
  · exact zb_xA1 hb (br_f (by decide) (zb_yA1 hb (br_f (by decide) ⟨rfl, zb_mk H⟩)))
theorem i_vc_unread {k : Nat} {u : SX} {v : SY} (I : i_Rel k u v) (hk : k + 4 ≤ 2048) (v1 : Int32) (v2 : Int32) : wpX_unread (fun r u' => wpY_unread (fun r' v' => r' = r ∧ i_Rel (k + 4) u' v') v v1 v2) u v1 v2 := by
  refine zb_el (P := fun u v => wpX_unread (fun r u' => wpY_unread (fun r' v' => r' = r ∧ i_Rel (k + 4) u' v') v v1 v2) u v1 v2) ?_ I
  intro c it fx kn rd us rc rs lo mi hg gr bi sm ct la lp R am pe H
  unfold wpX_unread wpY_unread
  dsimp only
  rcases zb_cls 2 v1 with ⟨a, ha, _, rfl⟩ | hb
  · refine zb_xA0 ha (br_t rfl ?_)
    rcases zb_cls 48 v2 with ⟨i, hi, _, rfl⟩ | hb
    · refine zb_xI0 hi (br_t rfl ?_)
      have HH := H
      obtain ⟨hc, h1, h2, h3, h4, h5, h6⟩ := HH
      have hk : a * 48 + i < 96 := by omega
      have i96 : vp_in (nI (a * 48 + i)) 96 := vp_in_nI hk (by omega)
      have hh := h1.1 (a * 48 + i) hk
      rw [zb_m48, nI_clamp (show a * 48 + i < 2 ^ 31 by omega)]
      refine ⟨i96, br_c (fun hz => ?_) fun hz => zb_xforget ha hi h1 fun kn' rc' rs' h1' => zb_rr (am := am) (pe := pe) hc ha hi (fun y hy => pk_un hy) h1' h2 h3 h4 h5 h6 fun r us lo mi hg gr bi' sm' ct' la' lp' am' pe' q1 q2 q3 q4 q5 hY => ?_⟩
      · have hR : ¬ 0 ≤ R (a * 48 + i) := Int32.not_le.mpr (hh.1.mp hz)
        exact zb_yA0 ha (br_t rfl (zb_yI0 hi (br_t rfl ⟨i96, br_f hR ⟨rfl, zb_mk H⟩⟩)))
      · have hR : 0 ≤ R (a * 48 + i) := Int32.not_lt.mp fun z => hz (hh.1.mpr z)
        exact zb_yA0 ha (br_t rfl (zb_yI0 hi (br_t rfl ⟨i96, br_t hR ⟨i96, nm_e (hY _ ⟨rfl, zb_mk ⟨hc, h1', q1, q2, q3, q4, q5⟩⟩)⟩⟩)))
    · exact zb_xI1 hb (br_f (by decide) (zb_yA0 ha (br_t rfl (zb_yI1 hb (br_f (by decide) ⟨rfl, zb_mk H⟩)))))
  · exact zb_xA1 hb (br_f (by decide) (zb_yA1 hb (br_f (by decide) ⟨rfl, zb_mk H⟩)))
theorem i_vc_close {k : Nat} {u : SX} {v : SY} (I : i_Rel k u v) (hk : k + 4 ≤ 2048) : wpX_close (fun r u' => wpY_close (fun r' v' => r' = r ∧ i_Rel (k + 4) u' v') v) u := by
  refine zb_el (P := fun u v => wpX_close (fun r u' => wpY_close (fun r' v' => r' = r ∧ i_Rel (k + 4) u' v') v) u) ?_ I
  intro c it fx kn rd us rc rs lo mi hg gr bi sm ct la lp R am pe H
  have HH := H
  obtain ⟨hc, h1, h2, h3, h4, h5, h6⟩ := HH
  by_cases h : c < 6
  · have hl : nI c < 6 := nI_lt (b := 6) h (by decide)
    have r0 := zb_rate_eq (t := zb_tf (c + 1) it (zb_cp it (c * 6) fx 6) c) (a := 0) h2 h3 h4 (by decide) h
    have r1 := zb_rate_eq (t := zb_tf (c + 1) it (zb_cp it (c * 6) fx 6) c) (a := 1) h2 h3 h4 (by decide) h
    refine br_t hl ⟨7, zb_x19 h ⟨3, zb_x57 (a := 0) h (by decide) r0 (zb_x57 (a := 1) h (by decide) r1 (br_t (by decide) ?_))⟩ 6 0 7 rfl (by decide)⟩
    refine br_t hl ⟨7, zb_y19 h ⟨3, zb_y57 (a := 0) h (by decide) rfl (zb_y57 (a := 1) h (by decide) rfl (br_t (by decide) ⟨rfl, zb_mk ⟨by omega, h1, h2, h3, h4, fun x p hx hp => ?_, zb_LR_add _ _ (zb_LR_add _ _ h6 (by decide)) (by decide)⟩⟩))⟩ 6 0 7 rfl (by decide)⟩
    by_cases e : p = c
    · subst e
      by_cases ex : x = 1
      · subst ex; exact pk_us
      · obtain rfl : x = 0 := by omega
        rw [pk_un (by omega)]; exact pk_us
    · rw [pk_un (by omega), pk_un (by omega), h5 x p hx (by omega)]
      unfold zb_bl
      refine zb_yr_congr (fun s hs => rfl) fun k hk => ?_
      unfold zb_tf
      rw [if_neg (by omega), if_neg (by omega), zb_cp_lo _ _ _ (by omega)]
  · have hl : ¬ nI c < 6 := nI_nlt (b := 6) (by omega) (by omega)
    exact br_f hl (br_f hl ⟨rfl, zb_mk H⟩)
theorem i_vc_usage {k : Nat} {u : SX} {v : SY} (I : i_Rel k u v) (hk : k + 4 ≤ 2048) (v1 : Int32) (v2 : Int32) : wpX_usage (fun r => wpY_usage (fun r' => r' = r ∧ i_Rel (k + 4) u v) v v1 v2) u v1 v2 := by
  refine zb_el (P := fun u v => wpX_usage (fun r => wpY_usage (fun r' => r' = r ∧ i_Rel (k + 4) u v) v v1 v2) u v1 v2) ?_ I
  intro c it fx kn rd us rc rs lo mi hg gr bi sm ct la lp R am pe H
  unfold wpX_usage
  dsimp only
  rcases zb_cls 2 v1 with ⟨a, ha, _, rfl⟩ | hb
  · refine zb_xA0 ha (br_t rfl ?_)
    rcases zb_cls 48 v2 with ⟨i, hi, _, rfl⟩ | hb
    · refine zb_xI0 hi (br_t rfl ?_)
      rw [zb_m48, nI_clamp (show a * 48 + i < 2 ^ 31 by omega)]
      exact ⟨vp_in_nI (by omega) (by omega), zb_yusage ha hi ⟨(H.2.2.2.2.1 a i ha hi).symm, zb_mk H⟩⟩
    · refine zb_xI1 hb (br_f (by decide) ?_)
      unfold wpY_usage
      exact zb_yA0 ha (br_t rfl (zb_yI1 hb (br_f (by decide) ⟨rfl, zb_mk H⟩)))
  · refine zb_xA1 hb (br_f (by decide) ?_)
    unfold wpY_usage
    exact zb_yA1 hb (br_f (by decide) ⟨rfl, zb_mk H⟩)
theorem i_vc_amount {k : Nat} {u : SX} {v : SY} (I : i_Rel k u v) (hk : k + 4 ≤ 2048) (v1 : Int32) (v2 : Int32) : wpX_amount (fun r => wpY_amount (fun r' => r' = r ∧ i_Rel (k + 4) u v) v v1 v2) u v1 v2 := by
  refine zb_el (P := fun u v => wpX_amount (fun r => wpY_amount (fun r' => r' = r ∧ i_Rel (k + 4) u v) v v1 v2) u v1 v2) ?_ I
  intro c it fx kn rd us rc rs lo mi hg gr bi sm ct la lp R am pe H
  unfold wpX_amount
  dsimp only
  rcases zb_cls 2 v1 with ⟨a, ha, _, rfl⟩ | hb
  · refine zb_xA0 ha (br_t rfl ?_)
    rcases zb_cls 6 v2 with ⟨p, hp, _, rfl⟩ | hb
    · have HH := H
      obtain ⟨hc, h1, h2, h3, h4, h5, h6⟩ := HH
      refine br_f (nI_pos (by omega)) (br_t (nI_lt (b := 6) hp (by decide)) ?_)
      rw [zb_m6, nI_clamp (show a * 6 + p < 2 ^ 31 by omega)]
      refine pk_le c p (fun hz => zb_xrate hc ha hp (zb_yamount hc ha hp ⟨?_, zb_mk H⟩)) fun hz => ⟨vp_in_nI (by omega) (by omega), zb_yamount hc ha hp ⟨(h5 a p ha hz).symm, zb_mk H⟩⟩
      exact (zb_rate_eq h2 h3 h4 ha hp).symm
    · rcases hb with hb | ⟨w, w1, w2, rfl⟩
      · refine br_t hb ?_
        unfold wpY_amount
        exact zb_yA0 ha (br_t rfl (br_t hb ⟨rfl, zb_mk H⟩))
      · have f0 : ¬ nI w < 0 := nI_pos w2
        refine br_f f0 (br_f (nI_nlt (b := 6) (by omega) w2) ?_)
        unfold wpY_amount
        exact zb_yA0 ha (br_t rfl (br_f f0 (br_f (nI_ge (a := 5) (by omega) w2) ⟨rfl, zb_mk H⟩)))
  · refine zb_xA1 hb (br_f (by decide) ?_)
    unfold wpY_amount
    exact zb_yA1 hb (br_f (by decide) ⟨rfl, zb_mk H⟩)
theorem i_vc_balance {k : Nat} {u : SX} {v : SY} (I : i_Rel k u v) (hk : k + 4 ≤ 2048) (v1 : Int32) : wpX_balance (fun r => wpY_balance (fun r' => r' = r ∧ i_Rel (k + 4) u v) v v1) u v1 := by
  refine zb_el (P := fun u v => wpX_balance (fun r => wpY_balance (fun r' => r' = r ∧ i_Rel (k + 4) u v) v v1) u v1) ?_ I
  intro c it fx kn rd us rc rs lo mi hg gr bi sm ct la lp R am pe H
  unfold wpX_balance wpY_balance
  dsimp only
  rcases zb_cls 2 v1 with ⟨a, ha, _, rfl⟩ | hb
  · have i2 : vp_in (nI a) 2 := vp_in_nI ha (by omega)
    exact zb_xA0 ha (br_t rfl ⟨i2, zb_yA0 ha (br_t rfl ⟨i2, rfl, zb_mk H⟩)⟩)
  · exact zb_xA1 hb (br_f (by decide) (zb_yA1 hb (br_f (by decide) ⟨rfl, zb_mk H⟩)))
theorem i_vc_lines {k : Nat} {u : SX} {v : SY} (I : i_Rel k u v) (hk : k + 4 ≤ 2048) (v1 : Int32) : wpX_lines (fun r => wpY_lines (fun r' => r' = r ∧ i_Rel (k + 4) u v) v v1) u v1 := by
  refine zb_el (P := fun u v => wpX_lines (fun r => wpY_lines (fun r' => r' = r ∧ i_Rel (k + 4) u v) v v1) u v1) ?_ I
  intro c it fx kn rd us rc rs lo mi hg gr bi sm ct la lp R am pe H
  unfold wpX_lines wpY_lines
  dsimp only
  rcases zb_cls 2 v1 with ⟨a, ha, _, rfl⟩ | hb
  · have i2 : vp_in (nI a) 2 := vp_in_nI ha (by omega)
    exact zb_xA0 ha (br_t rfl ⟨i2, zb_yA0 ha (br_t rfl ⟨i2, rfl, zb_mk H⟩)⟩)
  · exact zb_xA1 hb (br_f (by decide) (zb_yA1 hb (br_f (by decide) ⟨rfl, zb_mk H⟩)))
theorem i_vc_lineAmount {k : Nat} {u : SX} {v : SY} (I : i_Rel k u v) (hk : k + 4 ≤ 2048) (v1 : Int32) (v2 : Int32) : wpX_lineAmount (fun r => wpY_lineAmount (fun r' => r' = r ∧ i_Rel (k + 4) u v) v v1 v2) u v1 v2 := by
  refine zb_el (P := fun u v => wpX_lineAmount (fun r => wpY_lineAmount (fun r' => r' = r ∧ i_Rel (k + 4) u v) v v1 v2) u v1 v2) ?_ I
  intro c it fx kn rd us rc rs lo mi hg gr bi sm ct la lp R am pe H
  unfold wpX_lineAmount wpY_lineAmount
  dsimp only
  rcases zb_nlc ct v1 v2 with ⟨a, b, ha, hb, rfl, rfl, hz⟩ | hb
  · refine zb_xnl0 ha hb hz (br_t rfl ?_)
    rw [nI_clamp (show a < 2 ^ 31 by omega), zb_tn_k _ hb, zb_m8, nI_clamp (show a * 8 + (zb_tn (ct a) + 7 - b) % 8 < 2 ^ 31 by omega)]
    refine ⟨vp_in_nI ha (by omega), vp_in_nI (by omega) (by omega), zb_ynl0 ha hb hz (br_t rfl ?_)⟩
    rw [zb_m8, nI_clamp (show a * 8 + b < 2 ^ 31 by omega)]
    exact ⟨vp_in_nI (by omega) (by omega), H.2.2.2.2.2.2.1 a b ha hb, zb_mk H⟩
  · exact zb_xnl1 hb (br_f (by decide) (zb_ynl1 hb (br_f (by decide) ⟨rfl, zb_mk H⟩)))
theorem i_vc_linePeriod {k : Nat} {u : SX} {v : SY} (I : i_Rel k u v) (hk : k + 4 ≤ 2048) (v1 : Int32) (v2 : Int32) : wpX_linePeriod (fun r => wpY_linePeriod (fun r' => r' = r ∧ i_Rel (k + 4) u v) v v1 v2) u v1 v2 := by
  refine zb_el (P := fun u v => wpX_linePeriod (fun r => wpY_linePeriod (fun r' => r' = r ∧ i_Rel (k + 4) u v) v v1 v2) u v1 v2) ?_ I
  intro c it fx kn rd us rc rs lo mi hg gr bi sm ct la lp R am pe H
  unfold wpX_linePeriod wpY_linePeriod
  dsimp only
  rcases zb_nlc ct v1 v2 with ⟨a, b, ha, hb, rfl, rfl, hz⟩ | hb
  · refine zb_xnl0 ha hb hz (br_t rfl ?_)
    rw [nI_clamp (show a < 2 ^ 31 by omega), zb_tn_k _ hb, zb_m8, nI_clamp (show a * 8 + (zb_tn (ct a) + 7 - b) % 8 < 2 ^ 31 by omega)]
    refine ⟨vp_in_nI ha (by omega), vp_in_nI (by omega) (by omega), zb_ynl0 ha hb hz (br_t rfl ?_)⟩
    rw [zb_m8, nI_clamp (show a * 8 + b < 2 ^ 31 by omega)]
    exact ⟨vp_in_nI (by omega) (by omega), H.2.2.2.2.2.2.2 a b ha hb, zb_mk H⟩
  · exact zb_xnl1 hb (br_f (by decide) (zb_ynl1 hb (br_f (by decide) ⟨rfl, zb_mk H⟩)))
end
