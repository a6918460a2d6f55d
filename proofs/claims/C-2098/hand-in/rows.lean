section
theorem pk_us {f : Nat → Int32} {k : Nat} {x : Int32} : upd f k x k = x := if_pos rfl
theorem pk_un {f : Nat → Int32} {k j : Nat} {x : Int32} (h : j ≠ k) : upd f k x j = f j := if_neg h
theorem pk_sub {a b : Nat} (h : b ≤ a) : nI a - nI b = nI (a - b) := by
  obtain ⟨c, rfl⟩ : ∃ c, a = c + b := ⟨a - b, by omega⟩
  rw [← nI_add, Int32.add_sub_cancel, Nat.add_sub_cancel]
theorem pk_m1 (n : Nat) : nI (n + 1) + (-1) = nI n := by
  rw [← nI_1, Int32.add_assoc, show (1 : Int32) + (-1) = 0 from rfl, Int32.add_zero]
theorem pk_mul (a b : Nat) : nI a * nI b = nI (a * b) := (Int32.ofNat_mul a b).symm
theorem pk_div {a d : Nat} (ha : a < 2 ^ 31) (h0 : 0 < d) (hd : d < 2 ^ 31) : nI a / nI d = nI (a / d) := by
  apply Int32.toInt_inj.mp
  rw [lg_idiv_nonneg (by rw [nI_toInt ha]; omega) (by rw [nI_toInt hd]; omega), nI_toInt ha, nI_toInt hd, nI_toInt (Nat.lt_of_le_of_lt (Nat.div_le_self a d) ha)]
  first | rfl | exact (Int.natCast_ediv _ _).symm
theorem pk_le {x y : Int32} {A B : Prop} (a b : Nat) (f : a ≤ b → A) (g : b < a → B) (hx : x = nI a := by rfl) (hy : y = nI b := by rfl) (ha : a < 2 ^ 31 := by omega) (hb : b < 2 ^ 31 := by omega) : (x ≤ y → A) ∧ (¬ x ≤ y → B) := by
  subst hx hy
  rw [nI_leI ha hb]
  exact ⟨f, fun z => g (by omega)⟩
theorem pk_lt {x y : Int32} {A B : Prop} (a b : Nat) (f : a < b → A) (g : b ≤ a → B) (hx : x = nI a := by rfl) (hy : y = nI b := by rfl) (ha : a < 2 ^ 31 := by omega) (hb : b < 2 ^ 31 := by omega) : (x < y → A) ∧ (¬ x < y → B) := by
  subst hx hy
  rw [nI_ltI ha hb]
  exact ⟨f, fun z => g (by omega)⟩
theorem pk_eq {x y : Int32} {A B : Prop} (a b : Nat) (f : a = b → A) (g : a ≠ b → B) (hx : x = nI a := by rfl) (hy : y = nI b := by rfl) (ha : a < 2 ^ 31 := by omega) (hb : b < 2 ^ 31 := by omega) : (x = y → A) ∧ (¬ x = y → B) := by
  subst hx hy
  rw [nI_eq ha hb]
  exact ⟨f, g⟩
theorem pk_in {x : Int32} (n N : Nat) (h : n < N) (hx : x = nI n := by rfl) (hN : N < 2 ^ 31 := by omega) : vp_in x N := by
  subst hx
  exact vp_in_nI h hN
theorem pk_cl {x : Int32} (n : Nat) (hx : x = nI n := by rfl) (h : n < 2 ^ 31 := by omega) : x.toNatClampNeg = n := by
  subst hx
  exact nI_clamp h
theorem pk_tn {n : Nat} (h : n < 2 ^ 32) : (nI n).toBitVec.toNat = n := Nat.mod_eq_of_lt h
theorem pk_and (x : Int32) {m : Int32} (k : Nat) (hm : m.toBitVec.toNat = 2 ^ k - 1) : x &&& m = nI (x.toBitVec.toNat % 2 ^ k) := by
  apply Int32.toBitVec_inj.mp
  apply BitVec.eq_of_toNat_eq
  rw [Int32.toBitVec_and, BitVec.toNat_and, hm, Nat.and_two_pow_sub_one_eq_mod]
  show _ = (BitVec.ofNat 32 _).toNat
  rw [BitVec.toNat_ofNat]
  exact (Nat.mod_eq_of_lt (Nat.lt_of_le_of_lt (Nat.mod_le _ _) x.toBitVec.isLt)).symm
theorem pk_andN {n : Nat} (h : n < 2 ^ 32) {m : Int32} (k : Nat) (hm : m.toBitVec.toNat = 2 ^ k - 1) : nI n &&& m = nI (n % 2 ^ k) := by
  rw [pk_and _ k hm, pk_tn h]
theorem pk_shl (a s : Int32) (k : Nat) (hs : (s.toBitVec.smod 32).toNat = k) : (a <<< s).toBitVec.toNat = a.toBitVec.toNat * 2 ^ k % 2 ^ 32 := by
  show (a.toBitVec <<< (s.toBitVec.smod 32).toNat).toNat = _
  rw [hs, BitVec.toNat_shiftLeft, Nat.shiftLeft_eq]
theorem pk_shlN {n : Nat} (s : Int32) (k : Nat) (hs : (s.toBitVec.smod 32).toNat = k) (h : n * 2 ^ k < 2 ^ 32) : nI n <<< s = nI (n * 2 ^ k) := by
  apply Int32.toBitVec_inj.mp
  apply BitVec.eq_of_toNat_eq
  have hn : n < 2 ^ 32 := Nat.lt_of_le_of_lt (Nat.le_mul_of_pos_right n (Nat.two_pow_pos k)) h
  rw [pk_shl _ _ k hs, pk_tn hn, pk_tn h, Nat.mod_eq_of_lt h]
theorem pk_shr (a s : Int32) (k : Nat) (hs : (s.toBitVec.smod 32).toNat = k) : (a >>> s).toInt = a.toInt >>> k := by
  show (a.toBitVec.sshiftRight (s.toBitVec.smod 32).toNat).toInt = _
  rw [hs, BitVec.toInt_sshiftRight]
  rfl
theorem pk_shrN {n : Nat} (h : n < 2 ^ 31) (s : Int32) (k : Nat) (hs : (s.toBitVec.smod 32).toNat = k) : nI n >>> s = nI (n / 2 ^ k) := by
  apply Int32.toInt_inj.mp
  have h2 : n / 2 ^ k ≤ n := Nat.div_le_self _ _
  rw [pk_shr _ _ k hs, nI_toInt h, nI_toInt (by omega), Int.shiftRight_eq_div_pow]
  rfl
theorem s_l : ∀ n, n < 32 → ((nI n &&& 31).toBitVec.smod 32).toNat = n := by decide +kernel
theorem nx_and (a b : Nat) : nI a &&& nI b = nI (a &&& b) := by
  apply Int32.toBitVec_inj.1
  show BitVec.ofNat 32 a &&& BitVec.ofNat 32 b = BitVec.ofNat 32 (a &&& b)
  apply BitVec.eq_of_getLsbD_eq
  intro i hi
  simp [hi]
end
section
/-! the pure picture: the mixing functions, the tree's root, the table of full parts -/
def ml_m1 (v k : Int32) : Int32 := ((v ^^^ ((v.toUInt32 >>> ((15 : Int32).toUInt32 &&& Int32.toUInt32 31)).toInt32)) * 739982445) + k
def ml_m2 (x k : Int32) : Int32 := ((x ^^^ ((x.toUInt32 >>> ((12 : Int32).toUInt32 &&& Int32.toUInt32 31)).toInt32)) * 695872825) + k
def ml_m3 (x : Int32) : Int32 := x ^^^ ((x.toUInt32 >>> ((15 : Int32).toUInt32 &&& Int32.toUInt32 31)).toInt32)
def ml_mx (v k : Int32) : Int32 := ml_m3 (ml_m2 (ml_m1 v k) k)
def ml_lf (x : Int32) : Int32 := ml_mx x 1
def ml_nd (a b : Int32) : Int32 := ml_mx (ml_mx a 2 ^^^ b) 3
def ml_hf (n : Nat) : Nat := if n ≤ 2 then 1 else if n ≤ 4 then 2 else if n ≤ 8 then 4 else if n ≤ 16 then 8 else if n ≤ 32 then 16 else 32
theorem ml_hf_lt {n : Nat} (h : 2 ≤ n) : 1 ≤ ml_hf n ∧ ml_hf n < n := by
  unfold ml_hf
  repeat' split
  all_goals omega
theorem ml_hf_ge {n : Nat} (h : n ≤ 64) : n ≤ 2 * ml_hf n := by
  unfold ml_hf
  repeat' split
  all_goals omega
theorem ml_six {l : Nat} (h : l ≤ 5) : l = 0 ∨ l = 1 ∨ l = 2 ∨ l = 3 ∨ l = 4 ∨ l = 5 := by omega
theorem ml_hf_p {l n : Nat} (hl : l ≤ 5) (h1 : 2 ^ l < n) (h2 : n ≤ 2 ^ (l + 1)) : ml_hf n = 2 ^ l := by
  unfold ml_hf
  rcases ml_six hl with rfl | rfl | rfl | rfl | rfl | rfl <;> simp only [Nat.reducePow, Nat.reduceAdd] at h1 h2 ⊢ <;> (repeat' split) <;> omega
def ml_T (lg : Nat → Int32) : Nat → Nat → Nat → Int32
  | 0 => fun f _ => ml_lf (lg f)
  | d + 1 => fun f n => if n ≤ 1 then ml_lf (lg f) else ml_nd (ml_T lg d f (ml_hf n)) (ml_T lg d (f + ml_hf n) (n - ml_hf n))
theorem ml_T_0 (lg : Nat → Int32) (f n : Nat) : ml_T lg 0 f n = ml_lf (lg f) := rfl
theorem ml_T_s (lg : Nat → Int32) (d f n : Nat) : ml_T lg (d + 1) f n = if n ≤ 1 then ml_lf (lg f) else ml_nd (ml_T lg d f (ml_hf n)) (ml_T lg d (f + ml_hf n) (n - ml_hf n)) := rfl
theorem ml_T_1 (lg : Nat → Int32) (d f n : Nat) (h : n ≤ 1) : ml_T lg d f n = ml_lf (lg f) := by
  cases d with
  | zero => rfl
  | succ d => rw [ml_T_s, if_pos h]
theorem ml_T_fuel (lg : Nat → Int32) : ∀ d d' f n : Nat, n ≤ d + 1 → n ≤ d' + 1 → ml_T lg d f n = ml_T lg d' f n := by
  intro d
  induction d with
  | zero =>
    intro d' f n h h'
    rw [ml_T_0, ml_T_1 lg d' f n (by omega)]
  | succ d ih =>
    intro d' f n h h'
    by_cases h1 : n ≤ 1
    · rw [ml_T_1 lg _ f n h1, ml_T_1 lg _ f n h1]
    · cases d' with
      | zero => exact absurd h' (by omega)
      | succ d' =>
        have hh := ml_hf_lt (n := n) (by omega)
        rw [ml_T_s, ml_T_s, if_neg h1, if_neg h1, ih d' f (ml_hf n) (by omega) (by omega), ih d' (f + ml_hf n) (n - ml_hf n) (by omega) (by omega)]
def ml_t (lg : Nat → Int32) (f n : Nat) : Int32 := ml_T lg n f n
theorem ml_t1 (lg : Nat → Int32) (f : Nat) : ml_t lg f 1 = ml_lf (lg f) := ml_T_1 lg 1 f 1 (Nat.le_refl 1)
theorem ml_t2 (lg : Nat → Int32) (f n : Nat) (h : 2 ≤ n) : ml_t lg f n = ml_nd (ml_t lg f (ml_hf n)) (ml_t lg (f + ml_hf n) (n - ml_hf n)) := by
  have hh := ml_hf_lt h
  obtain ⟨d, rfl⟩ : ∃ d, n = d + 1 := ⟨n - 1, by omega⟩
  unfold ml_t
  rw [ml_T_s, if_neg (by omega), ml_T_fuel lg d (ml_hf (d + 1)) f (ml_hf (d + 1)) (by omega) (by omega), ml_T_fuel lg d (d + 1 - ml_hf (d + 1)) (f + ml_hf (d + 1)) (d + 1 - ml_hf (d + 1)) (by omega) (by omega)]
theorem ml_T_c {lg lg' : Nat → Int32} : ∀ d f n : Nat, 1 ≤ n → (∀ j, f ≤ j → j < f + n → lg j = lg' j) → ml_T lg d f n = ml_T lg' d f n := by
  intro d
  induction d with
  | zero =>
    intro f n h1 h
    rw [ml_T_0, ml_T_0, h f (by omega) (by omega)]
  | succ d ih =>
    intro f n h1 h
    by_cases h2 : n ≤ 1
    · rw [ml_T_1 lg _ f n h2, ml_T_1 lg' _ f n h2, h f (by omega) (by omega)]
    · have hh := ml_hf_lt (n := n) (by omega)
      rw [ml_T_s, ml_T_s, if_neg h2, if_neg h2, ih f (ml_hf n) hh.1 (fun j a b => h j a (by omega)), ih (f + ml_hf n) (n - ml_hf n) (by omega) (fun j a b => h j (by omega) (by omega))]
theorem ml_tc {lg lg' : Nat → Int32} {f n : Nat} (h1 : 1 ≤ n) (h : ∀ j, f ≤ j → j < f + n → lg j = lg' j) : ml_t lg f n = ml_t lg' f n := ml_T_c n f n h1 h
def ml_fs (l : Nat) : Nat := if l = 0 then 0 else if l = 1 then 40 else if l = 2 then 60 else if l = 3 then 70 else if l = 4 then 75 else 77
theorem ml_fs0 : ml_fs 0 = 0 := rfl
theorem ml_fs1 : ml_fs 1 = 40 := rfl
theorem ml_fs2 : ml_fs 2 = 60 := rfl
theorem ml_fs3 : ml_fs 3 = 70 := rfl
theorem ml_fs4 : ml_fs 4 = 75 := rfl
theorem ml_fs5 : ml_fs 5 = 77 := rfl
theorem ml_fs_in {l i : Nat} (hl : l ≤ 5) (h : (i + 1) * 2 ^ l ≤ 40) : ml_fs l + i < 80 := by
  rcases ml_six hl with rfl | rfl | rfl | rfl | rfl | rfl <;> simp only [ml_fs0, ml_fs1, ml_fs2, ml_fs3, ml_fs4, ml_fs5, Nat.reducePow] at h ⊢ <;> omega
theorem ml_fs_inj {l i l' i' : Nat} (hl : l ≤ 5) (hl' : l' ≤ 5) (h : (i + 1) * 2 ^ l ≤ 40) (h' : (i' + 1) * 2 ^ l' ≤ 40) (e : ml_fs l + i = ml_fs l' + i') : l = l' ∧ i = i' := by
  rcases ml_six hl with rfl | rfl | rfl | rfl | rfl | rfl <;> rcases ml_six hl' with rfl | rfl | rfl | rfl | rfl | rfl <;> simp only [ml_fs0, ml_fs1, ml_fs2, ml_fs3, ml_fs4, ml_fs5, Nat.reducePow] at h h' e <;> omega
/-- the table holds the root of every full part that ends at or before e -/
def ml_P (pt lg : Nat → Int32) (e : Nat) : Prop := ∀ l i : Nat, l ≤ 5 → (i + 1) * 2 ^ l ≤ e → pt (ml_fs l + i) = ml_t lg (i * 2 ^ l) (2 ^ l)
def ml_PI (pt lg : Nat → Int32) (e l0 : Nat) : Prop := ∀ l i : Nat, l ≤ 5 → (i + 1) * 2 ^ l ≤ e + 1 → (l ≤ l0 ∨ (i + 1) * 2 ^ l ≤ e) → pt (ml_fs l + i) = ml_t lg (i * 2 ^ l) (2 ^ l)
theorem ml_fs_40 {l i : Nat} (h : ml_fs l + i < 40) : l = 0 := by
  unfold ml_fs at h
  repeat' split at h
  all_goals omega
theorem ml_PI0 {pt lg : Nat → Int32} {e : Nat} (hP : ml_P pt lg e) (he : e < 40) (x : Int32) : ml_PI (upd pt e (ml_lf x)) (upd lg e x) e 0 := by
  intro l i hl hi hor
  have hw : 1 ≤ 2 ^ l := Nat.two_pow_pos l
  have hm : (i + 1) * 2 ^ l = i * 2 ^ l + 2 ^ l := Nat.succ_mul i (2 ^ l)
  by_cases ha : ml_fs l + i = e
  · have hl0 : l = 0 := ml_fs_40 (i := i) (by omega)
    subst hl0
    have hie : i = e := by rw [ml_fs0] at ha; omega
    subst hie
    rw [ha, pk_us, Nat.pow_zero, Nat.mul_one, ml_t1, pk_us]
  · have hle : (i + 1) * 2 ^ l ≤ e := by
      rcases hor with h | h
      · have hl0 : l = 0 := by omega
        subst hl0
        rw [ml_fs0] at ha
        rw [Nat.pow_zero, Nat.mul_one] at hi ⊢
        omega
      · exact h
    rw [pk_un ha, hP l i hl hle]
    exact ml_tc hw (fun j a b => (pk_un (by omega)).symm)
theorem ml_PIs {pt lg : Nat → Int32} {e l j : Nat} (hP : ml_PI pt lg e l) (he : e < 40) (hl : l < 5) (hj : (2 * j + 2) * 2 ^ l = e + 1) : ml_PI (upd pt (ml_fs (l + 1) + j) (ml_nd (pt (ml_fs l + 2 * j)) (pt (ml_fs l + (2 * j + 1))))) lg e (l + 1) := by
  have hw : 1 ≤ 2 ^ l := Nat.two_pow_pos l
  have hs : 2 ^ (l + 1) = 2 * 2 ^ l := by rw [Nat.pow_succ, Nat.mul_comm]
  have h1 : (2 * j + 2) * 2 ^ l = (2 * j) * 2 ^ l + 2 * 2 ^ l := Nat.add_mul _ _ _
  have h2 : (2 * j + 1) * 2 ^ l = (2 * j) * 2 ^ l + 2 ^ l := Nat.succ_mul _ _
  have h3 : (2 * j + 1 + 1) * 2 ^ l = (2 * j + 1) * 2 ^ l + 2 ^ l := Nat.succ_mul _ _
  have h4 : j * 2 ^ (l + 1) = (2 * j) * 2 ^ l := by rw [hs, ← Nat.mul_assoc, Nat.mul_comm j 2]
  have h5 : (j + 1) * 2 ^ (l + 1) = j * 2 ^ (l + 1) + 2 ^ (l + 1) := Nat.succ_mul _ _
  have eL := hP l (2 * j) (by omega) (by omega) (Or.inl (Nat.le_refl l))
  have eR := hP l (2 * j + 1) (by omega) (by omega) (Or.inl (Nat.le_refl l))
  intro l' i hl' hi hor
  by_cases ha : ml_fs l' + i = ml_fs (l + 1) + j
  · obtain ⟨rfl, rfl⟩ := ml_fs_inj hl' (by omega) (by omega) (by omega) ha
    rw [pk_us, eL, eR, ml_t2 lg (i * 2 ^ (l + 1)) (2 ^ (l + 1)) (by omega), ml_hf_p (l := l) (by omega) (by omega) (by omega), h4, h2]
    have h6 : 2 ^ (l + 1) - 2 ^ l = 2 ^ l := by omega
    rw [h6]
  · rw [pk_un ha]
    apply hP l' i hl' hi
    by_cases hle : (i + 1) * 2 ^ l' ≤ e
    · exact Or.inr hle
    · refine Or.inl ?_
      have : l' ≠ l + 1 := by
        intro hz
        subst hz
        have hq : (i + 1) * 2 ^ (l + 1) = (j + 1) * 2 ^ (l + 1) := by omega
        have hq2 := Nat.eq_of_mul_eq_mul_right (Nat.two_pow_pos (l + 1)) hq
        have hij : i = j := by omega
        exact ha (by rw [hij])
      rcases hor with h | h
      · omega
      · exact absurd h hle
theorem ml_PIe {pt lg : Nat → Int32} {e l j : Nat} (hP : ml_PI pt lg e l) (hl : l ≤ 5) (hj : j * 2 ^ l = e + 1) (ho : l = 5 ∨ j % 2 = 1) : ml_P pt lg (e + 1) := by
  intro l' i hl' hi
  apply hP l' i hl' hi
  rcases ml_six hl with rfl | rfl | rfl | rfl | rfl | rfl <;> rcases ml_six hl' with rfl | rfl | rfl | rfl | rfl | rfl <;> simp only [Nat.reducePow] at hi hj ⊢ <;> omega
/-- low is a multiple of every power of 2 that fits in between -/
def ml_A (lo n : Nat) : Prop := ∀ l : Nat, l ≤ 5 → 2 ^ l ≤ n → lo % 2 ^ l = 0
theorem ml_A0 (n : Nat) : ml_A 0 n := fun l _ _ => Nat.zero_mod _
theorem ml_AL {lo n : Nat} (hA : ml_A lo n) (h : 2 ≤ n) : ml_A lo (ml_hf n) := fun l hl h2 => hA l hl (by have := ml_hf_lt h; omega)
theorem ml_AR {lo n : Nat} (hA : ml_A lo n) (h : 2 ≤ n) (h40 : n ≤ 64) : ml_A (lo + ml_hf n) (n - ml_hf n) := by
  intro l hl h2
  have hh := ml_hf_lt h
  have hg := ml_hf_ge h40
  have h0 := hA l hl (by omega)
  have hk : ml_hf n % 2 ^ l = 0 := by
    clear h0 hA
    have h3 : 2 ^ l ≤ ml_hf n := by omega
    clear h2 hh hg
    unfold ml_hf at h3 ⊢
    rcases ml_six hl with rfl | rfl | rfl | rfl | rfl | rfl <;> simp only [Nat.reducePow] at h3 ⊢ <;> (repeat' split) <;> (repeat' split at h3) <;> omega
  rw [Nat.add_mod, h0, hk]
  exact Nat.zero_mod _
theorem ml_ar {l lo n e : Nat} (hl : l ≤ 5) (hA : ml_A lo n) (hlo : lo + n ≤ e) (hb : n / 2 ^ l % 2 = 1) : (lo + n - n % 2 ^ l - 2 ^ l) / 2 ^ l * 2 ^ l = lo + n - n % 2 ^ (l + 1) ∧ ((lo + n - n % 2 ^ l - 2 ^ l) / 2 ^ l + 1) * 2 ^ l ≤ e ∧ n % 2 ^ (l + 1) = 2 ^ l + n % 2 ^ l ∧ lo + n - n % 2 ^ l - 2 ^ l = lo + n - n % 2 ^ (l + 1) ∧ 2 ^ l ≤ lo + n - n % 2 ^ l ∧ n % 2 ^ l < 2 ^ l := by
  have h0 : 2 ^ l ≤ n := by
    rcases Nat.lt_or_ge n (2 ^ l) with h | h
    · rw [Nat.div_eq_of_lt h] at hb
      exact absurd hb (by decide)
    · exact h
  have hz := hA l hl h0
  clear hA
  rcases ml_six hl with rfl | rfl | rfl | rfl | rfl | rfl <;> simp only [Nat.reducePow, Nat.reduceAdd] at hb hz h0 ⊢ <;> omega
theorem ml_ar0 {l n : Nat} (hl : l ≤ 5) (hb : n / 2 ^ l % 2 = 0) : n % 2 ^ (l + 1) = n % 2 ^ l := by
  rcases ml_six hl with rfl | rfl | rfl | rfl | rfl | rfl <;> simp only [Nat.reducePow, Nat.reduceAdd] at hb ⊢ <;> omega
end
section
/-! X's own methods and append against the pure picture -/
theorem ml_xmix {post : Int32 → Prop} {p0 p1 : Int32} (h : post (ml_mx p0 p1)) : wpX_mix post p0 p1 := by
  unfold wpX_mix
  intro x ex y ey
  subst ex
  subst ey
  exact h
theorem ml_xleaf {post : Int32 → Prop} {p0 : Int32} (h : post (ml_lf p0)) : wpX_leaf post p0 := by
  unfold wpX_leaf
  exact ml_xmix h
theorem ml_xnode {post : Int32 → Prop} {a b : Int32} (h : post (ml_nd a b)) : wpX_node post a b := by
  unfold wpX_node
  refine ml_xmix ?_
  exact ml_xmix h
theorem ml_xfirst {post : Int32 → Prop} {l : Nat} (hl : l ≤ 5) (h : post (nI (ml_fs l))) : wpX_first post (nI l) := by
  unfold wpX_first
  have c0 : nI (ml_fs 0) = 0 := by decide +kernel
  have c1 : nI (ml_fs 1) = 40 := by decide +kernel
  have c2 : nI (ml_fs 2) = 60 := by decide +kernel
  have c3 : nI (ml_fs 3) = 70 := by decide +kernel
  have c4 : nI (ml_fs 4) = 75 := by decide +kernel
  have c5 : nI (ml_fs 5) = 77 := by decide +kernel
  rcases ml_six hl with rfl | rfl | rfl | rfl | rfl | rfl
  · rw [c0] at h
    exact br_t (by decide +kernel) h
  · rw [c1] at h
    exact br_f (by decide +kernel) (br_t (by decide +kernel) h)
  · rw [c2] at h
    exact br_f (by decide +kernel) (br_f (by decide +kernel) (br_t (by decide +kernel) h))
  · rw [c3] at h
    exact br_f (by decide +kernel) (br_f (by decide +kernel) (br_f (by decide +kernel) (br_t (by decide +kernel) h)))
  · rw [c4] at h
    exact br_f (by decide +kernel) (br_f (by decide +kernel) (br_f (by decide +kernel) (br_f (by decide +kernel) (br_t (by decide +kernel) h))))
  · rw [c5] at h
    exact br_f (by decide +kernel) (br_f (by decide +kernel) (br_f (by decide +kernel) (br_f (by decide +kernel) (br_f (by decide +kernel) h))))
theorem ml_and1 {j : Nat} (h : j < 2 ^ 31) : nI j &&& 1 = nI (j % 2) := pk_andN (n := j) (by omega) 1 (by decide +kernel)
theorem ml_i1 (a j : Nat) : nI a + 2 * nI (j + 1) - 2 = nI (a + 2 * j) := by
  show nI a + nI 2 * nI (j + 1) - nI 2 = _
  rw [pk_mul, nI_add, pk_sub (by omega)]
  exact congrArg nI (by omega)
theorem ml_i2 (a j : Nat) : nI a + 2 * nI (j + 1) - 1 = nI (a + (2 * j + 1)) := by
  show nI a + nI 2 * nI (j + 1) - nI 1 = _
  rw [pk_mul, nI_add, pk_sub (by omega)]
  exact congrArg nI (by omega)
theorem ml_i3 (a j : Nat) : nI a + nI (j + 1) - 1 = nI (a + j) := by
  show nI a + nI (j + 1) - nI 1 = _
  rw [nI_add, pk_sub (by omega)]
  exact congrArg nI (by omega)
theorem ml_d2 {j : Nat} (h : j < 2 ^ 31) : nI j / 2 = nI (j / 2) := pk_div (a := j) (d := 2) h (by omega) (by omega)
section
variable {post : Int32 → SX → Prop} {C F : Int32} {nu dn lg : Nat → Int32} {e : Nat}
theorem ml_xap (he : e < 40) (K : ∀ pt' : Nat → Int32, ml_P pt' lg (e + 1) → post (nI (e + 1)) (nI (e + 1), C, F, pt', nu, dn)) : ∀ (d l j : Nat) (pt : Nat → Int32), l + d = 5 → j * 2 ^ l = e + 1 → ml_PI pt lg e l → wX_append_41 post (nI (e + 1)) C F (d + 1) (nI j) (nI l) pt nu dn := by
  intro d
  induction d with
  | zero =>
    intro l j pt hd hj hP
    have hl : l = 5 := by omega
    subst hl
    exact br_t (by decide +kernel) (K pt (ml_PIe hP (by omega) hj (Or.inl rfl)))
  | succ d ih =>
    intro l j pt hd hj hP
    have hw : 1 ≤ 2 ^ l := Nat.two_pow_pos l
    have hj40 : j ≤ 40 := by
      have := Nat.le_mul_of_pos_right j (Nat.two_pow_pos l)
      omega
    refine br_f (nI_ge (b := 5) (by omega) (by decide)) ?_
    refine pk_eq (j % 2) 0 (fun hev => ?_) (fun hod => ?_) (ml_and1 (by omega))
    · obtain ⟨i, rfl⟩ : ∃ i, j = 2 * i + 2 := by
        refine ⟨j / 2 - 1, ?_⟩
        have : j ≠ 0 := by
          intro hz
          rw [hz, Nat.zero_mul] at hj
          omega
        omega
      have hdiv : (2 * i + 2) / 2 = i + 1 := by omega
      have hs : 2 ^ (l + 1) = 2 * 2 ^ l := by rw [Nat.pow_succ, Nat.mul_comm]
      have h1 : (2 * i + 2) * 2 ^ l = (2 * i) * 2 ^ l + 2 * 2 ^ l := Nat.add_mul _ _ _
      have h2 : (2 * i + 1) * 2 ^ l = (2 * i) * 2 ^ l + 2 ^ l := Nat.succ_mul _ _
      have h3 : (2 * i + 1 + 1) * 2 ^ l = (2 * i + 1) * 2 ^ l + 2 ^ l := Nat.succ_mul _ _
      have h4 : i * 2 ^ (l + 1) = (2 * i) * 2 ^ l := by rw [hs, ← Nat.mul_assoc, Nat.mul_comm i 2]
      have h5 : (i + 1) * 2 ^ (l + 1) = i * 2 ^ (l + 1) + 2 ^ (l + 1) := Nat.succ_mul _ _
      have b1 : ml_fs l + 2 * i < 80 := ml_fs_in (by omega) (by omega)
      have b2 : ml_fs l + (2 * i + 1) < 80 := ml_fs_in (by omega) (by omega)
      have b3 : ml_fs (l + 1) + i < 80 := ml_fs_in (by omega) (by omega)
      refine ⟨by decide +kernel, nm_r (e' := nI (i + 1)) (by rw [ml_d2 (by omega), hdiv]) ?_⟩
      refine ml_xfirst (by omega) ⟨pk_in _ 80 b1 (ml_i1 _ _), nm_r (e' := pt (ml_fs l + 2 * i)) (by rw [ml_i1, nI_clamp (by omega)]) ?_⟩
      refine ml_xfirst (by omega) ⟨pk_in _ 80 b2 (ml_i2 _ _), nm_r (e' := pt (ml_fs l + (2 * i + 1))) (by rw [ml_i2, nI_clamp (by omega)]) ?_⟩
      rw [nI_1 l]
      refine ml_xfirst (by omega) (ml_xnode ⟨pk_in _ 80 b3 (ml_i3 _ _), nm_r (e' := upd pt (ml_fs (l + 1) + i) (ml_nd (pt (ml_fs l + 2 * i)) (pt (ml_fs l + (2 * i + 1))))) (by rw [ml_i3, nI_clamp (by omega)]) (nm_e ?_)⟩)
      exact ih (l + 1) (i + 1) _ (by omega) (by omega) (ml_PIs hP he (by omega) hj)
    · exact K pt (ml_PIe hP (by omega) hj (Or.inr (by omega)))
end
theorem ml_bt : ∀ n, n < 64 → ∀ l, l < 6 → n &&& 2 ^ l = n / 2 ^ l % 2 * 2 ^ l := by decide +kernel
theorem ml_bit {lo n l : Nat} (hl : l ≤ 5) (hn : n < 64) : (nI (lo + n) - nI lo) &&& nI (2 ^ l) = nI (n / 2 ^ l % 2 * 2 ^ l) := by
  rw [pk_sub (by omega), nx_and, Nat.add_sub_cancel_left, ml_bt n hn l (by omega)]
theorem ml_1sl {l : Nat} (hl : l ≤ 5) : (1 : Int32) <<< (nI l &&& 31) = nI (2 ^ l) := by
  rcases ml_six hl with rfl | rfl | rfl | rfl | rfl | rfl <;> decide +kernel
theorem ml_p32 {l : Nat} (hl : l ≤ 5) : 1 ≤ 2 ^ l ∧ 2 ^ l ≤ 32 := by
  rcases ml_six hl with rfl | rfl | rfl | rfl | rfl | rfl <;> decide
section
variable {post : Int32 → Prop} {E C F : Int32} {pt nu dn lg : Nat → Int32} {e lo n : Nat}
theorem ml_xrl (hP : ml_P pt lg e) (he : e ≤ 40) (hlo : lo + n ≤ e) (h1 : 1 ≤ n) (hA : ml_A lo n) (K : post (ml_t lg lo n)) : ∀ (d l : Nat) (r s : Int32), l + d = 6 → ((s = 0 ∧ n % 2 ^ l = 0) ∨ (s = 1 ∧ 0 < n % 2 ^ l ∧ r = ml_t lg (lo + n - n % 2 ^ l) (n % 2 ^ l))) → wX_rangeRoot_11 post (nI lo) (nI (lo + n)) E C F pt nu dn (d + 1) r (nI (lo + n - n % 2 ^ l)) s (nI l) := by
  intro d
  induction d with
  | zero =>
    intro l r s hd hs
    have hl : l = 6 := by omega
    subst hl
    have hm : n % 2 ^ 6 = n := Nat.mod_eq_of_lt (by omega)
    rw [hm] at hs
    have hr : r = ml_t lg lo n := by
      rcases hs with h | h
      · exact absurd h.2 (by omega)
      · rw [h.2.2, Nat.add_sub_cancel]
    subst hr
    exact br_t (by decide +kernel) K
  | succ d ih =>
    intro l r s hd hs
    have hl : l ≤ 5 := by omega
    have hw := ml_p32 hl
    refine br_f (nI_ge (b := 6) (by omega) (by decide)) (nm_r (ml_1sl hl) ?_)
    have hb2 := Nat.mod_two_eq_zero_or_one (n / 2 ^ l)
    have hbb : n / 2 ^ l % 2 * 2 ^ l ≤ 32 := by
      rcases hb2 with h | h <;> rw [h] <;> omega
    refine pk_eq (n / 2 ^ l % 2 * 2 ^ l) 0 (fun hz => nm_r (nI_1 l) ?_) (fun hz => ?_) (ml_bit hl (by omega))
    · have hb : n / 2 ^ l % 2 = 0 := by
        rcases hb2 with h | h
        · exact h
        · rw [h] at hz
          omega
      have hm := ml_ar0 hl hb
      have q := ih (l + 1) r s (by omega) (by rw [hm]; exact hs)
      rw [hm] at q
      exact q
    · have hb : n / 2 ^ l % 2 = 1 := by
        rcases hb2 with h | h
        · rw [h] at hz
          omega
        · exact h
      obtain ⟨a1, a2, a3, a4, a5, a6⟩ := ml_ar hl hA hlo hb
      have hix : nI (ml_fs l) + ((nI (lo + n - n % 2 ^ l) - nI (2 ^ l)) >>> (nI l &&& 31)) = nI (ml_fs l + (lo + n - n % 2 ^ l - 2 ^ l) / 2 ^ l) := by
        rw [pk_sub a5, pk_shrN (by omega) _ l (s_l l (by omega)), nI_add]
      have hin : ml_fs l + (lo + n - n % 2 ^ l - 2 ^ l) / 2 ^ l < 80 := ml_fs_in hl (Nat.le_trans a2 he)
      have hpt : pt (ml_fs l + (lo + n - n % 2 ^ l - 2 ^ l) / 2 ^ l) = ml_t lg (lo + n - n % 2 ^ (l + 1)) (2 ^ l) := by
        rw [hP l _ hl a2, a1]
      refine ml_xfirst hl ⟨pk_in _ 80 hin hix, nm_r (e' := ml_t lg (lo + n - n % 2 ^ (l + 1)) (2 ^ l)) (by rw [hix, nI_clamp (by omega), hpt]) ?_⟩
      have hx4 : nI (lo + n - n % 2 ^ l) - nI (2 ^ l) = nI (lo + n - n % 2 ^ (l + 1)) := by rw [pk_sub a5, a4]
      rcases hs with ⟨rfl, h0⟩ | ⟨rfl, h0, hr⟩
      · refine br_t rfl ?_
        unfold wX_rangeRoot_70
        refine nm_r hx4 (nm_r (nI_1 l) ?_)
        refine ih (l + 1) _ 1 (by omega) (Or.inr ⟨rfl, by omega, ?_⟩)
        have : n % 2 ^ (l + 1) = 2 ^ l := by omega
        rw [this]
      · have hsp : 2 ^ (l + 1) = 2 * 2 ^ l := by rw [Nat.pow_succ, Nat.mul_comm]
        refine br_f (by decide +kernel) (ml_xnode ?_)
        unfold wX_rangeRoot_70
        refine nm_r hx4 (nm_r (nI_1 l) ?_)
        refine ih (l + 1) _ 1 (by omega) (Or.inr ⟨rfl, by omega, ?_⟩)
        rw [ml_t2 lg (lo + n - n % 2 ^ (l + 1)) (n % 2 ^ (l + 1)) (by omega), ml_hf_p (l := l) hl (by omega) (by omega), hr]
        have g1 : lo + n - n % 2 ^ (l + 1) + 2 ^ l = lo + n - n % 2 ^ l := by omega
        have g2 : n % 2 ^ (l + 1) - 2 ^ l = n % 2 ^ l := by omega
        rw [g1, g2]
theorem ml_xrr {x y : Int32} (hP : ml_P pt lg e) (he : e ≤ 40) (hlo : lo + n ≤ e) (h1 : 1 ≤ n) (hA : ml_A lo n) (hx : x = nI lo) (hy : y = nI (lo + n)) (K : post (ml_t lg lo n)) : wpX_rangeRoot post (E, C, F, pt, nu, dn) x y := by
  subst hx
  subst hy
  unfold wpX_rangeRoot
  dsimp only
  have h := ml_xrl (E := E) (C := C) (F := F) (nu := nu) (dn := dn) hP he hlo h1 hA K 6 0 0 0 rfl (Or.inl ⟨rfl, by omega⟩)
  have hm : n % 2 ^ 0 = 0 := by omega
  rw [hm, Nat.sub_zero] at h
  exact ⟨7, h⟩
end
theorem ml_xnote {post : SX → Prop} {E C : Int32} {pt nu dn lg : Nat → Int32} {e lo n s : Nat} {x y : Int32} (hP : ml_P pt lg e) (he : e ≤ 40) (hlo : lo + n ≤ e) (h1 : 1 ≤ n) (hA : ml_A lo n) (hx : x = nI lo) (hy : y = nI (lo + n)) (hs : s < 16) (K : post (E, C, nI (s + 1), pt, nu, upd dn s (ml_t lg lo n))) : wpX_note post (E, C, nI s, pt, nu, dn) x y := by
  unfold wpX_note
  dsimp only
  refine ml_xrr hP he hlo h1 hA hx hy ⟨vp_in_nI hs (by omega), nm_r (e' := upd dn s (ml_t lg lo n)) (by rw [nI_clamp (by omega)]) (nm_r (nI_1 s) K)⟩
theorem ml_xcl {post : Int32 → Prop} {n : Nat} (hn : n ≤ 64) (K : post (nI (ml_hf n))) : ∀ d s : Nat, s + d = 5 → (s = 0 ∨ 2 ^ s < n) → wX_cut_4 post (nI n) (d + 2) (nI (2 ^ s)) (nI s) := by
  intro d
  induction d with
  | zero =>
    intro s hd hs
    have hs5 : s = 5 := by omega
    subst hs5
    have hk : ml_hf n = 2 ^ 5 := ml_hf_p (l := 5) (by omega) (by omega) (by omega)
    rw [hk] at K
    refine br_f (by decide +kernel) (pk_le n 64 (fun _ => K) (fun h => absurd h (by omega)) rfl (by decide +kernel))
  | succ d ih =>
    intro s hd hs
    have hw := ml_p32 (l := s) (by omega)
    have h2 : 2 ^ (s + 1) = 2 * 2 ^ s := by rw [Nat.pow_succ, Nat.mul_comm]
    refine br_f (nI_ge (b := 6) (by omega) (by decide)) (pk_le n (2 * 2 ^ s) (fun hle => ?_) (fun hlt => ?_) rfl (pk_mul 2 (2 ^ s)))
    · have hk : ml_hf n = 2 ^ s := by
        rcases hs with h | h
        · subst h
          unfold ml_hf
          rw [if_pos (by omega)]
        · exact ml_hf_p (by omega) h (by omega)
      rw [hk] at K
      exact K
    · refine nm_r (e' := nI (2 ^ (s + 1))) ?_ (nm_r (nI_1 s) (ih (s + 1) (by omega) (Or.inr (by omega))))
      rw [h2, Nat.mul_comm]
      exact pk_mul (2 ^ s) 2
theorem ml_xcut {post : Int32 → Prop} {n : Nat} {x : Int32} (hn : n ≤ 64) (hx : x = nI n) (K : post (nI (ml_hf n))) : wpX_cut post x := by
  subst hx
  unfold wpX_cut
  exact ⟨7, ml_xcl hn K 5 0 rfl (Or.inl rfl)⟩
theorem ml_xtl {post : SX → Prop} {E C : Int32} {pt dn : Nat → Int32} {s : Nat} (hs : s ≤ 16) (K : ∀ nu' : Nat → Int32, (∀ j, j < s → nu' j = dn (s - 1 - j)) → post (E, C, nI s, pt, nu', dn)) : ∀ (d k : Nat) (nu : Nat → Int32), k + d = s → (∀ j, j < k → nu j = dn (s - 1 - j)) → wX_turnRound_10 post E C (nI s) (d + 1) (nI k) pt nu dn := by
  intro d
  induction d with
  | zero =>
    intro k nu hd hn
    have hk : k = s := by omega
    subst hk
    exact br_t (nI_le (Nat.le_refl k) (by omega)) (K nu hn)
  | succ d ih =>
    intro k nu hd hn
    have hi : nI s - 1 - nI k = nI (s - 1 - k) := by
      show nI s - nI 1 - nI k = _
      rw [pk_sub (by omega), pk_sub (by omega)]
    refine br_f (nI_ge (by omega) (by omega)) ⟨pk_in (s - 1 - k) 16 (by omega) hi, vp_in_nI (by omega) (by omega), nm_r (e' := upd nu k (dn (s - 1 - k))) (by rw [hi, nI_clamp (by omega), nI_clamp (by omega)]) (nm_r (nI_1 k) ?_)⟩
    refine ih (k + 1) _ (by omega) (fun j hj => ?_)
    by_cases h : j = k
    · subst h
      exact pk_us
    · rw [pk_un h]
      exact hn j (by omega)
theorem ml_xturn {post : SX → Prop} {E C : Int32} {pt nu dn : Nat → Int32} {s : Nat} (hs : s ≤ 16) (K : ∀ nu' : Nat → Int32, (∀ j, j < s → nu' j = dn (s - 1 - j)) → post (E, nI s, nI s, pt, nu', dn)) : wpX_turnRound post (E, C, nI s, pt, nu, dn) := by
  unfold wpX_turnRound
  dsimp only
  exact ⟨s + 1, ml_xtl hs K s 0 nu (by omega) (fun j h => absurd h (by omega))⟩
end
section
/-! Y's own methods against the pure picture -/
theorem ml_ymix {post : Int32 → Prop} {p0 p1 : Int32} (h : post (ml_mx p0 p1)) : wpY_mix post p0 p1 := by
  unfold wpY_mix
  intro x ex y ey
  subst ex
  subst ey
  exact h
theorem ml_yleaf {post : Int32 → Prop} {p0 : Int32} (h : post (ml_lf p0)) : wpY_leaf post p0 := by
  unfold wpY_leaf
  exact ml_ymix h
theorem ml_ynode {post : Int32 → Prop} {a b : Int32} (h : post (ml_nd a b)) : wpY_node post a b := by
  unfold wpY_node
  refine ml_ymix ?_
  exact ml_ymix h
theorem ml_yhl {post : Int32 → Prop} {n : Nat} (hn : n ≤ 64) (K : post (nI (ml_hf n))) : ∀ d s : Nat, s + d = 5 → (s = 0 ∨ 2 ^ s < n) → wY_half_2 post (nI n) (d + 2) (nI (2 ^ s)) := by
  intro d
  induction d with
  | zero =>
    intro s hd hs
    have hs5 : s = 5 := by omega
    subst hs5
    have hk : ml_hf n = 2 ^ 5 := ml_hf_p (l := 5) (by omega) (by omega) (by omega)
    rw [hk] at K
    refine br_f (by decide +kernel) (pk_le n 64 (fun _ => K) (fun h => absurd h (by omega)) rfl (by decide +kernel))
  | succ d ih =>
    intro s hd hs
    have hw := ml_p32 (l := s) (by omega)
    have h2 : 2 ^ (s + 1) = 2 * 2 ^ s := by rw [Nat.pow_succ, Nat.mul_comm]
    refine br_f (nI_ge (b := 64) (by omega) (by decide)) (pk_le n (2 * 2 ^ s) (fun hle => ?_) (fun hlt => ?_) rfl (pk_mul 2 (2 ^ s)))
    · have hk : ml_hf n = 2 ^ s := by
        rcases hs with h | h
        · subst h
          unfold ml_hf
          rw [if_pos (by omega)]
        · exact ml_hf_p (by omega) h (by omega)
      rw [hk] at K
      exact K
    · refine nm_r (e' := nI (2 ^ (s + 1))) ?_ (ih (s + 1) (by omega) (Or.inr (by omega)))
      rw [h2]
      exact pk_mul 2 (2 ^ s)
theorem ml_yhalf {post : Int32 → Prop} {n : Nat} {x : Int32} (hn : n ≤ 64) (hx : x = nI n) (K : post (nI (ml_hf n))) : wpY_half post x := by
  subst hx
  unfold wpY_half
  exact ⟨7, ml_yhl hn K 5 0 rfl (Or.inl rfl)⟩
theorem ml_yopen {post : SY → Prop} {E H : Int32} {lg hn fr cn st vl : Nat → Int32} {t : Nat} {x f n : Int32} (ht : t < 100) (hx : x = nI t) (K : post (E, H, lg, hn, upd fr t f, upd cn t n, upd st t 0, vl)) : wpY_open post (E, H, lg, hn, fr, cn, st, vl) x f n := by
  subst hx
  unfold wpY_open
  dsimp only
  have hv : vp_in (nI t) 100 := vp_in_nI ht (by omega)
  have hc : (nI t).toNatClampNeg = t := nI_clamp (by omega)
  rw [hc]
  exact ⟨hv, nm_e ⟨hv, nm_e ⟨hv, nm_e K⟩⟩⟩
section
variable {post : Int32 → SY → Prop} {E H : Int32} {lg hn : Nat → Int32}
/-- one entry -/
theorem ml_yr1 {q t f s : Nat} {dn : Int32} {fr cn st vl : Nat → Int32} (ht : t < 100) (hf : f < 40) (hs : s < 300) (efr : fr t = nI f) (ecn : cn t = nI 1) (K : wY_rootOf_15 post q (nI t + (-1)) (ml_lf (lg f)) (nI (s + 1)) E H lg hn fr cn st vl) : wY_rootOf_15 post (q + 1) (nI t) dn (nI s) E H lg hn fr cn st vl := by
  have hv : vp_in (nI t) 100 := vp_in_nI ht (by omega)
  have hc : (nI t).toNatClampNeg = t := nI_clamp (by omega)
  have e1 : cn (nI t).toNatClampNeg = 1 := by rw [hc, ecn]; rfl
  have e2 : fr (nI t).toNatClampNeg = nI f := by rw [hc, efr]
  have h40 : ¬ (40 : Int32) ≤ fr (nI t).toNatClampNeg := by rw [e2]; exact nI_ge (b := 40) hf (by decide)
  have hvf : vp_in (fr (nI t).toNatClampNeg) 40 := by rw [e2]; exact vp_in_nI hf (by omega)
  have hlg : lg (fr (nI t).toNatClampNeg).toNatClampNeg = lg f := by rw [e2, nI_clamp (by omega)]
  refine br_f (nI_ge (b := 300) hs (by decide)) (br_f (nI_pos (by omega)) ⟨hv, br_t e1 ⟨hv, br_f h40 ⟨hv, hvf, ?_⟩⟩⟩)
  refine ml_yleaf (nm_e (nm_r (nI_1 s) ?_))
  rw [hlg]
  exact K
/-- a part of more than one entry, looked at for the first time -/
theorem ml_yr2 {q t f n s : Nat} {dn : Int32} {fr cn st vl : Nat → Int32} (ht : t + 1 < 100) (h2 : 2 ≤ n) (hn64 : n ≤ 64) (hs : s < 300) (efr : fr t = nI f) (ecn : cn t = nI n) (est : st t = 0) (K : wY_rootOf_15 post q (nI (t + 1)) dn (nI (s + 1)) E H lg hn (upd fr (t + 1) (nI f)) (upd cn (t + 1) (nI (ml_hf n))) (upd (upd st t 1) (t + 1) 0) vl) : wY_rootOf_15 post (q + 1) (nI t) dn (nI s) E H lg hn fr cn st vl := by
  have hv : vp_in (nI t) 100 := vp_in_nI (by omega) (by omega)
  have hc : (nI t).toNatClampNeg = t := nI_clamp (by omega)
  have e1 : ¬ cn (nI t).toNatClampNeg = 1 := by
    rw [hc, ecn]
    intro h
    have := (nI_eq (a := n) (b := 1) (by omega) (by omega)).mp h
    omega
  have e2 : fr (nI t).toNatClampNeg = nI f := by rw [hc, efr]
  have e3 : st (nI t).toNatClampNeg = 0 := by rw [hc, est]
  have e4 : cn (nI t).toNatClampNeg = nI n := by rw [hc, ecn]
  refine br_f (nI_ge (b := 300) hs (by decide)) (br_f (nI_pos (by omega)) ⟨hv, br_f e1 ⟨hv, br_t e3 ⟨hv, nm_r (e' := upd st t 1) (by rw [hc]) ⟨hv, ?_⟩⟩⟩⟩)
  refine ml_yhalf hn64 e4 ⟨hv, ?_⟩
  refine ml_yopen ht (nI_1 t) ?_
  dsimp only
  refine nm_r (nI_1 t) (nm_r (nI_1 s) ?_)
  rw [e2]
  exact K
/-- the same part, its first half done -/
theorem ml_yr3 {q t f n s : Nat} {dn : Int32} {fr cn st vl : Nat → Int32} (ht : t + 1 < 100) (h2 : 2 ≤ n) (hn64 : n ≤ 64) (hs : s < 300) (efr : fr t = nI f) (ecn : cn t = nI n) (est : st t = 1) (K : wY_rootOf_15 post q (nI (t + 1)) dn (nI (s + 1)) E H lg hn (upd fr (t + 1) (nI (f + ml_hf n))) (upd cn (t + 1) (nI (n - ml_hf n))) (upd (upd st t 2) (t + 1) 0) (upd vl t dn)) : wY_rootOf_15 post (q + 1) (nI t) dn (nI s) E H lg hn fr cn st vl := by
  have hv : vp_in (nI t) 100 := vp_in_nI (by omega) (by omega)
  have hc : (nI t).toNatClampNeg = t := nI_clamp (by omega)
  have hh := ml_hf_lt h2
  have e1 : ¬ cn (nI t).toNatClampNeg = 1 := by
    rw [hc, ecn]
    intro h
    have := (nI_eq (a := n) (b := 1) (by omega) (by omega)).mp h
    omega
  have e2 : fr (nI t).toNatClampNeg = nI f := by rw [hc, efr]
  have e3 : st (nI t).toNatClampNeg = 1 := by rw [hc, est]
  have e3' : ¬ st (nI t).toNatClampNeg = 0 := by rw [e3]; decide
  have e4 : cn (nI t).toNatClampNeg = nI n := by rw [hc, ecn]
  have e5 : fr (nI t).toNatClampNeg + nI (ml_hf n) = nI (f + ml_hf n) := by rw [e2, nI_add]
  have e6 : cn (nI t).toNatClampNeg - nI (ml_hf n) = nI (n - ml_hf n) := by rw [e4, pk_sub (by omega)]
  refine br_f (nI_ge (b := 300) hs (by decide)) (br_f (nI_pos (by omega)) ⟨hv, br_f e1 ⟨hv, br_f e3' ⟨hv, br_t e3 ⟨hv, nm_r (e' := upd vl t dn) (by rw [hc]) ⟨hv, nm_r (e' := upd st t 2) (by rw [hc]) ⟨hv, ?_⟩⟩⟩⟩⟩⟩)
  refine ml_yhalf hn64 e4 ⟨hv, hv, ?_⟩
  refine ml_yopen ht (nI_1 t) ?_
  dsimp only
  refine nm_r (nI_1 t) (nm_r (nI_1 s) ?_)
  rw [e5, e6]
  exact K
/-- the same part, both halves done -/
theorem ml_yr4 {q t n s : Nat} {dn : Int32} {fr cn st vl : Nat → Int32} (ht : t < 100) (h2 : 2 ≤ n) (hn64 : n ≤ 64) (hs : s < 300) (ecn : cn t = nI n) (est : st t = 2) (K : wY_rootOf_15 post q (nI t + (-1)) (ml_nd (vl t) dn) (nI (s + 1)) E H lg hn fr cn st vl) : wY_rootOf_15 post (q + 1) (nI t) dn (nI s) E H lg hn fr cn st vl := by
  have hv : vp_in (nI t) 100 := vp_in_nI (by omega) (by omega)
  have hc : (nI t).toNatClampNeg = t := nI_clamp (by omega)
  have e1 : ¬ cn (nI t).toNatClampNeg = 1 := by
    rw [hc, ecn]
    intro h
    have := (nI_eq (a := n) (b := 1) (by omega) (by omega)).mp h
    omega
  have e3 : st (nI t).toNatClampNeg = 2 := by rw [hc, est]
  have e30 : ¬ st (nI t).toNatClampNeg = 0 := by rw [e3]; decide
  have e31 : ¬ st (nI t).toNatClampNeg = 1 := by rw [e3]; decide
  have e5 : vl (nI t).toNatClampNeg = vl t := by rw [hc]
  refine br_f (nI_ge (b := 300) hs (by decide)) (br_f (nI_pos (by omega)) ⟨hv, br_f e1 ⟨hv, br_f e30 ⟨hv, br_f e31 ⟨hv, ?_⟩⟩⟩⟩)
  refine ml_ynode (nm_e (nm_r (nI_1 s) ?_))
  rw [e5]
  exact K
theorem ml_yro : ∀ (N n : Nat), n ≤ N → 1 ≤ n → ∀ (q t f s : Nat) (dn : Int32) (fr cn st vl : Nat → Int32), t + n ≤ 90 → f + n ≤ 40 → s + (4 * n - 3) ≤ 300 → fr t = nI f → cn t = nI n → st t = 0 → (∀ fr' cn' st' vl' : Nat → Int32, (∀ j, j < t → fr' j = fr j ∧ cn' j = cn j ∧ st' j = st j ∧ vl' j = vl j) → wY_rootOf_15 post q (nI t + (-1)) (ml_t lg f n) (nI (s + (4 * n - 3))) E H lg hn fr' cn' st' vl') → wY_rootOf_15 post (q + (4 * n - 3)) (nI t) dn (nI s) E H lg hn fr cn st vl := by
  intro N
  induction N with
  | zero =>
    intro n h0 h1
    exact absurd h1 (by omega)
  | succ N ih =>
    intro n hN h1 q t f s dn fr cn st vl ht hf hs efr ecn est K
    by_cases hn1 : n = 1
    · subst hn1
      have k := K fr cn st vl (fun j _ => ⟨rfl, rfl, rfl, rfl⟩)
      rw [ml_t1] at k
      exact ml_yr1 (by omega) (by omega) (by omega) efr ecn k
    · have h2 : 2 ≤ n := by omega
      have hh := ml_hf_lt h2
      have hq : q + (4 * n - 3) = q + 1 + (4 * (n - ml_hf n) - 3) + 1 + (4 * ml_hf n - 3) + 1 := by omega
      rw [hq]
      refine ml_yr2 (by omega) h2 (by omega) (by omega) efr ecn est ?_
      refine ih (ml_hf n) (by omega) hh.1 _ (t + 1) f (s + 1) dn _ _ _ _ (by omega) (by omega) (by omega) pk_us pk_us pk_us ?_
      intro fr1 cn1 st1 vl1 A
      have At := A t (by omega)
      rw [pk_un (by omega), pk_un (by omega), pk_un (by omega), pk_us] at At
      rw [pk_m1]
      refine ml_yr3 (by omega) h2 (by omega) (by omega) (At.1.trans efr) (At.2.1.trans ecn) At.2.2.1 ?_
      refine ih (n - ml_hf n) (by omega) (by omega) _ (t + 1) (f + ml_hf n) _ _ _ _ _ _ (by omega) (by omega) (by omega) pk_us pk_us pk_us ?_
      intro fr2 cn2 st2 vl2 B
      have Bt := B t (by omega)
      rw [pk_un (by omega), pk_un (by omega), pk_un (by omega), pk_us, pk_us] at Bt
      rw [pk_m1]
      refine ml_yr4 (n := n) (by omega) h2 (by omega) (by omega) ((Bt.2.1.trans At.2.1).trans ecn) Bt.2.2.1 ?_
      rw [Bt.2.2.2, ← ml_t2 lg f n h2]
      have hs' : s + 1 + (4 * ml_hf n - 3) + 1 + (4 * (n - ml_hf n) - 3) + 1 = s + (4 * n - 3) := by omega
      rw [hs']
      refine K fr2 cn2 st2 vl2 (fun j hj => ?_)
      have Aj := A j (by omega)
      have Bj := B j (by omega)
      rw [pk_un (by omega), pk_un (by omega), pk_un (by omega), pk_un (by omega)] at Aj
      rw [pk_un (by omega), pk_un (by omega), pk_un (by omega), pk_un (by omega), pk_un (by omega)] at Bj
      exact ⟨Bj.1.trans Aj.1, Bj.2.1.trans Aj.2.1, Bj.2.2.1.trans Aj.2.2.1, Bj.2.2.2.trans Aj.2.2.2⟩
theorem ml_yroot {x y : Int32} {f n : Nat} {fr cn st vl : Nat → Int32} (h1 : 1 ≤ n) (hf : f + n ≤ 40) (hx : x = nI f) (hy : y = nI n) (K : ∀ fr' cn' st' vl' : Nat → Int32, post (ml_t lg f n) (E, H, lg, hn, fr', cn', st', vl')) : wpY_rootOf post (E, H, lg, hn, fr, cn, st, vl) x y := by
  subst hx
  subst hy
  unfold wpY_rootOf
  dsimp only
  refine ml_yopen (t := 0) (by omega) rfl ?_
  dsimp only
  refine ⟨1 + (4 * n - 3), ?_⟩
  refine ml_yro n n (Nat.le_refl n) h1 1 0 f 0 0 _ _ _ _ (by omega) hf (by omega) pk_us pk_us pk_us ?_
  intro fr' cn' st' vl' _
  refine br_f (nI_ge (b := 300) (by omega) (by decide)) (br_t (by decide +kernel) (K fr' cn' st' vl'))
end
theorem ml_yhold {post : SY → Prop} {E v : Int32} {lg hn fr cn st vl : Nat → Int32} {s : Nat} (hs : s < 16) (K : post (E, nI (s + 1), lg, upd hn s v, fr, cn, st, vl)) : wpY_hold post (E, nI s, lg, hn, fr, cn, st, vl) v := by
  unfold wpY_hold
  dsimp only
  exact br_f (nI_ge (b := 16) hs (by decide)) ⟨vp_in_nI hs (by omega), nm_r (e' := upd hn s v) (by rw [nI_clamp (by omega)]) (nm_r (nI_1 s) K)⟩
theorem ml_ytl {post : SY → Prop} {E : Int32} {lg h0 fr cn st vl : Nat → Int32} {s : Nat} (hs : s ≤ 16) (hs1 : 1 ≤ s) (K : ∀ hn' : Nat → Int32, (∀ j, j < s → hn' j = h0 (s - 1 - j)) → post (E, nI s, lg, hn', fr, cn, st, vl)) : ∀ (d i : Nat) (hn : Nat → Int32), i + d = s → i < s → (∀ j, j < s → (j < i ∨ s - 1 - i < j) → hn j = h0 (s - 1 - j)) → (∀ j, j < s → i ≤ j → j ≤ s - 1 - i → hn j = h0 j) → wY_turnHand_2 post E (nI s) (d + 1) (nI i) lg hn fr cn st vl := by
  intro d
  induction d with
  | zero =>
    intro i hn hd hi
    exact absurd hi (by omega)
  | succ d ih =>
    intro i hn hd hi hA hB
    have hx : nI s - 1 - nI i = nI (s - 1 - i) := by
      show nI s - nI 1 - nI i = _
      rw [pk_sub (by omega), pk_sub (by omega)]
    refine pk_le (s - 1 - i) i (fun hle => ?_) (fun hlt => ?_) hx
    · refine K hn (fun j hj => ?_)
      by_cases hz : j < i ∨ s - 1 - i < j
      · exact hA j hj hz
      · have e1 : s - 1 - j = j := by omega
        rw [e1]
        exact hB j hj (by omega) (by omega)
    · have hv : vp_in (nI s - 1 - nI i) 16 := pk_in (s - 1 - i) 16 (by omega) hx
      have hvi : vp_in (nI i) 16 := vp_in_nI (by omega) (by omega)
      have hc : (nI i).toNatClampNeg = i := nI_clamp (by omega)
      have hcx : (nI s - 1 - nI i).toNatClampNeg = s - 1 - i := by rw [hx, nI_clamp (by omega)]
      refine ⟨hvi, nm_r (e' := hn i) (by rw [hc]) ⟨hv, hvi, nm_r (e' := upd hn i (hn (s - 1 - i))) (by rw [hc, hcx]) ⟨hv, nm_r (e' := upd (upd hn i (hn (s - 1 - i))) (s - 1 - i) (hn i)) (by rw [hcx]) (nm_r (nI_1 i) ?_)⟩⟩⟩
      refine ih (i + 1) _ (by omega) (by omega) (fun j hj hz => ?_) (fun j hj a b => ?_)
      · by_cases h1 : j = s - 1 - i
        · rw [h1, pk_us, hB i (by omega) (by omega) (by omega)]
          exact congrArg h0 (by omega)
        · rw [pk_un h1]
          by_cases h2 : j = i
          · rw [h2, pk_us, hB (s - 1 - i) (by omega) (by omega) (by omega)]
          · rw [pk_un h2]
            exact hA j hj (by omega)
      · rw [pk_un (by omega), pk_un (by omega)]
        exact hB j hj (by omega) (by omega)
theorem ml_yturn {post : SY → Prop} {E : Int32} {lg h0 fr cn st vl : Nat → Int32} {s : Nat} (hs : s ≤ 16) (K : ∀ hn' : Nat → Int32, (∀ j, j < s → hn' j = h0 (s - 1 - j)) → post (E, nI s, lg, hn', fr, cn, st, vl)) : wpY_turnHand post (E, nI s, lg, h0, fr, cn, st, vl) := by
  unfold wpY_turnHand
  dsimp only
  by_cases h : s = 0
  · subst h
    exact ⟨1, br_t (by decide +kernel) (K h0 (fun j hj => absurd hj (by omega)))⟩
  · exact ⟨s + 1, ml_ytl hs (by omega) K s 0 h0 (by omega) (by omega) (fun j hj hz => absurd hz (by omega)) (fun j _ _ _ => rfl)⟩
end
section
/-! path and steps: X and Y in lockstep, as one outcome -/
section
variable {post : Int32 → SY → Prop} {E v : Int32} {lg hn fr cn st vl : Nat → Int32}
variable {J : Int32 → Int32 → Int32 → Int32 → Int32 → Int32 → (Nat → Int32) → (Nat → Int32) → (Nat → Int32) → (Nat → Int32) → (Nat → Int32) → (Nat → Int32) → Prop}
theorem ml_y90a {f n m i k s : Nat} (hk : k ≤ m) (hm : m < 2 ^ 31) (hn' : k ≤ n) (hs : s < 16) (K : J (nI (f + k)) (nI (n - k)) (nI (m - k)) (nI (i + 1)) E (nI (s + 1)) lg (upd hn s v) fr cn st vl) : wY_path_90 post J (nI f) (nI n) (nI m) (nI i) (nI k) v E (nI s) lg hn fr cn st vl := by
  unfold wY_path_90
  refine ml_yhold hs ?_
  dsimp only
  have h : nI k ≤ nI m := nI_le hk hm
  refine br_t h ?_
  unfold wY_path_113
  refine br_t h ?_
  unfold wY_path_131
  refine br_t h (nm_r (pk_sub hk) (nm_r (nI_1 i) ?_))
  rw [nI_add, pk_sub hn']
  exact K
theorem ml_y90b {f n m i k s : Nat} (hk : m < k) (hm : k < 2 ^ 31) (hs : s < 16) (K : J (nI f) (nI k) (nI m) (nI (i + 1)) E (nI (s + 1)) lg (upd hn s v) fr cn st vl) : wY_path_90 post J (nI f) (nI n) (nI m) (nI i) (nI k) v E (nI s) lg hn fr cn st vl := by
  unfold wY_path_90
  refine ml_yhold hs ?_
  dsimp only
  have h : ¬ nI k ≤ nI m := nI_ge hk hm
  refine br_f h ?_
  unfold wY_path_113
  refine br_f h ?_
  unfold wY_path_131
  exact br_f h (nm_r (nI_1 i) K)
end
section
variable {post : Int32 → SY → Prop} {E v : Int32} {lg hn fr cn st vl : Nat → Int32}
variable {J : Int32 → Int32 → Int32 → Int32 → Int32 → Int32 → Int32 → (Nat → Int32) → (Nat → Int32) → (Nat → Int32) → (Nat → Int32) → (Nat → Int32) → (Nat → Int32) → Prop}
theorem ml_y115a {f n m i k : Nat} {H z : Int32} (hk : k < m) (hm : m < 2 ^ 31) (hn' : k ≤ n) (K : J (nI (f + k)) (nI (n - k)) (nI (m - k)) z (nI (i + 1)) E H lg hn fr cn st vl) : wY_steps_115 post J (nI f) (nI n) (nI m) (nI i) (nI k) z E H lg hn fr cn st vl := by
  unfold wY_steps_115
  have h : nI k < nI m := nI_lt hk hm
  refine br_t h ?_
  unfold wY_steps_132
  refine br_t h ?_
  unfold wY_steps_150
  refine br_t h (nm_r (pk_sub (by omega)) (nm_r (nI_1 i) ?_))
  rw [nI_add, pk_sub hn']
  exact K
theorem ml_y115b {f n m i k : Nat} {H z : Int32} (hk : m ≤ k) (hm : k < 2 ^ 31) (K : J (nI f) (nI k) (nI m) z (nI (i + 1)) E H lg hn fr cn st vl) : wY_steps_115 post J (nI f) (nI n) (nI m) (nI i) (nI k) z E H lg hn fr cn st vl := by
  unfold wY_steps_115
  have h : ¬ nI k < nI m := nI_nlt hk hm
  refine br_f h ?_
  unfold wY_steps_132
  refine br_f h ?_
  unfold wY_steps_150
  exact br_f h (nm_r (nI_1 i) K)
theorem ml_ys90a {f n m i k s : Nat} {w : Int32} (hk : k < m) (hm : m < 2 ^ 31) (hn' : k ≤ n) (hs : s < 16) (K : J (nI (f + k)) (nI (n - k)) (nI (m - k)) 0 (nI (i + 1)) E (nI (s + 1)) lg (upd hn s v) fr cn st vl) : wY_steps_90 post J (nI f) (nI n) (nI m) w (nI i) (nI k) v E (nI s) lg hn fr cn st vl := by
  unfold wY_steps_90
  refine ml_yhold hs ?_
  dsimp only
  have h : nI k < nI m := nI_lt hk hm
  have q : wY_steps_114 post J (nI f) (nI n) (nI m) (nI i) (nI k) E (nI (s + 1)) lg (upd hn s v) fr cn st vl := by
    unfold wY_steps_114
    exact ml_y115a hk hm hn' K
  exact br_c (fun _ => q) (fun _ => br_t h q)
theorem ml_ys90b {f n m i k s : Nat} {w : Int32} (hw : w = 0 ∨ w = 1) (hk : m ≤ k) (hm : k < 2 ^ 31) (hs : s < 16) (K : J (nI f) (nI k) (nI m) w (nI (i + 1)) E (nI (s + 1)) lg (upd hn s v) fr cn st vl) : wY_steps_90 post J (nI f) (nI n) (nI m) w (nI i) (nI k) v E (nI s) lg hn fr cn st vl := by
  unfold wY_steps_90
  refine ml_yhold hs ?_
  dsimp only
  have h : ¬ nI k < nI m := nI_nlt hk hm
  rcases hw with rfl | rfl
  · refine br_t rfl ?_
    unfold wY_steps_114
    exact ml_y115b hk hm K
  · exact br_f (by decide +kernel) (br_f h (ml_y115b hk hm K))
end
theorem ml_sb {lo n : Nat} : nI (lo + n) - nI lo = nI n := by rw [pk_sub (by omega), Nat.add_sub_cancel_left]
theorem ml_agr {a b : Nat → Int32} {s : Nat} {v : Int32} (h : ∀ j, j < s → a j = b j) : ∀ j, j < s + 1 → upd a s v j = upd b s v j := by
  intro j hj
  by_cases z : j = s
  · subst z
    rw [pk_us, pk_us]
  · rw [pk_un z, pk_un z]
    exact h j (by omega)
theorem ml_pl {pt lg : Nat → Int32} {e : Nat} (hP : ml_P pt lg e) (he : e ≤ 40) (en : Nat) : ∀ (d s lo n : Nat) (dn : Nat → Int32), s + d = 6 → 1 ≤ n → lo ≤ en → en < lo + n → lo + n ≤ e → ml_A lo n → ∃ (s' : Nat) (dn' : Nat → Int32), s' ≤ 6 ∧ (∀ (post : Int32 → SX → Prop) (C : Int32) (nu : Nat → Int32), wX_path_100 post (nI e) C (nI s') pt nu dn' → wX_path_37 post (nI en) (d + 1) (nI lo) (nI (lo + n)) (nI s) (nI e) C (nI s) pt nu dn) ∧ (∀ (post : Int32 → SY → Prop) (hn fr cn st vl : Nat → Int32), (∀ j, j < s → hn j = dn j) → (∀ hn' fr' cn' st' vl' : Nat → Int32, (∀ j, j < s' → hn' j = dn' j) → wY_path_158 post (nI e) (nI s') lg hn' fr' cn' st' vl') → wY_path_40 post (d + 1) (nI lo) (nI n) (nI (en - lo)) (nI s) (nI e) (nI s) lg hn fr cn st vl) := by
  intro d
  induction d with
  | zero =>
    intro s lo n dn hd h1 hl hr hle hA
    have hs : s = 6 := by omega
    subst hs
    refine ⟨6, dn, Nat.le_refl 6, fun post C nu h => ?_, fun post hn fr cn st vl hh k => ?_⟩
    · exact br_t (by decide +kernel) h
    · exact br_t (by decide +kernel) (k hn fr cn st vl hh)
  | succ d ih =>
    intro s lo n dn hd h1 hl hr hle hA
    have hs6 : ¬ (6 : Int32) ≤ nI s := nI_ge (b := 6) (by omega) (by decide)
    by_cases hn1 : n = 1
    · subst hn1
      refine ⟨s, dn, by omega, fun post C nu h => ?_, fun post hn fr cn st vl hh k => ?_⟩
      · refine br_f hs6 (br_t ?_ h)
        rw [ml_sb]
        decide +kernel
      · exact br_f hs6 (br_t (by decide +kernel) (k hn fr cn st vl hh))
    · have h2 : 2 ≤ n := by omega
      have hh := ml_hf_lt h2
      have hx1 : ¬ (nI (lo + n) - nI lo) ≤ 1 := by
        rw [ml_sb]
        exact nI_ge (a := 1) (by omega) (by omega)
      have hy1 : ¬ nI n ≤ 1 := nI_ge (a := 1) (by omega) (by omega)
      by_cases hc : en < lo + ml_hf n
      · obtain ⟨s', dn', hs', hX, hY⟩ := ih (s + 1) lo (ml_hf n) (upd dn s (ml_t lg (lo + ml_hf n) (n - ml_hf n))) (by omega) hh.1 hl hc (by omega) (ml_AL hA h2)
        refine ⟨s', dn', hs', fun post C nu h => ?_, fun post hn fr cn st vl hg k => ?_⟩
        · refine br_f hs6 (br_f hx1 (ml_xcut (n := n) (by omega) ml_sb (nm_r (nI_add lo (ml_hf n)) (br_f (nI_ge hc (by omega)) ?_))))
          refine ml_xnote (lo := lo + ml_hf n) (n := n - ml_hf n) hP he (by omega) (by omega) (ml_AR hA h2 (by omega)) rfl (congrArg nI (by omega)) (by omega) ?_
          dsimp only
          exact nm_r (nI_1 s) (hX post C nu h)
        · refine br_f hs6 (br_f hy1 (ml_yhalf (n := n) (by omega) rfl (br_f (nI_ge (by omega) (by omega)) ?_)))
          refine ml_yroot (f := lo + ml_hf n) (n := n - ml_hf n) (by omega) (by omega) (nI_add _ _) (pk_sub (by omega)) (fun fr' cn' st' vl' => ?_)
          dsimp only
          exact ml_y90b (by omega) (by omega) (by omega) (hY post _ fr' cn' st' vl' (ml_agr hg) k)
      · obtain ⟨s', dn', hs', hX, hY⟩ := ih (s + 1) (lo + ml_hf n) (n - ml_hf n) (upd dn s (ml_t lg lo (ml_hf n))) (by omega) (by omega) (by omega) (by omega) (by omega) (ml_AR hA h2 (by omega))
        have e1 : lo + ml_hf n + (n - ml_hf n) = lo + n := by omega
        have e2 : en - (lo + ml_hf n) = en - lo - ml_hf n := by omega
        rw [e1] at hX
        rw [e2] at hY
        refine ⟨s', dn', hs', fun post C nu h => ?_, fun post hn fr cn st vl hg k => ?_⟩
        · refine br_f hs6 (br_f hx1 (ml_xcut (n := n) (by omega) ml_sb (nm_r (nI_add lo (ml_hf n)) (br_t (nI_le (by omega) (by omega)) ?_))))
          refine ml_xnote (lo := lo) (n := ml_hf n) hP he (by omega) (by omega) (ml_AL hA h2) rfl rfl (by omega) ?_
          dsimp only
          exact nm_r (nI_1 s) (hX post C nu h)
        · refine br_f hs6 (br_f hy1 (ml_yhalf (n := n) (by omega) rfl (br_t (nI_le (by omega) (by omega)) ?_)))
          refine ml_yroot (f := lo) (n := ml_hf n) (by omega) (by omega) rfl rfl (fun fr' cn' st' vl' => ?_)
          dsimp only
          exact ml_y90a (by omega) (by omega) (by omega) (by omega) (hY post _ fr' cn' st' vl' (ml_agr hg) k)
def ml_w (lo : Nat) : Int32 := if lo = 0 then 1 else 0
theorem ml_w0 : ml_w 0 = 1 := rfl
theorem ml_wp {lo : Nat} (h : 0 < lo) : ml_w lo = 0 := if_neg (by omega)
theorem ml_w01 (lo : Nat) : ml_w lo = 0 ∨ ml_w lo = 1 := by
  rcases Nat.eq_zero_or_pos lo with h | h
  · subst h
    exact Or.inr rfl
  · exact Or.inl (ml_wp h)
theorem ml_sl {pt lg : Nat → Int32} {e : Nat} (hP : ml_P pt lg e) (he : e ≤ 40) (en : Nat) : ∀ (d s lo n : Nat) (dn : Nat → Int32), s + d = 6 → lo < en → en ≤ lo + n → lo + n ≤ e → ml_A lo n → ∃ (s' lo' n' : Nat) (dn' : Nat → Int32), s' ≤ 6 ∧ 1 ≤ n' ∧ lo' + n' ≤ e ∧ ml_A lo' n' ∧ (∀ (post : Int32 → SX → Prop) (C : Int32) (nu : Nat → Int32), wX_steps_94 post (nI lo') (nI (lo' + n')) (nI e) C (nI s') pt nu dn' → wX_steps_33 post (nI en) (d + 1) (nI lo) (nI (lo + n)) (nI s) (nI e) C (nI s) pt nu dn) ∧ (∀ (post : Int32 → SY → Prop) (hn fr cn st vl : Nat → Int32), (∀ j, j < s → hn j = dn j) → (∀ hn' fr' cn' st' vl' : Nat → Int32, (∀ j, j < s' → hn' j = dn' j) → wY_steps_177 post (nI lo') (nI n') (ml_w lo') (nI e) (nI s') lg hn' fr' cn' st' vl') → wY_steps_39 post (d + 1) (nI lo) (nI n) (nI (en - lo)) (ml_w lo) (nI s) (nI e) (nI s) lg hn fr cn st vl) := by
  intro d
  induction d with
  | zero =>
    intro s lo n dn hd hl hr hle hA
    have hs : s = 6 := by omega
    subst hs
    refine ⟨6, lo, n, dn, Nat.le_refl 6, by omega, hle, hA, fun post C nu h => ?_, fun post hn fr cn st vl hh k => ?_⟩
    · exact br_t (by decide +kernel) h
    · exact br_t (by decide +kernel) (k hn fr cn st vl hh)
  | succ d ih =>
    intro s lo n dn hd hl hr hle hA
    have hs6 : ¬ (6 : Int32) ≤ nI s := nI_ge (b := 6) (by omega) (by decide)
    by_cases hn1 : lo + n = en
    · refine ⟨s, lo, n, dn, by omega, by omega, hle, hA, fun post C nu h => ?_, fun post hn fr cn st vl hh k => ?_⟩
      · exact br_f hs6 (br_t (congrArg nI hn1) h)
      · exact br_f hs6 (br_t (nI_le (by omega) (by omega)) (k hn fr cn st vl hh))
    · have h2 : 2 ≤ n := by omega
      have hh := ml_hf_lt h2
      have hx1 : ¬ nI (lo + n) = nI en := by
        rw [nI_eq (by omega) (by omega)]
        exact hn1
      have hy1 : ¬ nI n ≤ nI (en - lo) := nI_ge (by omega) (by omega)
      by_cases hc : en ≤ lo + ml_hf n
      · obtain ⟨s', lo', n', dn', hs', g1, g2, g3, hX, hY⟩ := ih (s + 1) lo (ml_hf n) (upd dn s (ml_t lg (lo + ml_hf n) (n - ml_hf n))) (by omega) hl hc (by omega) (ml_AL hA h2)
        refine ⟨s', lo', n', dn', hs', g1, g2, g3, fun post C nu h => ?_, fun post hn fr cn st vl hg k => ?_⟩
        · refine br_f hs6 (br_f hx1 (ml_xcut (n := n) (by omega) ml_sb (nm_r (nI_add lo (ml_hf n)) (br_f (nI_nlt hc (by omega)) ?_))))
          refine ml_xnote (lo := lo + ml_hf n) (n := n - ml_hf n) hP he (by omega) (by omega) (ml_AR hA h2 (by omega)) rfl (congrArg nI (by omega)) (by omega) ?_
          dsimp only
          exact nm_r (nI_1 s) (hX post C nu h)
        · refine br_f hs6 (br_f hy1 (ml_yhalf (n := n) (by omega) rfl (br_f (nI_nlt (by omega) (by omega)) ?_)))
          refine ml_yroot (f := lo + ml_hf n) (n := n - ml_hf n) (by omega) (by omega) (nI_add _ _) (pk_sub (by omega)) (fun fr' cn' st' vl' => ?_)
          dsimp only
          exact ml_ys90b (ml_w01 lo) (by omega) (by omega) (by omega) (hY post _ fr' cn' st' vl' (ml_agr hg) k)
      · obtain ⟨s', lo', n', dn', hs', g1, g2, g3, hX, hY⟩ := ih (s + 1) (lo + ml_hf n) (n - ml_hf n) (upd dn s (ml_t lg lo (ml_hf n))) (by omega) (by omega) (by omega) (by omega) (ml_AR hA h2 (by omega))
        have e1 : lo + ml_hf n + (n - ml_hf n) = lo + n := by omega
        have e2 : en - (lo + ml_hf n) = en - lo - ml_hf n := by omega
        rw [e1] at hX
        rw [e2, ml_wp (lo := lo + ml_hf n) (by omega)] at hY
        refine ⟨s', lo', n', dn', hs', g1, g2, g3, fun post C nu h => ?_, fun post hn fr cn st vl hg k => ?_⟩
        · refine br_f hs6 (br_f hx1 (ml_xcut (n := n) (by omega) ml_sb (nm_r (nI_add lo (ml_hf n)) (br_t (nI_lt (by omega) (by omega)) ?_))))
          refine ml_xnote (lo := lo) (n := ml_hf n) hP he (by omega) (by omega) (ml_AL hA h2) rfl rfl (by omega) ?_
          dsimp only
          exact nm_r (nI_1 s) (hX post C nu h)
        · refine br_f hs6 (br_f hy1 (ml_yhalf (n := n) (by omega) rfl (br_t (nI_lt (by omega) (by omega)) ?_)))
          refine ml_yroot (f := lo) (n := ml_hf n) (by omega) (by omega) rfl rfl (fun fr' cn' st' vl' => ?_)
          dsimp only
          exact ml_ys90a (by omega) (by omega) (by omega) (by omega) (hY post _ fr' cn' st' vl' (ml_agr hg) k)
end
section
/-! rootFrom: the sides as lists of Bool (true: the hand's number stands left) -/
def ml_sh : Nat → Nat → Nat → Nat × Nat
  | 0 => fun a b => (a, b)
  | d + 1 => fun a b => if a % 2 = 0 then ml_sh d (a / 2) (b / 2) else (a, b)
theorem ml_sh_0 (a b : Nat) : ml_sh 0 a b = (a, b) := rfl
theorem ml_sh_s (d a b : Nat) : ml_sh (d + 1) a b = if a % 2 = 0 then ml_sh d (a / 2) (b / 2) else (a, b) := rfl
theorem ml_sh_le : ∀ d a b : Nat, (ml_sh d a b).1 ≤ a ∧ (ml_sh d a b).2 ≤ b := by
  intro d
  induction d with
  | zero => exact fun a b => ⟨Nat.le_refl a, Nat.le_refl b⟩
  | succ d ih =>
    intro a b
    rw [ml_sh_s]
    by_cases h : a % 2 = 0
    · rw [if_pos h]
      have := ih (a / 2) (b / 2)
      omega
    · rw [if_neg h]
      exact ⟨Nat.le_refl a, Nat.le_refl b⟩
def ml_xs : Nat → Nat → Nat → List Bool
  | 0 => fun _ _ => []
  | d + 1 => fun a b => if b = 0 then [] else if a % 2 = 1 ∨ a = b then true :: ml_xs d ((ml_sh 6 a b).1 / 2) ((ml_sh 6 a b).2 / 2) else false :: ml_xs d (a / 2) (b / 2)
theorem ml_xs_0 (a b : Nat) : ml_xs 0 a b = [] := rfl
theorem ml_xs_s (d a b : Nat) : ml_xs (d + 1) a b = if b = 0 then [] else if a % 2 = 1 ∨ a = b then true :: ml_xs d ((ml_sh 6 a b).1 / 2) ((ml_sh 6 a b).2 / 2) else false :: ml_xs d (a / 2) (b / 2) := rfl
def ml_ys : Nat → Nat → Nat → List Bool
  | 0 => fun _ _ => []
  | d + 1 => fun n m => if n ≤ 1 then [] else if m < ml_hf n then false :: ml_ys d (ml_hf n) m else true :: ml_ys d (n - ml_hf n) (m - ml_hf n)
theorem ml_ys_0 (n m : Nat) : ml_ys 0 n m = [] := rfl
theorem ml_ys_s (d n m : Nat) : ml_ys (d + 1) n m = if n ≤ 1 then [] else if m < ml_hf n then false :: ml_ys d (ml_hf n) m else true :: ml_ys d (n - ml_hf n) (m - ml_hf n) := rfl
/-- the bits of the entry's number tell the sides -/
theorem ml_side : ∀ sz, sz < 41 → ∀ en, en < sz → ml_xs 6 en (sz - 1) = (ml_ys 6 sz en).reverse := by decide +kernel
def ml_st (b : Bool) (x r : Int32) : Int32 := if b = true then ml_nd x r else ml_nd r x
theorem ml_st_t (x r : Int32) : ml_st true x r = ml_nd x r := if_pos rfl
theorem ml_st_f (x r : Int32) : ml_st false x r = ml_nd r x := if_neg (fun h => nomatch h)
def ml_fo (h : Nat → Int32) : List Bool → Nat → Int32 → Int32
  | [] => fun _ r => r
  | b :: bs => fun k r => ml_fo h bs (k + 1) (ml_st b (h k) r)
theorem ml_fo_n (h : Nat → Int32) (k : Nat) (r : Int32) : ml_fo h [] k r = r := rfl
theorem ml_fo_s (h : Nat → Int32) (b : Bool) (bs : List Bool) (k : Nat) (r : Int32) : ml_fo h (b :: bs) k r = ml_fo h bs (k + 1) (ml_st b (h k) r) := rfl
theorem ml_fo_t (h : Nat → Int32) (bs : List Bool) (k : Nat) (r : Int32) : ml_fo h (true :: bs) k r = ml_fo h bs (k + 1) (ml_nd (h k) r) := by rw [ml_fo_s, ml_st_t]
theorem ml_fo_f (h : Nat → Int32) (bs : List Bool) (k : Nat) (r : Int32) : ml_fo h (false :: bs) k r = ml_fo h bs (k + 1) (ml_nd r (h k)) := by rw [ml_fo_s, ml_st_f]
theorem ml_fo_c {a b : Nat → Int32} {c : Nat} (h : ∀ j, j < c → a j = b j) : ∀ (l : List Bool) (k : Nat) (r : Int32), k + l.length ≤ c → ml_fo a l k r = ml_fo b l k r := by
  intro l
  induction l with
  | nil => intro k r hk; rfl
  | cons x l ih =>
    intro k r hk
    rw [List.length_cons] at hk
    cases x with
    | true => rw [ml_fo_t, ml_fo_t, h k (by omega), ih (k + 1) _ (by omega)]
    | false => rw [ml_fo_f, ml_fo_f, h k (by omega), ih (k + 1) _ (by omega)]
theorem ml_shr1 {a : Nat} (h : a < 2 ^ 31) : nI a >>> ((1 : Int32) &&& 31) = nI (a / 2) := pk_shrN h _ 1 (by decide +kernel)
section
variable {post : Int32 → Prop} {E C F : Int32} {pt nu dn : Nat → Int32}
variable {J : Int32 → Int32 → Int32 → Int32 → Prop}
theorem ml_x135 {a b k : Nat} {r : Int32} (ha : a < 2 ^ 31) (hb : b < 2 ^ 31) (K : J (nI (a / 2)) (nI (b / 2)) r (nI (k + 1))) : wX_rootFrom_135 post J (nI a) (nI b) r (nI k) E C F pt nu dn := by
  unfold wX_rootFrom_135
  exact nm_r (ml_shr1 ha) (nm_r (ml_shr1 hb) (nm_r (nI_1 k) K))
theorem ml_x86 {k : Nat} {r : Int32} : ∀ d a b : Nat, d ≤ 6 → a < 2 ^ 31 → b < 2 ^ 31 → J (nI ((ml_sh d a b).1 / 2)) (nI ((ml_sh d a b).2 / 2)) r (nI (k + 1)) → wX_rootFrom_86 post J r (nI k) E C F pt nu dn (d + 1) (nI a) (nI b) (nI (6 - d)) := by
  intro d
  induction d with
  | zero =>
    intro a b hd ha hb K
    rw [ml_sh_0] at K
    refine br_t (by decide +kernel) ?_
    unfold wX_rootFrom_118
    exact ml_x135 ha hb K
  | succ d ih =>
    intro a b hd ha hb K
    rw [ml_sh_s] at K
    refine br_f (nI_ge (b := 6) (by omega) (by decide)) (pk_eq (a % 2) 0 (fun hz => ?_) (fun hz => ?_) (ml_and1 ha))
    · rw [if_pos hz] at K
      refine nm_r (ml_shr1 ha) (nm_r (ml_shr1 hb) (nm_r (e' := nI (6 - d)) ?_ (ih (a / 2) (b / 2) (by omega) (by omega) (by omega) K)))
      rw [nI_1]
      exact congrArg nI (by omega)
    · rw [if_neg hz] at K
      unfold wX_rootFrom_118
      exact ml_x135 ha hb K
theorem ml_x69 {a b k : Nat} {r : Int32} (ha : a < 2 ^ 31) (hb : b < 2 ^ 31) (hk : k < 16) (K : J (nI ((ml_sh 6 a b).1 / 2)) (nI ((ml_sh 6 a b).2 / 2)) (ml_nd (nu k) r) (nI (k + 1))) : wX_rootFrom_69 post J (nI a) (nI b) r (nI k) E C F pt nu dn := by
  unfold wX_rootFrom_69
  refine ⟨vp_in_nI hk (by omega), ml_xnode ⟨7, ?_⟩⟩
  rw [nI_clamp (by omega)]
  exact ml_x86 6 a b (by omega) ha hb K
end
theorem ml_xrf {post : Int32 → Prop} {E F : Int32} {pt nu dn : Nat → Int32} {c : Nat} (hc : c ≤ 16) : ∀ (d a b k : Nat) (r : Int32), b < 2 ^ d → d ≤ 6 → a < 2 ^ 31 → k ≤ c → post (if k + (ml_xs d a b).length = c then ml_fo nu (ml_xs d a b) k r else 0) → wX_rootFrom_39 post E (nI c) F pt nu dn (d + 1) (nI a) (nI b) r (nI k) := by
  intro d
  induction d with
  | zero =>
    intro a b k r hb hd ha hk K
    have hb0 : b = 0 := by omega
    subst hb0
    rw [ml_xs_0] at K
    refine pk_le c k (fun hle => br_t nI_0 ?_) (fun hlt => br_t nI_0 ?_)
    · rw [if_pos (by show k + 0 = c; omega)] at K
      exact K
    · rw [if_neg (by show ¬ k + 0 = c; omega)] at K
      exact K
  | succ d ih =>
    intro a b k r hb hd ha hk K
    have hp : 2 ^ (d + 1) ≤ 2 ^ 6 := Nat.pow_le_pow_right (by decide) hd
    have hp2 : 2 ^ (d + 1) = 2 * 2 ^ d := by rw [Nat.pow_succ, Nat.mul_comm]
    rw [ml_xs_s] at K
    by_cases hb0 : b = 0
    · subst hb0
      rw [if_pos rfl] at K
      refine pk_le c k (fun hle => br_t nI_0 ?_) (fun hlt => br_t nI_0 ?_)
      · rw [if_pos (by show k + 0 = c; omega)] at K
        exact K
      · rw [if_neg (by show ¬ k + 0 = c; omega)] at K
        exact K
    · rw [if_neg hb0] at K
      have hbn : ¬ nI b = 0 := nI_ne0 (by omega) (by omega)
      have hsh := ml_sh_le 6 a b
      refine pk_le c k (fun hle => br_f hbn ?_) (fun hlt => br_f hbn ?_)
      · by_cases hor : a % 2 = 1 ∨ a = b
        · rw [if_pos hor, List.length_cons, if_neg (by omega)] at K
          exact K
        · rw [if_neg hor, List.length_cons, if_neg (by omega)] at K
          exact K
      · have h69 : (a % 2 = 1 ∨ a = b) → wX_rootFrom_69 post (wX_rootFrom_39 post E (nI c) F pt nu dn (d + 1)) (nI a) (nI b) r (nI k) E (nI c) F pt nu dn := by
          intro hor
          rw [if_pos hor, List.length_cons, ml_fo_t] at K
          refine ml_x69 ha (by omega) (by omega) (ih _ _ (k + 1) _ (by omega) (by omega) (by omega) (by omega) ?_)
          rw [show k + 1 + (ml_xs d ((ml_sh 6 a b).1 / 2) ((ml_sh 6 a b).2 / 2)).length = k + ((ml_xs d ((ml_sh 6 a b).1 / 2) ((ml_sh 6 a b).2 / 2)).length + 1) from by omega]
          exact K
        refine pk_eq (a % 2) 0 (fun hev => ?_) (fun hod => h69 (Or.inl (by omega))) (ml_and1 ha)
        refine pk_eq a b (fun heq => h69 (Or.inr heq)) (fun hne => ⟨vp_in_nI (by omega) (by omega), ml_xnode ?_⟩)
        have hor : ¬ (a % 2 = 1 ∨ a = b) := by omega
        rw [if_neg hor, List.length_cons, ml_fo_f] at K
        rw [nI_clamp (by omega)]
        refine ml_x135 ha (by omega) (ih _ _ (k + 1) _ (by omega) (by omega) (by omega) (by omega) ?_)
        rw [show k + 1 + (ml_xs d (a / 2) (b / 2)).length = k + ((ml_xs d (a / 2) (b / 2)).length + 1) from by omega]
        exact K
theorem ml_ydl {post : Int32 → Prop} : ∀ d n m q : Nat, d ≤ 6 → n ≤ 64 → m < 2 ^ 31 → post (nI (q + (ml_ys d n m).length)) → wY_depth_10 post (d + 1) (nI q) (nI n) (nI m) (nI (6 - d)) := by
  intro d
  induction d with
  | zero =>
    intro n m q hd hn hm K
    exact br_t (by decide +kernel) K
  | succ d ih =>
    intro n m q hd hn hm K
    rw [ml_ys_s] at K
    have hi : nI (6 - (d + 1)) + 1 = nI (6 - d) := by
      rw [nI_1]
      exact congrArg nI (by omega)
    refine br_f (nI_ge (b := 6) (by omega) (by decide)) (pk_le n 1 (fun hle => ?_) (fun hlt => ?_))
    · rw [if_pos hle] at K
      exact K
    · rw [if_neg (by omega)] at K
      have hh := ml_hf_lt (n := n) (by omega)
      refine ml_yhalf hn rfl (nm_r (nI_1 q) (pk_le (ml_hf n) m (fun hle => ?_) (fun hlt2 => ?_)))
      · rw [if_neg (by omega), List.length_cons] at K
        unfold wY_depth_47
        refine br_t (nI_le hle hm) (nm_r (pk_sub hle) (nm_r hi ?_))
        rw [pk_sub (by omega)]
        refine ih (n - ml_hf n) (m - ml_hf n) (q + 1) (by omega) (by omega) (by omega) ?_
        rw [show q + 1 + (ml_ys d (n - ml_hf n) (m - ml_hf n)).length = q + ((ml_ys d (n - ml_hf n) (m - ml_hf n)).length + 1) from by omega]
        exact K
      · rw [if_pos hlt2, List.length_cons] at K
        unfold wY_depth_47
        refine br_f (nI_ge hlt2 (by omega)) (nm_r hi ?_)
        refine ih (ml_hf n) m (q + 1) (by omega) (by omega) (by omega) ?_
        rw [show q + 1 + (ml_ys d (ml_hf n) m).length = q + ((ml_ys d (ml_hf n) m).length + 1) from by omega]
        exact K
theorem ml_ydepth {post : Int32 → Prop} {n m : Nat} (hn : n ≤ 64) (hm : m < 2 ^ 31) (K : post (nI (ml_ys 6 n m).length)) : wpY_depth post (nI m) (nI n) := by
  unfold wpY_depth
  refine ⟨7, ml_ydl 6 n m 0 (by omega) hn hm ?_⟩
  rw [Nat.zero_add]
  exact K
theorem ml_ys_pos {q n m d : Nat} {b : Bool} (h : (ml_ys q n m)[d]? = some b) : ∃ p, q = p + 1 ∧ 1 < n := by
  cases q with
  | zero =>
    rw [ml_ys_0] at h
    exact absurd h (by simp)
  | succ p =>
    refine ⟨p, rfl, ?_⟩
    by_cases h1 : n ≤ 1
    · rw [ml_ys_s, if_pos h1] at h
      exact absurd h (by simp)
    · omega
theorem ml_yfl {post : Int32 → Prop} {b : Bool} {dw : Nat} (hdw : dw < 2 ^ 31) (K : post (if b = true then 0 else 1)) : ∀ d n m i q : Nat, i + d = dw → n ≤ 64 → m < 2 ^ 31 → (ml_ys q n m)[d]? = some b → wY_first_8 post (nI dw) (d + 1) (nI n) (nI m) (nI i) := by
  intro d
  induction d with
  | zero =>
    intro n m i q hi hn hm hb
    obtain ⟨p, rfl, h1⟩ := ml_ys_pos hb
    have hh := ml_hf_lt (n := n) (by omega)
    have hi' : i = dw := by omega
    subst hi'
    rw [ml_ys_s, if_neg (by omega)] at hb
    refine br_t (nI_le (Nat.le_refl i) hdw) ?_
    unfold wY_first_67
    refine br_f (nI_ge (a := 1) h1 (by omega)) (ml_yhalf hn rfl (pk_le (ml_hf n) m (fun hle => ?_) (fun hlt => ?_)))
    · rw [if_neg (by omega), List.getElem?_cons_zero] at hb
      cases hb
      exact K
    · rw [if_pos hlt, List.getElem?_cons_zero] at hb
      cases hb
      exact K
  | succ d ih =>
    intro n m i q hi hn hm hb
    obtain ⟨p, rfl, h1⟩ := ml_ys_pos hb
    have hh := ml_hf_lt (n := n) (by omega)
    rw [ml_ys_s, if_neg (by omega)] at hb
    refine br_f (nI_ge (by omega) hdw) (br_f (nI_ge (a := 1) h1 (by omega)) (ml_yhalf hn rfl (pk_le (ml_hf n) m (fun hle => ?_) (fun hlt => ?_))))
    · rw [if_neg (by omega), List.getElem?_cons_succ] at hb
      unfold wY_first_41
      refine br_t (nI_le hle hm) (nm_r (pk_sub hle) (nm_r (nI_1 i) ?_))
      rw [pk_sub (by omega)]
      exact ih _ _ (i + 1) p (by omega) (by omega) (by omega) hb
    · rw [if_pos hlt, List.getElem?_cons_succ] at hb
      unfold wY_first_41
      refine br_f (nI_ge hlt (by omega)) (nm_r (nI_1 i) ?_)
      exact ih _ _ (i + 1) p (by omega) (by omega) (by omega) hb
theorem ml_yfirst {post : Int32 → Prop} {b : Bool} {n m d q : Nat} {x : Int32} (hx : x = nI d) (hd : d < 2 ^ 31) (hn : n ≤ 64) (hm : m < 2 ^ 31) (hb : (ml_ys q n m)[d]? = some b) (K : post (if b = true then 0 else 1)) : wpY_first post (nI m) (nI n) x := by
  subst hx
  unfold wpY_first
  exact ⟨d + 1, ml_yfl hd K d n m 0 q (by omega) hn hm hb⟩
theorem ml_yrf {post : Int32 → Prop} {E : Int32} {lg hn fr cn st vl : Nat → Int32} {c sz en : Nat} (hc : c ≤ 16) (hsz : sz ≤ 64) (hen : en < 2 ^ 31) (hl : (ml_ys 6 sz en).length = c) : ∀ (d i : Nat) (r : Int32), i + d = c → post (ml_fo hn ((ml_ys 6 sz en).reverse.drop i) i r) → wY_rootFrom_43 post (nI en) (nI sz) E (nI c) lg hn fr cn st vl (d + 1) r (nI i) := by
  intro d
  induction d with
  | zero =>
    intro i r hi K
    have hi' : i = c := by omega
    subst hi'
    rw [List.drop_eq_nil_of_le (by rw [List.length_reverse]; omega), ml_fo_n] at K
    exact br_t (nI_le (Nat.le_refl i) (by omega)) K
  | succ d ih =>
    intro i r hi K
    have hL : i < (ml_ys 6 sz en).reverse.length := by rw [List.length_reverse]; omega
    have hlt : c - 1 - i < (ml_ys 6 sz en).length := by omega
    have hb : (ml_ys 6 sz en)[c - 1 - i]? = some ((ml_ys 6 sz en).reverse[i]) := by
      subst hl
      rw [List.getElem_reverse, List.getElem?_eq_getElem hlt]
    rw [List.drop_eq_getElem_cons hL] at K
    generalize (ml_ys 6 sz en).reverse[i] = b at hb K
    have hx : nI c - 1 - nI i = nI (c - 1 - i) := by
      show nI c - nI 1 - nI i = _
      rw [pk_sub (by omega), pk_sub (by omega)]
    refine br_f (nI_ge (by omega) (by omega)) (ml_yfirst hx (by omega) hsz hen hb ?_)
    have hci : (nI i).toNatClampNeg = i := nI_clamp (by omega)
    cases b with
    | true =>
      rw [ml_fo_t] at K
      refine br_t (if_pos rfl) ⟨vp_in_nI (by omega) (by omega), ml_ynode (nm_r (nI_1 i) ?_)⟩
      rw [hci]
      exact ih (i + 1) _ (by omega) K
    | false =>
      rw [ml_fo_f] at K
      refine br_f (by decide +kernel) ⟨vp_in_nI (by omega) (by omega), ml_ynode (nm_r (nI_1 i) ?_)⟩
      rw [hci]
      exact ih (i + 1) _ (by omega) K
end
section
/-- the relation: as many entries; the table of full parts is right; the same hand -/
def i_Rel (_ : Nat) (u : SX) (v : SY) : Prop := ∃ (e c : Nat) (F : Int32) (pt nu dn lg hn fr cn st vl : Nat → Int32), u = (nI e, nI c, F, pt, nu, dn) ∧ v = (nI e, nI c, lg, hn, fr, cn, st, vl) ∧ e ≤ 40 ∧ c ≤ 16 ∧ ml_P pt lg e ∧ (∀ j, j < c → nu j = hn j)
theorem i_up {k : Nat} {u : SX} {v : SY} (h : i_Rel k u v) : i_Rel (k + 4) u v := h
theorem i_vc0 : wpX_init (fun u => wpY_init (fun v => i_Rel 0 u v)) := by
  unfold wpX_init wpY_init
  refine ⟨0, 0, 0, _, _, _, _, _, _, _, _, _, rfl, rfl, by omega, by omega, ?_, fun j h => absurd h (by omega)⟩
  intro l i hl h
  have := Nat.two_pow_pos l
  have h2 : 1 * 2 ^ l ≤ (i + 1) * 2 ^ l := Nat.mul_le_mul_right _ (by omega)
  omega
theorem ml_rel {k e c : Nat} {F : Int32} {pt nu dn lg hn fr cn st vl : Nat → Int32} (he : e ≤ 40) (hc : c ≤ 16) (hP : ml_P pt lg e) (hh : ∀ j, j < c → nu j = hn j) : i_Rel k (nI e, nI c, F, pt, nu, dn) (nI e, nI c, lg, hn, fr, cn, st, vl) := ⟨e, c, F, pt, nu, dn, lg, hn, fr, cn, st, vl, rfl, rfl, he, hc, hP, hh⟩
theorem ml_pos {x : Int32} (h : ¬ x < 1) : ∃ j : Nat, 1 ≤ j ∧ j < 2 ^ 31 ∧ x = nI j := by
  have h0 : ¬ x < 0 := by
    intro h0
    apply h
    rw [Int32.lt_iff_toInt_lt] at h0 ⊢
    have a : (0 : Int32).toInt = 0 := by decide
    have b : (1 : Int32).toInt = 1 := by decide
    rw [a] at h0
    rw [b]
    omega
  obtain ⟨j, hj, rfl⟩ := nI_of h0
  refine ⟨j, ?_, hj, rfl⟩
  rcases Nat.eq_zero_or_pos j with hz | hz
  · subst hz
    exact absurd (by decide +kernel) h
  · exact hz
theorem i_vc_append {k : Nat} {u : SX} {v : SY} (I : i_Rel k u v) (hk : k + 4 ≤ 2048) (v1 : Int32) : wpX_append (fun r u' => wpY_append (fun r' v' => r' = r ∧ i_Rel (k + 4) u' v') v v1) u v1 := by
  obtain ⟨e, c, F, pt, nu, dn, lg, hn, fr, cn, st, vl, rfl, rfl, he, hc, hP, hh⟩ := I
  unfold wpX_append
  dsimp only
  refine pk_lt e 40 (fun hlt => ?_) (fun hge => ?_)
  · refine ml_xleaf ⟨vp_in_nI (by omega) (by omega), nm_r (e' := upd pt e (ml_lf v1)) (by rw [nI_clamp (by omega)]) (nm_r (nI_1 e) ⟨6, ?_⟩)⟩
    refine ml_xap (lg := upd lg e v1) hlt (fun pt' hP' => ?_) 5 0 (e + 1) _ rfl (by omega) (ml_PI0 hP hlt v1)
    unfold wpY_append
    dsimp only
    refine pk_eq e 40 (fun h => absurd h (by omega)) (fun _ => ⟨vp_in_nI hlt (by omega), nm_r (e' := upd lg e v1) (by rw [nI_clamp (by omega)]) (nm_r (nI_1 e) ⟨rfl, ml_rel (by omega) hc hP' hh⟩)⟩)
  · have h40 : e = 40 := by omega
    subst h40
    unfold wpY_append
    dsimp only
    exact br_t rfl ⟨rfl, ml_rel he hc hP hh⟩
theorem i_vc_root {k : Nat} {u : SX} {v : SY} (I : i_Rel k u v) (hk : k + 4 ≤ 2048) (v1 : Int32) : wpX_root (fun r => wpY_root (fun r' v' => r' = r ∧ i_Rel (k + 4) u v') v v1) u v1 := by
  obtain ⟨e, c, F, pt, nu, dn, lg, hn, fr, cn, st, vl, rfl, rfl, he, hc, hP, hh⟩ := I
  unfold wpX_root
  dsimp only
  unfold wpY_root
  dsimp only
  by_cases h1 : v1 < 1
  · exact br_t h1 (br_t h1 ⟨rfl, ml_rel he hc hP hh⟩)
  · obtain ⟨n, hn1, hn2, rfl⟩ := ml_pos h1
    by_cases h2 : n ≤ e
    · have h2' : nI n ≤ nI e := nI_le h2 (by omega)
      refine br_f h1 (br_t h2' ?_)
      refine ml_xrr (lo := 0) (n := n) hP he (by omega) hn1 (ml_A0 n) rfl (by rw [Nat.zero_add]) ?_
      refine br_f h1 (br_t h2' ?_)
      exact ml_yroot (f := 0) (n := n) hn1 (by omega) rfl rfl (fun fr' cn' st' vl' => ⟨rfl, ml_rel he hc hP hh⟩)
    · have h2' : ¬ nI n ≤ nI e := nI_ge (by omega) hn2
      exact br_f h1 (br_f h2' (br_f h1 (br_f h2' ⟨rfl, ml_rel he hc hP hh⟩)))
theorem i_vc_path {k : Nat} {u : SX} {v : SY} (I : i_Rel k u v) (hk : k + 4 ≤ 2048) (v1 : Int32) (v2 : Int32) : wpX_path (fun r u' => wpY_path (fun r' v' => r' = r ∧ i_Rel (k + 4) u' v') v v1 v2) u v1 v2 := by
  obtain ⟨e, c, F, pt, nu, dn, lg, hn, fr, cn, st, vl, rfl, rfl, he, hc, hP, hh⟩ := I
  unfold wpX_path
  dsimp only
  unfold wpY_path
  dsimp only
  by_cases h1 : v2 < 1
  · exact br_t h1 (br_t h1 ⟨rfl, ml_rel he hc hP hh⟩)
  · obtain ⟨n, hn1, hn2, rfl⟩ := ml_pos h1
    refine br_f h1 ?_
    by_cases h2 : nI e < nI n
    · exact br_t h2 (br_f h1 (br_t h2 ⟨rfl, ml_rel he hc hP hh⟩))
    · refine br_f h2 ?_
      by_cases h3 : v1 < 0
      · exact br_t h3 (br_f h1 (br_f h2 (br_t h3 ⟨rfl, ml_rel he hc hP hh⟩)))
      · obtain ⟨en, hen, rfl⟩ := nI_of h3
        refine br_f h3 ?_
        by_cases h4 : nI en < nI n
        · have hne : n ≤ e := by
            rw [nI_ltI (by omega) hn2] at h2
            omega
          have hlt : en < n := (nI_ltI hen hn2).mp h4
          obtain ⟨s', dn', hs', hX, hY⟩ := ml_pl hP he en 6 0 0 n dn rfl hn1 (by omega) (by omega) (by omega) (ml_A0 n)
          rw [Nat.zero_add] at hX
          refine br_t h4 ⟨7, hX _ _ _ ?_⟩
          unfold wX_path_100
          refine ml_xturn (by omega) (fun nu' hnu => ?_)
          dsimp only
          refine br_f h1 (br_f h2 (br_f h3 (br_t h4 ⟨7, hY _ _ _ _ _ _ (fun j hj => absurd hj (by omega)) (fun hn' fr' cn' st' vl' hg => ?_)⟩)))
          unfold wY_path_158
          refine ml_yturn (by omega) (fun hn2 hn2h => ?_)
          exact ⟨rfl, ml_rel he (by omega) hP (fun j hj => by rw [hnu j hj, hn2h j hj, hg _ (by omega)])⟩
        · exact br_f h4 (br_f h1 (br_f h2 (br_f h3 (br_f h4 ⟨rfl, ml_rel he hc hP hh⟩))))
theorem i_vc_steps {k : Nat} {u : SX} {v : SY} (I : i_Rel k u v) (hk : k + 4 ≤ 2048) (v1 : Int32) (v2 : Int32) : wpX_steps (fun r u' => wpY_steps (fun r' v' => r' = r ∧ i_Rel (k + 4) u' v') v v1 v2) u v1 v2 := by
  obtain ⟨e, c, F, pt, nu, dn, lg, hn, fr, cn, st, vl, rfl, rfl, he, hc, hP, hh⟩ := I
  unfold wpX_steps
  dsimp only
  unfold wpY_steps
  dsimp only
  by_cases h1 : v1 < 1
  · exact br_t h1 (br_t h1 ⟨rfl, ml_rel he hc hP hh⟩)
  · obtain ⟨en, hn1, hn2, rfl⟩ := ml_pos h1
    refine br_f h1 ?_
    by_cases h2 : v2 < nI en
    · exact br_t h2 (br_f h1 (br_t h2 ⟨rfl, ml_rel he hc hP hh⟩))
    · refine br_f h2 ?_
      by_cases h3 : v2 ≤ nI e
      · have h20 : ¬ v2 < 0 := by
          intro h0
          apply h2
          rw [Int32.lt_iff_toInt_lt] at h0 ⊢
          have a : (0 : Int32).toInt = 0 := by decide
          rw [a] at h0
          rw [nI_toInt hn2]
          omega
        obtain ⟨n, hnn, rfl⟩ := nI_of h20
        have hne : n ≤ e := (nI_leI hnn (by omega)).mp h3
        have hle : en ≤ n := by
          rw [nI_ltI hnn hn2] at h2
          omega
        obtain ⟨s', lo', n', dn', hs', g1, g2, g3, hX, hY⟩ := ml_sl hP he en 6 0 0 n dn rfl (by omega) (by omega) (by omega) (ml_A0 n)
        rw [Nat.zero_add] at hX
        refine br_t h3 ⟨7, hX _ _ _ ?_⟩
        unfold wX_steps_94
        rcases Nat.eq_zero_or_pos lo' with hz | hz
        · subst hz
          refine br_t (by decide +kernel) ?_
          unfold wX_steps_105
          refine ml_xturn (by omega) (fun nu' hnu => ?_)
          dsimp only
          refine br_f h1 (br_f h2 (br_t h3 ⟨7, hY _ _ _ _ _ _ (fun j hj => absurd hj (by omega)) (fun hn' fr' cn' st' vl' hg => ?_)⟩))
          unfold wY_steps_177
          refine br_f (by decide +kernel) ?_
          unfold wY_steps_197
          refine ml_yturn (by omega) (fun hn2 hn2h => ?_)
          exact ⟨rfl, ml_rel he (by omega) hP (fun j hj => by rw [hnu j hj, hn2h j hj, hg _ (by omega)])⟩
        · refine br_f (nI_nle hz (by omega)) ?_
          refine ml_xnote (lo := lo') (n := n') hP he g2 g1 g3 rfl rfl (by omega) ?_
          dsimp only
          unfold wX_steps_105
          refine ml_xturn (by omega) (fun nu' hnu => ?_)
          dsimp only
          refine br_f h1 (br_f h2 (br_t h3 ⟨7, hY _ _ _ _ _ _ (fun j hj => absurd hj (by omega)) (fun hn' fr' cn' st' vl' hg => ?_)⟩))
          unfold wY_steps_177
          refine br_t (ml_wp hz) ?_
          refine ml_yroot (f := lo') (n := n') g1 (by omega) rfl rfl (fun fr2 cn2 st2 vl2 => ?_)
          dsimp only
          refine ml_yhold (by omega) ?_
          dsimp only
          unfold wY_steps_197
          refine ml_yturn (by omega) (fun hn2 hn2h => ?_)
          have hg2 := ml_agr (v := ml_t lg lo' n') hg
          exact ⟨rfl, ml_rel he (by omega) hP (fun j hj => by rw [hnu j hj, hn2h j hj, hg2 _ (by omega)])⟩
      · exact br_f h3 (br_f h1 (br_f h2 (br_f h3 ⟨rfl, ml_rel he hc hP hh⟩)))
theorem i_vc_hand {k : Nat} {u : SX} {v : SY} (I : i_Rel k u v) (hk : k + 4 ≤ 2048) (v1 : Int32) : wpX_hand (fun r => wpY_hand (fun r' => r' = r ∧ i_Rel (k + 4) u v) v v1) u v1 := by
  obtain ⟨e, c, F, pt, nu, dn, lg, hn, fr, cn, st, vl, rfl, rfl, he, hc, hP, hh⟩ := I
  unfold wpX_hand
  dsimp only
  unfold wpY_hand
  dsimp only
  by_cases h1 : v1 < 0
  · exact br_t h1 (br_t h1 ⟨rfl, ml_rel he hc hP hh⟩)
  · obtain ⟨j, hj, rfl⟩ := nI_of h1
    by_cases h2 : nI j < nI c
    · have hjc : j < c := (nI_ltI hj (by omega)).mp h2
      have hv : vp_in (nI j) 16 := vp_in_nI (by omega) (by omega)
      refine br_f h1 (br_t h2 ⟨hv, br_f h1 (br_t h2 ⟨hv, ?_, ml_rel he hc hP hh⟩)⟩)
      rw [nI_clamp hj, hh j hjc]
    · exact br_f h1 (br_f h2 (br_f h1 (br_f h2 ⟨rfl, ml_rel he hc hP hh⟩)))
theorem i_vc_held {k : Nat} {u : SX} {v : SY} (I : i_Rel k u v) (hk : k + 4 ≤ 2048) : wpX_held (fun r => wpY_held (fun r' => r' = r ∧ i_Rel (k + 4) u v) v) u := by
  obtain ⟨e, c, F, pt, nu, dn, lg, hn, fr, cn, st, vl, rfl, rfl, he, hc, hP, hh⟩ := I
  exact ⟨rfl, ml_rel he hc hP hh⟩
theorem i_vc_alter {k : Nat} {u : SX} {v : SY} (I : i_Rel k u v) (hk : k + 4 ≤ 2048) (v1 : Int32) (v2 : Int32) : wpX_alter (fun r u' => wpY_alter (fun r' v' => r' = r ∧ i_Rel (k + 4) u' v') v v1 v2) u v1 v2 := by
  obtain ⟨e, c, F, pt, nu, dn, lg, hn, fr, cn, st, vl, rfl, rfl, he, hc, hP, hh⟩ := I
  unfold wpX_alter
  dsimp only
  unfold wpY_alter
  dsimp only
  by_cases h1 : v1 < 0
  · exact br_t h1 (br_t h1 ⟨rfl, ml_rel he hc hP hh⟩)
  · obtain ⟨j, hj, rfl⟩ := nI_of h1
    by_cases h2 : nI j < nI c
    · have hjc : j < c := (nI_ltI hj (by omega)).mp h2
      have hv : vp_in (nI j) 16 := vp_in_nI (by omega) (by omega)
      have hcl : (nI j).toNatClampNeg = j := nI_clamp hj
      refine br_f h1 (br_t h2 ⟨hv, nm_r (e' := upd nu j v2) (by rw [hcl]) (br_f h1 (br_t h2 ⟨hv, nm_r (e' := upd hn j v2) (by rw [hcl]) ⟨rfl, ml_rel he hc hP (fun i hi => ?_)⟩⟩))⟩)
      by_cases z : i = j
      · subst z
        rw [pk_us, pk_us]
      · rw [pk_un z, pk_un z]
        exact hh i hi
    · exact br_f h1 (br_f h2 (br_f h1 (br_f h2 ⟨rfl, ml_rel he hc hP hh⟩)))
theorem i_vc_drop {k : Nat} {u : SX} {v : SY} (I : i_Rel k u v) (hk : k + 4 ≤ 2048) : wpX_drop (fun u' => wpY_drop (fun v' => i_Rel (k + 4) u' v') v) u := by
  obtain ⟨e, c, F, pt, nu, dn, lg, hn, fr, cn, st, vl, rfl, rfl, he, hc, hP, hh⟩ := I
  exact ml_rel (k := k + 4) (c := 0) he (by omega) hP (fun j hj => absurd hj (by omega))
theorem i_vc_take {k : Nat} {u : SX} {v : SY} (I : i_Rel k u v) (hk : k + 4 ≤ 2048) (v1 : Int32) : wpX_take (fun r u' => wpY_take (fun r' v' => r' = r ∧ i_Rel (k + 4) u' v') v v1) u v1 := by
  obtain ⟨e, c, F, pt, nu, dn, lg, hn, fr, cn, st, vl, rfl, rfl, he, hc, hP, hh⟩ := I
  unfold wpX_take
  dsimp only
  unfold wpY_take
  dsimp only
  have hcl : (nI c).toNatClampNeg = c := nI_clamp (by omega)
  refine pk_lt c 16 (fun hlt => ?_) (fun hge => ?_)
  · have hv : vp_in (nI c) 16 := vp_in_nI hlt (by omega)
    refine ⟨hv, nm_r (e' := upd nu c v1) (by rw [hcl]) (nm_r (nI_1 c) ?_)⟩
    refine pk_eq c 16 (fun h => absurd h (by omega)) (fun _ => ⟨hv, nm_r (e' := upd hn c v1) (by rw [hcl]) (nm_r (nI_1 c) ⟨rfl, ml_rel he (by omega) hP (ml_agr hh)⟩)⟩)
  · have h16 : c = 16 := by omega
    subst h16
    exact br_t rfl ⟨rfl, ml_rel he hc hP hh⟩
theorem i_vc_rootFrom {k : Nat} {u : SX} {v : SY} (I : i_Rel k u v) (hk : k + 4 ≤ 2048) (v1 : Int32) (v2 : Int32) (v3 : Int32) : wpX_rootFrom (fun r => wpY_rootFrom (fun r' => r' = r ∧ i_Rel (k + 4) u v) v v1 v2 v3) u v1 v2 v3 := by
  obtain ⟨e, c, F, pt, nu, dn, lg, hn, fr, cn, st, vl, rfl, rfl, he, hc, hP, hh⟩ := I
  unfold wpX_rootFrom
  dsimp only
  unfold wpY_rootFrom
  dsimp only
  by_cases h1 : v2 < 1
  · exact br_t h1 (br_t h1 ⟨rfl, ml_rel he hc hP hh⟩)
  · obtain ⟨sz, hs1, hs2, rfl⟩ := ml_pos h1
    refine br_f h1 ?_
    by_cases h2 : (40 : Int32) < nI sz
    · exact br_t h2 (br_f h1 (br_t h2 ⟨rfl, ml_rel he hc hP hh⟩))
    · have h40 : sz ≤ 40 := by
        rcases Nat.lt_or_ge 40 sz with h | h
        · exact absurd (nI_lt (a := 40) h hs2) h2
        · exact h
      refine br_f h2 ?_
      by_cases h3 : v1 < 0
      · exact br_t h3 (br_f h1 (br_f h2 (br_t h3 ⟨rfl, ml_rel he hc hP hh⟩)))
      · obtain ⟨en, hen, rfl⟩ := nI_of h3
        refine br_f h3 ?_
        by_cases h4 : en < sz
        · refine br_t (nI_lt h4 hs2) (nm_r (e' := nI (sz - 1)) (pk_sub (b := 1) hs1) (ml_xleaf ⟨7, ?_⟩))
          have hsd := ml_side sz (by omega) en h4
          have hpw : (64 : Nat) = 2 ^ 6 := by decide
          refine ml_xrf hc 6 en (sz - 1) 0 _ (by omega) (by omega) hen (by omega) ?_
          refine br_f h1 (br_f h2 (br_f h3 (br_f (nI_ge h4 hs2) (ml_ydepth (by omega) hen ?_))))
          rw [hsd, List.length_reverse, Nat.zero_add]
          have hlen : (ml_ys 6 sz en).length < 2 ^ 31 := by
            have hq : ∀ d n m : Nat, (ml_ys d n m).length ≤ d := by
              intro d
              induction d with
              | zero => exact fun n m => Nat.le_refl 0
              | succ d ih =>
                intro n m
                rw [ml_ys_s]
                split
                · exact Nat.zero_le _
                · split
                  · rw [List.length_cons]
                    exact Nat.succ_le_succ (ih _ _)
                  · rw [List.length_cons]
                    exact Nat.succ_le_succ (ih _ _)
            have := hq 6 sz en
            omega
          refine pk_eq c (ml_ys 6 sz en).length (fun heq => ml_yleaf ⟨c + 1, ?_⟩) (fun hne => ?_)
          · rw [if_pos heq.symm]
            refine ml_yrf hc (by omega) hen heq.symm c 0 _ (by omega) ⟨?_, ml_rel he hc hP hh⟩
            rw [List.drop_zero]
            exact (ml_fo_c hh _ 0 _ (by rw [List.length_reverse]; omega)).symm
          · rw [if_neg (fun h => hne h.symm)]
            exact ⟨rfl, ml_rel he hc hP hh⟩
        · exact br_f (nI_nlt (by omega) hen) (br_f h1 (br_f h2 (br_f h3 (br_t (nI_le (by omega) hen) ⟨rfl, ml_rel he hc hP hh⟩))))
end
