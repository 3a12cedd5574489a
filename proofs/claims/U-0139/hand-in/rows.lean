section
theorem pk_us {f : Nat → Int32} {k : Nat} {x : Int32} : upd f k x k = x := if_pos rfl
theorem pk_un {f : Nat → Int32} {k j : Nat} {x : Int32} (h : j ≠ k) : upd f k x j = f j := if_neg h
theorem pk_sub {a b : Nat} (h : b ≤ a) : nI a - nI b = nI (a - b) := by
  obtain ⟨c, rfl⟩ : ∃ c, a = c + b := ⟨a - b, by omega⟩
  rw [← nI_add, Int32.add_sub_cancel, Nat.add_sub_cancel]
theorem pk_m1 (n : Nat) : nI (n + 1) + (-1) = nI n := by
  rw [← nI_1, Int32.add_assoc, show (1 : Int32) + (-1) = 0 from rfl, Int32.add_zero]
theorem pk_mul (a b : Nat) : nI a * nI b = nI (a * b) := (Int32.ofNat_mul a b).symm
theorem pk_sub_toInt {a b : Nat} (ha : a < 2 ^ 30) (hb : b < 2 ^ 30) : (nI a - nI b).toInt = (a : Int) - b := by
  rw [Int32.toInt_sub, nI_toInt (by omega), nI_toInt (by omega)]
  exact Int.bmod_eq_of_le (by omega) (by omega)
theorem pk_sneg {a b : Nat} (hb : b < 2 ^ 30) (h : a < b) : nI a - nI b < 0 := by
  rw [Int32.lt_iff_toInt_lt, pk_sub_toInt (by omega) hb, show (0 : Int32).toInt = 0 from by decide]
  omega
theorem pk_ix (x : Int32) {n : Nat} (hn : n < 2 ^ 31) : x < 0 ∨ nI n ≤ x ∨ ∃ j : Nat, j < n ∧ x = nI j := by
  by_cases h : x < 0
  · exact Or.inl h
  · obtain ⟨j, hj, rfl⟩ := nI_of h
    by_cases h2 : j < n
    · exact Or.inr (Or.inr ⟨j, h2, rfl⟩)
    · exact Or.inr (Or.inl (nI_le (by omega) hj))
theorem pk_le {x y : Int32} {A B : Prop} (a b : Nat) (f : a ≤ b → A) (g : b < a → B) (hx : x = nI a := by rfl) (hy : y = nI b := by rfl) (ha : a < 2 ^ 31 := by omega) (hb : b < 2 ^ 31 := by omega) : (x ≤ y → A) ∧ (¬ x ≤ y → B) := by
  subst hx hy
  rw [nI_leI ha hb]
  exact ⟨f, fun z => g (by omega)⟩
theorem pk_lt {x y : Int32} {A B : Prop} (a b : Nat) (f : a < b → A) (g : b ≤ a → B) (hx : x = nI a := by rfl) (hy : y = nI b := by rfl) (ha : a < 2 ^ 31 := by omega) (hb : b < 2 ^ 31 := by omega) : (x < y → A) ∧ (¬ x < y → B) := by
  subst hx hy
  rw [nI_ltI ha hb]
  exact ⟨f, fun z => g (by omega)⟩
theorem pk_eq {x y : Int32} {A B : Prop} (a b : Nat) (f : a = b → A) (g : a ≠ b → B) (hx : x = nI a := by rfl) (hy : y = nI b := by rfl) (ha : a < 2 ^ 31 := by omega) (hb : b < 2 ^ 31 := by omega) : (x = y → A) ∧ (¬ x = y → B) := by
  subst hx hy
  rw [nI_eq ha hb]
  exact ⟨f, g⟩
theorem pk_in {x : Int32} (n N : Nat) (h : n < N) (hx : x = nI n := by rfl) (hN : N < 2 ^ 31 := by omega) : vp_in x N := by
  subst hx
  exact vp_in_nI h hN
theorem pk_cl {x : Int32} (n : Nat) (hx : x = nI n := by rfl) (h : n < 2 ^ 31 := by omega) : x.toNatClampNeg = n := by
  subst hx
  exact nI_clamp h
theorem pk_tn {n : Nat} (h : n < 2 ^ 32) : (nI n).toBitVec.toNat = n := Nat.mod_eq_of_lt h
theorem pk_and (x : Int32) {m : Int32} (k : Nat) (hm : m.toBitVec.toNat = 2 ^ k - 1) : x &&& m = nI (x.toBitVec.toNat % 2 ^ k) := by
  apply Int32.toBitVec_inj.mp
  apply BitVec.eq_of_toNat_eq
  rw [Int32.toBitVec_and, BitVec.toNat_and, hm, Nat.and_two_pow_sub_one_eq_mod]
  show _ = (BitVec.ofNat 32 _).toNat
  rw [BitVec.toNat_ofNat]
  exact (Nat.mod_eq_of_lt (Nat.lt_of_le_of_lt (Nat.mod_le _ _) x.toBitVec.isLt)).symm
theorem pk_andN {n : Nat} (h : n < 2 ^ 32) {m : Int32} (k : Nat) (hm : m.toBitVec.toNat = 2 ^ k - 1) : nI n &&& m = nI (n % 2 ^ k) := by
  rw [pk_and _ k hm, pk_tn h]
theorem pk_andE (x : Int32) {m : Int32} (k : Nat) (hm : m.toBitVec.toNat = 2 ^ k - 1) : ∃ j : Nat, j < 2 ^ k ∧ x &&& m = nI j := ⟨_, Nat.mod_lt _ (Nat.two_pow_pos k), pk_and x k hm⟩
theorem pk_shl (a s : Int32) (k : Nat) (hs : (s.toBitVec.smod 32).toNat = k) : (a <<< s).toBitVec.toNat = a.toBitVec.toNat * 2 ^ k % 2 ^ 32 := by
  show (a.toBitVec <<< (s.toBitVec.smod 32).toNat).toNat = _
  rw [hs, BitVec.toNat_shiftLeft, Nat.shiftLeft_eq]
theorem pk_shlN {n : Nat} (s : Int32) (k : Nat) (hs : (s.toBitVec.smod 32).toNat = k) (h : n * 2 ^ k < 2 ^ 32) : nI n <<< s = nI (n * 2 ^ k) := by
  apply Int32.toBitVec_inj.mp
  apply BitVec.eq_of_toNat_eq
  have hn : n < 2 ^ 32 := Nat.lt_of_le_of_lt (Nat.le_mul_of_pos_right n (Nat.two_pow_pos k)) h
  rw [pk_shl _ _ k hs, pk_tn hn, pk_tn h, Nat.mod_eq_of_lt h]
theorem pk_shr (a s : Int32) (k : Nat) (hs : (s.toBitVec.smod 32).toNat = k) : (a >>> s).toInt = a.toInt >>> k := by
  show (a.toBitVec.sshiftRight (s.toBitVec.smod 32).toNat).toInt = _
  rw [hs, BitVec.toInt_sshiftRight]
  rfl
theorem pk_shrN {n : Nat} (h : n < 2 ^ 31) (s : Int32) (k : Nat) (hs : (s.toBitVec.smod 32).toNat = k) : nI n >>> s = nI (n / 2 ^ k) := by
  apply Int32.toInt_inj.mp
  have h2 : n / 2 ^ k ≤ n := Nat.div_le_self _ _
  rw [pk_shr _ _ k hs, nI_toInt h, nI_toInt (by omega), Int.shiftRight_eq_div_pow]
  rfl
theorem sb_shr0 (x : Int32) : x >>> ((0 : Int32) &&& 31) = x := by
  rw [show ((0 : Int32) &&& 31) = 0 by decide]
  simp
theorem sb_shl0 (x : Int32) : x <<< ((0 : Int32) &&& 31) = x := by
  rw [show ((0 : Int32) &&& 31) = 0 by decide]
  simp
theorem sb_m1 {p : Nat} (h : 0 < p) : nI p + (-1) = nI (p - 1) := by
  obtain ⟨q, rfl⟩ : ∃ q, p = q + 1 := ⟨p - 1, by omega⟩
  exact pk_m1 q
end
section
def hp_kg (f : Nat) : Bool := f % 2 == 1
def hp_kn : Bool → Nat
  | true => 2
  | false => 1
def hp_kI (b : Bool) : Int32 := nI (hp_kn b)
def hp_bI : Bool → Int32
  | true => 1
  | false => 0
def hp_tk (o : Int32) : Nat := if o ≤ 5 then 0 else if o ≤ 8 then 1 else if o ≤ 13 then 2 else 3
def hp_pk (o a : Int32) : Bool := if o = 14 then hp_kg a.toNatClampNeg else decide (o = 3 ∨ o = 4 ∨ o = 5 ∨ o = 7 ∨ o = 9)
def hp_ta (o a : Int32) (st : List Bool) : List Bool := if o = 15 ∨ o = 16 then [] else hp_pk o a :: st.drop (hp_tk o)
def hp_kd : List Bool → Nat → Nat
  | [], _ => 0
  | k :: _, 0 => hp_kn k
  | _ :: r, d + 1 => hp_kd r d
def hp_sc (o a : Nat → Int32) : Nat → List Bool
  | 0 => []
  | i + 1 => hp_ta (o i) (a i) (hp_sc o a i)
def hp_gd (o : Nat → Int32) : Nat → Bool
  | 0 => false
  | i + 1 => if o i = 15 then true else if o i = 16 then false else hp_gd o i
def hp_cc (o : Nat → Int32) : Nat → Nat
  | 0 => 0
  | i + 1 => if o i = 9 then hp_cc o i + 1 else hp_cc o i
def hp_fit (o : Int32) (f : Nat) (st : List Bool) (g : Bool) : Prop :=
  (5 < o → o ≤ 8 → hp_kd st 0 = 2) ∧ (o = 9 → hp_kd st 0 = 2 ∧ hp_kd st 1 = 1) ∧ (9 < o → o ≤ 13 → hp_kd st 0 = 1 ∧ hp_kd st 1 = 1) ∧
  (o = 14 → hp_kd st 0 = 2 ∧ hp_kd st 1 = 2 ∧ hp_kd st 2 = 1) ∧ (o = 15 → g = false ∧ st.length = 1 ∧ hp_kd st 0 = 1) ∧ (o = 16 → st.length = 1 ∧ hp_kd st 0 = hp_kn (hp_kg f))
def hp_ps (o : Nat → Int32) : Nat → Nat → Nat → Bool
  | 0, _, _ => false
  | d + 1, i, b => if o i = 16 then true else if o i = 14 ∨ o i = 15 then false
    else if 5 < o i then
      (if 8 < o i then
        (if b < 2 then (if o i = 13 then false else if o i = 9 then (if b = 1 then false else hp_ps o d (i + 1) 0) else hp_ps o d (i + 1) 0)
        else hp_ps o d (i + 1) (b - 1))
      else (if b = 0 then false else hp_ps o d (i + 1) b))
    else hp_ps o d (i + 1) (b + 1)
def hp_pa (o : Nat → Int32) (n i : Nat) : Bool := hp_ps o (n - (i + 1)) (i + 1) 0
def hp_hc (o : Nat → Int32) (n : Nat) : Nat → Nat
  | 0 => 0
  | i + 1 => if o i = 14 ∧ hp_pa o n i = false then hp_hc o n i + 1 else hp_hc o n i
def hp_jm (o : Nat → Int32) : Nat → Nat → Nat
  | 0, i => i + 1
  | d + 1, i => if o i = 16 then i + 1 else hp_jm o d (i + 1)
def hp_Wd (o a : Nat → Int32) (f n : Nat) : Prop := ∀ i, i < n → 1 ≤ o i ∧ o i ≤ 16 ∧ (o i = 14 → ∃ g, g < 4 ∧ a i = nI g) ∧ hp_fit (o i) f (hp_sc o a i) (hp_gd o i) ∧ (hp_sc o a (i + 1)).length ≤ 6
def hp_Cm (o : Nat → Int32) (n : Nat) : Prop := n = 0 ∨ (o (n - 1) = 16 ∧ hp_gd o (n - 1) = false)
abbrev hp_o (ops : Nat → Int32) (f : Nat) : Nat → Int32 := fun i => ops (f * 48 + i)
def hp_N (len : Nat → Int32) (f : Nat) : Nat := (len f).toNatClampNeg

theorem hp_16 {o : Int32} (h1 : 1 ≤ o) (h2 : o ≤ 16) : o = 1 ∨ o = 2 ∨ o = 3 ∨ o = 4 ∨ o = 5 ∨ o = 6 ∨ o = 7 ∨ o = 8 ∨ o = 9 ∨ o = 10 ∨ o = 11 ∨ o = 12 ∨ o = 13 ∨ o = 14 ∨ o = 15 ∨ o = 16 := by
  have h0 : ¬ o < 0 := by
    rw [Int32.lt_iff_toInt_lt]
    rw [Int32.le_iff_toInt_le] at h1
    have a : (0 : Int32).toInt = 0 := by decide
    have b : (1 : Int32).toInt = 1 := by decide
    omega
  obtain ⟨j, hj, rfl⟩ := nI_of2 (M := 16) (n := 16) (by decide) h0 h2
  clear h0 h2
  have hc : j = 0 ∨ j = 1 ∨ j = 2 ∨ j = 3 ∨ j = 4 ∨ j = 5 ∨ j = 6 ∨ j = 7 ∨ j = 8 ∨ j = 9 ∨ j = 10 ∨ j = 11 ∨ j = 12 ∨ j = 13 ∨ j = 14 ∨ j = 15 ∨ j = 16 := by omega
  rcases hc with rfl | rfl | rfl | rfl | rfl | rfl | rfl | rfl | rfl | rfl | rfl | rfl | rfl | rfl | rfl | rfl | rfl
  · exact absurd h1 (by decide)
  · exact Or.inl rfl
  · exact Or.inr (Or.inl rfl)
  · exact Or.inr (Or.inr (Or.inl rfl))
  · exact Or.inr (Or.inr (Or.inr (Or.inl rfl)))
  · exact Or.inr (Or.inr (Or.inr (Or.inr (Or.inl rfl))))
  · exact Or.inr (Or.inr (Or.inr (Or.inr (Or.inr (Or.inl rfl)))))
  · exact Or.inr (Or.inr (Or.inr (Or.inr (Or.inr (Or.inr (Or.inl rfl))))))
  · exact Or.inr (Or.inr (Or.inr (Or.inr (Or.inr (Or.inr (Or.inr (Or.inl rfl)))))))
  · exact Or.inr (Or.inr (Or.inr (Or.inr (Or.inr (Or.inr (Or.inr (Or.inr (Or.inl rfl))))))))
  · exact Or.inr (Or.inr (Or.inr (Or.inr (Or.inr (Or.inr (Or.inr (Or.inr (Or.inr (Or.inl rfl)))))))))
  · exact Or.inr (Or.inr (Or.inr (Or.inr (Or.inr (Or.inr (Or.inr (Or.inr (Or.inr (Or.inr (Or.inl rfl))))))))))
  · exact Or.inr (Or.inr (Or.inr (Or.inr (Or.inr (Or.inr (Or.inr (Or.inr (Or.inr (Or.inr (Or.inr (Or.inl rfl)))))))))))
  · exact Or.inr (Or.inr (Or.inr (Or.inr (Or.inr (Or.inr (Or.inr (Or.inr (Or.inr (Or.inr (Or.inr (Or.inr (Or.inl rfl))))))))))))
  · exact Or.inr (Or.inr (Or.inr (Or.inr (Or.inr (Or.inr (Or.inr (Or.inr (Or.inr (Or.inr (Or.inr (Or.inr (Or.inr (Or.inl rfl)))))))))))))
  · exact Or.inr (Or.inr (Or.inr (Or.inr (Or.inr (Or.inr (Or.inr (Or.inr (Or.inr (Or.inr (Or.inr (Or.inr (Or.inr (Or.inr (Or.inl rfl))))))))))))))
  · exact Or.inr (Or.inr (Or.inr (Or.inr (Or.inr (Or.inr (Or.inr (Or.inr (Or.inr (Or.inr (Or.inr (Or.inr (Or.inr (Or.inr (Or.inr (rfl)))))))))))))))
theorem hp_kdl {st : List Bool} (h : hp_kd st 0 = 2) : ∃ r, st = true :: r := by
  cases st with
  | nil => exact absurd h (by decide)
  | cons k r => cases k with
    | true => exact ⟨r, rfl⟩
    | false => exact absurd h (by simp [hp_kd, hp_kn])
theorem hp_kdi {st : List Bool} (h : hp_kd st 0 = 1) : ∃ r, st = false :: r := by
  cases st with
  | nil => exact absurd h (by decide)
  | cons k r => cases k with
    | false => exact ⟨r, rfl⟩
    | true => exact absurd h (by simp [hp_kd, hp_kn])
theorem hp_fu {o : Int32} {f : Nat} {st : List Bool} {g : Bool} (h : hp_fit o f st g) (h5 : 5 < o) (h8 : o ≤ 8) : ∃ r, st = true :: r := hp_kdl (h.1 h5 h8)
theorem hp_fc {f : Nat} {st : List Bool} {g : Bool} (h : hp_fit 9 f st g) : ∃ r, st = true :: false :: r := by
  have h1 := h.2.1 rfl
  obtain ⟨r, rfl⟩ := hp_kdl h1.1
  obtain ⟨r, rfl⟩ := hp_kdi (st := r) h1.2
  exact ⟨r, rfl⟩
theorem hp_fb {o : Int32} {f : Nat} {st : List Bool} {g : Bool} (h : hp_fit o f st g) (h9 : 9 < o) (h13 : o ≤ 13) : ∃ r, st = false :: false :: r := by
  have h1 := h.2.2.1 h9 h13
  obtain ⟨r, rfl⟩ := hp_kdi h1.1
  obtain ⟨r, rfl⟩ := hp_kdi (st := r) h1.2
  exact ⟨r, rfl⟩
theorem hp_fk {f : Nat} {st : List Bool} {g : Bool} (h : hp_fit 14 f st g) : ∃ r, st = true :: true :: false :: r := by
  have h1 := h.2.2.2.1 rfl
  obtain ⟨r, rfl⟩ := hp_kdl h1.1
  obtain ⟨r, rfl⟩ := hp_kdl (st := r) h1.2.1
  obtain ⟨r, rfl⟩ := hp_kdi (st := r) h1.2.2
  exact ⟨r, rfl⟩
theorem hp_ft {f : Nat} {st : List Bool} {g : Bool} (h : hp_fit 15 f st g) : g = false ∧ st = [false] := by
  have h1 := h.2.2.2.2.1 rfl
  obtain ⟨r, rfl⟩ := hp_kdi h1.2.2
  have h2 : r.length = 0 := by have := h1.2.1; simp only [List.length_cons] at this; omega
  rw [List.eq_nil_of_length_eq_zero h2]
  exact ⟨h1.1, rfl⟩
theorem hp_kni {a b : Bool} (h : hp_kn a = hp_kn b) : a = b := by
  cases a <;> cases b <;> first | rfl | exact absurd h (by decide)
theorem hp_fe {f : Nat} {st : List Bool} {g : Bool} (h : hp_fit 16 f st g) : st = [hp_kg f] := by
  have h1 := h.2.2.2.2.2 rfl
  cases st with
  | nil => exact absurd h1.1 (by decide)
  | cons k r =>
    have h2 : r.length = 0 := by have := h1.1; simp only [List.length_cons] at this; omega
    rw [List.eq_nil_of_length_eq_zero h2, hp_kni (a := k) h1.2]

theorem hp_sc_c {o o' a a' : Nat → Int32} {n : Nat} (h : ∀ i, i < n → o i = o' i ∧ a i = a' i) : ∀ i, i ≤ n → hp_sc o a i = hp_sc o' a' i
  | 0, _ => rfl
  | i + 1, hi => by rw [hp_sc, hp_sc, hp_sc_c h i (by omega), (h i (by omega)).1, (h i (by omega)).2]
theorem hp_gd_c {o o' : Nat → Int32} {n : Nat} (h : ∀ i, i < n → o i = o' i) : ∀ i, i ≤ n → hp_gd o i = hp_gd o' i
  | 0, _ => rfl
  | i + 1, hi => by rw [hp_gd, hp_gd, hp_gd_c h i (by omega), h i (by omega)]
theorem hp_cc_c {o o' : Nat → Int32} {n : Nat} (h : ∀ i, i < n → o i = o' i) : ∀ i, i ≤ n → hp_cc o i = hp_cc o' i
  | 0, _ => rfl
  | i + 1, hi => by rw [hp_cc, hp_cc, hp_cc_c h i (by omega), h i (by omega)]
theorem hp_ps_c {o o' : Nat → Int32} {n : Nat} (h : ∀ i, i < n → o i = o' i) : ∀ d i b, i + d ≤ n → hp_ps o d i b = hp_ps o' d i b
  | 0, _, _, _ => rfl
  | d + 1, i, b, hi => by
    rw [hp_ps, hp_ps, h i (by omega), hp_ps_c h d (i + 1) (b + 1) (by omega), hp_ps_c h d (i + 1) b (by omega), hp_ps_c h d (i + 1) (b - 1) (by omega), hp_ps_c h d (i + 1) 0 (by omega)]
theorem hp_pa_c {o o' : Nat → Int32} {n : Nat} (h : ∀ i, i < n → o i = o' i) (i : Nat) : hp_pa o n i = hp_pa o' n i := by
  rcases Nat.lt_or_ge i n with z | z
  · exact hp_ps_c h _ _ _ (by omega)
  · have e : n - (i + 1) = 0 := by omega
    unfold hp_pa
    rw [e]
    rfl
theorem hp_hc_c {o o' : Nat → Int32} {n : Nat} (h : ∀ i, i < n → o i = o' i) : ∀ i, i ≤ n → hp_hc o n i = hp_hc o' n i
  | 0, _ => rfl
  | i + 1, hi => by rw [hp_hc, hp_hc, hp_hc_c h i (by omega), h i (by omega), hp_pa_c h i]
theorem hp_Wd_c {o o' a a' : Nat → Int32} {f n : Nat} (h : ∀ i, i < n → o i = o' i ∧ a i = a' i) (w : hp_Wd o a f n) : hp_Wd o' a' f n := by
  intro i hi
  rw [← hp_sc_c h i (by omega), ← hp_sc_c h (i + 1) (by omega), ← hp_gd_c (fun j hj => (h j hj).1) i (by omega), ← (h i hi).1, ← (h i hi).2]
  exact w i hi
theorem hp_Cm_c {o o' : Nat → Int32} {n : Nat} (h : ∀ i, i < n → o i = o' i) (w : hp_Cm o n) : hp_Cm o' n := by
  rcases w with w | w
  · exact Or.inl w
  · rcases Nat.eq_zero_or_pos n with z | z
    · exact Or.inl z
    · refine Or.inr ?_
      rw [← hp_gd_c h (n - 1) (by omega), ← h (n - 1) (by omega)]
      exact w
theorem hp_cc_m (o : Nat → Int32) (i : Nat) : ∀ k, hp_cc o i ≤ hp_cc o (i + k)
  | 0 => Nat.le_refl _
  | k + 1 => by
    have := hp_cc_m o i k
    show _ ≤ hp_cc o (i + k + 1)
    rw [hp_cc]
    split <;> omega
theorem hp_cc_le {o : Nat → Int32} {i j : Nat} (h : i ≤ j) : hp_cc o i ≤ hp_cc o j := by
  have := hp_cc_m o i (j - i)
  rw [show i + (j - i) = j by omega] at this
  exact this
theorem hp_cc_9 {o : Nat → Int32} {i : Nat} (h : o i = 9) : hp_cc o (i + 1) = hp_cc o i + 1 := by rw [hp_cc, if_pos h]
theorem hp_cc_n {o : Nat → Int32} {i : Nat} (h : o i ≠ 9) : hp_cc o (i + 1) = hp_cc o i := by rw [hp_cc, if_neg h]
theorem hp_sc_0 {o a : Nat → Int32} {i : Nat} (h : o i = 15 ∨ o i = 16) : hp_sc o a (i + 1) = [] := by rw [hp_sc, hp_ta, if_pos h]
theorem hp_jm_l {o : Nat → Int32} {n : Nat} : ∀ d i, i + d = n → (∃ r, i ≤ r ∧ r < n ∧ o r = 16) → ∃ r, i ≤ r ∧ r < n ∧ o r = 16 ∧ (∀ j, i ≤ j → j < r → o j ≠ 16) ∧ hp_jm o d i = r + 1
  | 0, i, hi, h => by obtain ⟨r, h1, h2, _⟩ := h; omega
  | d + 1, i, hi, h => by
    by_cases c : o i = 16
    · exact ⟨i, Nat.le_refl _, by omega, c, fun j h1 h2 => by omega, by rw [hp_jm, if_pos c]⟩
    · have h' : ∃ r, i + 1 ≤ r ∧ r < n ∧ o r = 16 := by
        obtain ⟨r, h1, h2, h3⟩ := h
        rcases Nat.lt_or_ge i r with z | z
        · exact ⟨r, z, h2, h3⟩
        · have : i = r := by omega
          subst this
          exact absurd h3 c
      obtain ⟨r, h1, h2, h3, h4, h5⟩ := hp_jm_l d (i + 1) (by omega) h'
      refine ⟨r, by omega, h2, h3, fun j ha hb => ?_, by rw [hp_jm, if_neg c]; exact h5⟩
      rcases Nat.lt_or_ge i j with z | z
      · exact h4 j z hb
      · have : i = j := by omega
        subst this
        exact c
theorem hp_gd_t {o : Nat → Int32} {p r : Nat} (h : o p = 15) (hn : ∀ j, p < j → j < r → o j ≠ 16) : ∀ k, p + 1 + k ≤ r → hp_gd o (p + 1 + k) = true
  | 0, _ => by show hp_gd o (p + 1) = true; rw [hp_gd, if_pos h]
  | k + 1, hk => by
    show hp_gd o (p + 1 + k + 1) = true
    rw [hp_gd, if_neg (hn (p + 1 + k) (by omega) (by omega)), hp_gd_t h hn k (by omega)]
    split <;> rfl
theorem hp_jm_s {o : Nat → Int32} {n p : Nat} (hp : p < n) (h : o p = 15) (hc : hp_Cm o n) : ∃ r, p < r ∧ r + 1 < n ∧ o r = 16 ∧ (∀ j, p < j → j < r → o j ≠ 16) ∧ hp_jm o (n - (p + 1)) (p + 1) = r + 1 := by
  rcases hc with hc | ⟨h1, h2⟩
  · omega
  · have hne : p ≠ n - 1 := fun e => by rw [← e, h] at h1; exact absurd h1 (by decide)
    obtain ⟨r, a, b, c, d, e⟩ := hp_jm_l (o := o) (n := n) (n - (p + 1)) (p + 1) (by omega) ⟨n - 1, by omega, by omega, h1⟩
    have hg : hp_gd o r = true := by
      have := hp_gd_t (r := r) h (fun j ha hb => d j ha hb) (r - (p + 1)) (by omega)
      rw [show p + 1 + (r - (p + 1)) = r by omega] at this
      exact this
    have : r ≠ n - 1 := fun z => by rw [z, h2] at hg; exact absurd hg (by decide)
    exact ⟨r, a, by omega, c, fun j ha hb => d j ha hb, e⟩
theorem hp_nx {o : Nat → Int32} {n p : Nat} (hp : p < n) (h : o p ≠ 16) (hc : hp_Cm o n) : p + 1 < n := by
  rcases hc with hc | ⟨h1, _⟩
  · omega
  · have : p ≠ n - 1 := fun e => h (by rw [e]; exact h1)
    omega
end
section
def hp_ar (o a b : Int32) : Int32 := if o = 10 then a + b else if o = 11 then a - b else if o = 12 then a * b else if a < b then 1 else 0
def hp_ap (o a nv : Int32) (xs ys : List Int32) (st : List (List Int32)) : List (List Int32) :=
  if o = 1 then [a] :: st else if o = 2 then [nv] :: st else if o = 3 then xs :: st else if o = 4 then ys :: st else if o = 5 then [] :: st
  else if o = 6 then [(st.headD []).headD 0] :: st.drop 1
  else if o = 7 then (st.headD []).tail :: st.drop 1
  else if o = 8 then [if (st.headD []) = [] then 1 else 0] :: st.drop 1
  else if o = 9 then ((st.getD 1 []).headD 0 :: st.headD []) :: st.drop 2
  else [hp_ar o ((st.getD 1 []).headD 0) ((st.headD []).headD 0)] :: st.drop 2
abbrev hp_Out : Type := Sum Int32 (List Int32 × Nat × Nat)
def hp_bd (x : hp_Out) (k : List Int32 → Nat → Nat → hp_Out) : hp_Out :=
  match x with
  | .inl c => .inl c
  | .inr (w, e, dp) => k w e dp
def hp_dd (p : Bool) (d : Nat) : Nat := match p with
  | true => d
  | false => d + 1
def hp_mx (dp d : Nat) : Nat := if d ≤ dp then dp else d
def hp_ev (ops args : Nat → Int32) (N : Nat → Nat) (CL DL : Nat) : Nat → Nat → Nat → Nat → Int32 → List Int32 → List Int32 → List (List Int32) → Nat → Nat → hp_Out
  | 0, _, _, _, _, _, _, _, _, _ => .inl 0
  | n + 1, f, pc, d, nv, xs, ys, st, e, dp =>
    if N f = 0 then .inr (if hp_kg f then [] else [0], e, dp)
    else if ops (f * 48 + pc) = 16 then .inr (st.headD [], e, dp)
    else if ops (f * 48 + pc) = 14 then
      if CL ≤ e then .inl (-7)
      else if DL < hp_dd (hp_pa (hp_o ops f) (N f) pc) d then .inl (-6)
      else hp_bd (hp_ev ops args N CL DL n (args (f * 48 + pc)).toNatClampNeg 0 (hp_dd (hp_pa (hp_o ops f) (N f) pc) d) ((st.getD 2 []).headD 0) (st.getD 1 []) (st.headD []) [] (e + 1) (hp_mx dp (hp_dd (hp_pa (hp_o ops f) (N f) pc) d)))
        (fun w e' dp' => hp_ev ops args N CL DL n f (pc + 1) d nv xs ys (w :: st.drop 3) e' dp')
    else if ops (f * 48 + pc) = 15 then
      if (st.headD []).headD 0 = 0 then hp_ev ops args N CL DL n f (hp_jm (hp_o ops f) (N f - (pc + 1)) (pc + 1)) d nv xs ys [] e dp
      else hp_ev ops args N CL DL n f (pc + 1) d nv xs ys [] e dp
    else hp_ev ops args N CL DL n f (pc + 1) d nv xs ys (hp_ap (ops (f * 48 + pc)) (args (f * 48 + pc)) nv xs ys st) e dp

section
variable {ops args : Nat → Int32} {N : Nat → Nat} {CL DL n f pc d : Nat} {nv : Int32} {xs ys : List Int32} {st : List (List Int32)} {e dp : Nat}
theorem ev_emp (h : N f = 0) : hp_ev ops args N CL DL (n + 1) f pc d nv xs ys st e dp = .inr (if hp_kg f then [] else [0], e, dp) := by
  rw [hp_ev, if_pos h]
theorem ev_end (h : N f ≠ 0) (ho : ops (f * 48 + pc) = 16) : hp_ev ops args N CL DL (n + 1) f pc d nv xs ys st e dp = .inr (st.headD [], e, dp) := by
  rw [hp_ev, if_neg h, if_pos ho]
theorem ev_long (h : N f ≠ 0) (ho : ops (f * 48 + pc) = 14) (hc : CL ≤ e) : hp_ev ops args N CL DL (n + 1) f pc d nv xs ys st e dp = .inl (-7) := by
  rw [hp_ev, if_neg h, ho, if_neg (by decide), if_pos rfl, if_pos hc]
theorem ev_deep (h : N f ≠ 0) (ho : ops (f * 48 + pc) = 14) (hc : ¬ CL ≤ e) (hd : DL < hp_dd (hp_pa (hp_o ops f) (N f) pc) d) : hp_ev ops args N CL DL (n + 1) f pc d nv xs ys st e dp = .inl (-6) := by
  rw [hp_ev, if_neg h, ho, if_neg (by decide), if_pos rfl, if_neg hc, if_pos hd]
theorem ev_call (h : N f ≠ 0) (ho : ops (f * 48 + pc) = 14) (hc : ¬ CL ≤ e) (hd : ¬ DL < hp_dd (hp_pa (hp_o ops f) (N f) pc) d) {g : Nat} (hg : (args (f * 48 + pc)).toNatClampNeg = g) {a b c : List Int32} {r : List (List Int32)} :
    hp_ev ops args N CL DL (n + 1) f pc d nv xs ys (c :: b :: a :: r) e dp =
      hp_bd (hp_ev ops args N CL DL n g 0 (hp_dd (hp_pa (hp_o ops f) (N f) pc) d) (a.headD 0) b c [] (e + 1) (hp_mx dp (hp_dd (hp_pa (hp_o ops f) (N f) pc) d)))
        (fun w e' dp' => hp_ev ops args N CL DL n f (pc + 1) d nv xs ys (w :: r) e' dp') := by
  rw [hp_ev, if_neg h, ho, if_neg (by decide), if_pos rfl, if_neg hc, if_neg hd, hg]
  rfl
theorem ev_th0 (h : N f ≠ 0) (ho : ops (f * 48 + pc) = 15) (hv : (st.headD []).headD 0 = 0) : hp_ev ops args N CL DL (n + 1) f pc d nv xs ys st e dp = hp_ev ops args N CL DL n f (hp_jm (hp_o ops f) (N f - (pc + 1)) (pc + 1)) d nv xs ys [] e dp := by
  rw [hp_ev, if_neg h, ho, if_neg (by decide), if_neg (by decide), if_pos rfl, if_pos hv]
theorem ev_th1 (h : N f ≠ 0) (ho : ops (f * 48 + pc) = 15) (hv : ¬ (st.headD []).headD 0 = 0) : hp_ev ops args N CL DL (n + 1) f pc d nv xs ys st e dp = hp_ev ops args N CL DL n f (pc + 1) d nv xs ys [] e dp := by
  rw [hp_ev, if_neg h, ho, if_neg (by decide), if_neg (by decide), if_pos rfl, if_neg hv]
theorem ev_wd (h : N f ≠ 0) {o a : Int32} (ho : ops (f * 48 + pc) = o) (ha : args (f * 48 + pc) = a) (h16 : o ≠ 16) (h14 : o ≠ 14) (h15 : o ≠ 15) : hp_ev ops args N CL DL (n + 1) f pc d nv xs ys st e dp = hp_ev ops args N CL DL n f (pc + 1) d nv xs ys (hp_ap o a nv xs ys st) e dp := by
  rw [hp_ev, if_neg h, ho, ha, if_neg h16, if_neg h14, if_neg h15]
end
theorem hp_mx_le {dp d : Nat} (h : d ≤ dp) : hp_mx dp d = dp := if_pos h
theorem hp_mx_gt {dp d : Nat} (h : ¬ d ≤ dp) : hp_mx dp d = d := if_neg h

def hp_ty : List Bool → List (List Int32) → Prop
  | [], [] => True
  | k :: ks, v :: vs => (k = false → v.length = 1) ∧ hp_ty ks vs
  | _, _ => False
theorem hp_ty_c {k : Bool} {ks : List Bool} : ∀ {st : List (List Int32)}, hp_ty (k :: ks) st → ∃ v vs, st = v :: vs ∧ (k = false → v.length = 1) ∧ hp_ty ks vs
  | [], h => False.elim h
  | v :: vs, h => ⟨v, vs, rfl, h.1, h.2⟩
theorem hp_ty_n : ∀ {st : List (List Int32)}, hp_ty [] st → st = []
  | [], _ => rfl
  | _ :: _, h => False.elim h
theorem hp_l1 {v : List Int32} (h : v.length = 1) : ∃ x, v = [x] := by
  cases v with
  | nil => exact absurd h (by decide)
  | cons x r =>
    have h2 : r.length = 0 := by simp only [List.length_cons] at h; omega
    exact ⟨x, by rw [List.eq_nil_of_length_eq_zero h2]⟩
theorem hp_tyl {r : List Bool} {st : List (List Int32)} (h : hp_ty (true :: r) st) : ∃ v vs, st = v :: vs ∧ hp_ty r vs := by
  obtain ⟨v, vs, e, _, h2⟩ := hp_ty_c h
  exact ⟨v, vs, e, h2⟩
theorem hp_tyi {r : List Bool} {st : List (List Int32)} (h : hp_ty (false :: r) st) : ∃ x vs, st = [x] :: vs ∧ hp_ty r vs := by
  obtain ⟨v, vs, e, h1, h2⟩ := hp_ty_c h
  obtain ⟨x, rfl⟩ := hp_l1 (h1 rfl)
  exact ⟨x, vs, e, h2⟩
theorem hp_ty_len : ∀ {ks : List Bool} {st : List (List Int32)}, hp_ty ks st → ks.length = st.length
  | [], [], _ => rfl
  | _ :: ks, _ :: vs, h => congrArg (· + 1) (hp_ty_len (ks := ks) (st := vs) h.2)
/-- a word other than CALL, THEN, END keeps the types -/
theorem hp_ap_ty {o a nv : Int32} {xs ys : List Int32} {f : Nat} {ks : List Bool} {g : Bool} {st : List (List Int32)} (h1 : 1 ≤ o) (h2 : o ≤ 16) (h14 : o ≠ 14) (h15 : o ≠ 15) (h16 : o ≠ 16) (hf : hp_fit o f ks g) (ht : hp_ty ks st) :
    hp_ty (hp_ta o a ks) (hp_ap o a nv xs ys st) := by
  rcases hp_16 h1 h2 with rfl | rfl | rfl | rfl | rfl | rfl | rfl | rfl | rfl | rfl | rfl | rfl | rfl | rfl | rfl | rfl
  · exact ⟨fun _ => rfl, ht⟩
  · exact ⟨fun _ => rfl, ht⟩
  · exact ⟨fun z => absurd (show true = false from z) (by decide), ht⟩
  · exact ⟨fun z => absurd (show true = false from z) (by decide), ht⟩
  · exact ⟨fun z => absurd (show true = false from z) (by decide), ht⟩
  · obtain ⟨r, rfl⟩ := hp_fu hf (by decide) (by decide)
    obtain ⟨v, vs, rfl, h⟩ := hp_tyl ht
    exact ⟨fun _ => rfl, h⟩
  · obtain ⟨r, rfl⟩ := hp_fu hf (by decide) (by decide)
    obtain ⟨v, vs, rfl, h⟩ := hp_tyl ht
    exact ⟨fun z => absurd (show true = false from z) (by decide), h⟩
  · obtain ⟨r, rfl⟩ := hp_fu hf (by decide) (by decide)
    obtain ⟨v, vs, rfl, h⟩ := hp_tyl ht
    exact ⟨fun _ => rfl, h⟩
  · obtain ⟨r, rfl⟩ := hp_fc hf
    obtain ⟨v, vs, rfl, h⟩ := hp_tyl ht
    obtain ⟨x, vs, rfl, h'⟩ := hp_tyi h
    exact ⟨fun z => absurd (show true = false from z) (by decide), h'⟩
  · obtain ⟨r, rfl⟩ := hp_fb hf (by decide) (by decide)
    obtain ⟨v, vs, rfl, h⟩ := hp_tyi ht
    obtain ⟨x, vs, rfl, h'⟩ := hp_tyi h
    exact ⟨fun _ => rfl, h'⟩
  · obtain ⟨r, rfl⟩ := hp_fb hf (by decide) (by decide)
    obtain ⟨v, vs, rfl, h⟩ := hp_tyi ht
    obtain ⟨x, vs, rfl, h'⟩ := hp_tyi h
    exact ⟨fun _ => rfl, h'⟩
  · obtain ⟨r, rfl⟩ := hp_fb hf (by decide) (by decide)
    obtain ⟨v, vs, rfl, h⟩ := hp_tyi ht
    obtain ⟨x, vs, rfl, h'⟩ := hp_tyi h
    exact ⟨fun _ => rfl, h'⟩
  · obtain ⟨r, rfl⟩ := hp_fb hf (by decide) (by decide)
    obtain ⟨v, vs, rfl, h⟩ := hp_tyi ht
    obtain ⟨x, vs, rfl, h'⟩ := hp_tyi h
    exact ⟨fun _ => rfl, h'⟩
  · exact absurd rfl h14
  · exact absurd rfl h15
  · exact absurd rfl h16
def hp_Bd (b : Nat) (st : List (List Int32)) : Prop := ∀ v, v ∈ st → v.length ≤ b
theorem hp_Bd_c {b : Nat} {v : List Int32} {st : List (List Int32)} (h1 : v.length ≤ b) (h2 : hp_Bd b st) : hp_Bd b (v :: st) := by
  intro w hw
  rcases List.mem_cons.mp hw with rfl | hw
  · exact h1
  · exact h2 w hw
theorem hp_Bd_h {b : Nat} {v : List Int32} {st : List (List Int32)} (h : hp_Bd b (v :: st)) : v.length ≤ b := h v List.mem_cons_self
theorem hp_Bd_t {b : Nat} {v : List Int32} {st : List (List Int32)} (h : hp_Bd b (v :: st)) : hp_Bd b st := fun w hw => h w (List.mem_cons_of_mem _ hw)
theorem hp_Bd_m {b c : Nat} {st : List (List Int32)} (h : hp_Bd b st) (hc : b ≤ c) : hp_Bd c st := fun w hw => Nat.le_trans (h w hw) hc
theorem hp_Bd_0 {b : Nat} : hp_Bd b [] := fun w hw => absurd hw (by simp)
theorem hp_Bd_d {b : Nat} : ∀ (k : Nat) {st : List (List Int32)}, hp_Bd b st → hp_Bd b (st.drop k)
  | k, st, h => fun w hw => h w (List.mem_of_mem_drop hw)
theorem hp_Bd_hd {b : Nat} : ∀ {st : List (List Int32)}, hp_Bd b st → (st.headD []).length ≤ b
  | [], _ => Nat.zero_le _
  | _ :: _, h => hp_Bd_h h
theorem hp_ap_bd {o a nv : Int32} {xs ys : List Int32} {st : List (List Int32)} {b c : Nat} (hb : 1 ≤ b) (hx : xs.length ≤ b) (hy : ys.length ≤ b) (h : hp_Bd b st) (hc : if o = 9 then b + 1 ≤ c else b ≤ c) :
    hp_Bd c (hp_ap o a nv xs ys st) := by
  have hbc : b ≤ c := by split at hc <;> omega
  have h' := hp_Bd_m h hbc
  have hh := hp_Bd_hd h
  unfold hp_ap
  split
  · exact hp_Bd_c (by show 1 ≤ c; omega) h'
  split
  · exact hp_Bd_c (by show 1 ≤ c; omega) h'
  split
  · exact hp_Bd_c (by omega) h'
  split
  · exact hp_Bd_c (by omega) h'
  split
  · exact hp_Bd_c (Nat.zero_le _) h'
  split
  · exact hp_Bd_c (by show 1 ≤ c; omega) (hp_Bd_d 1 h')
  split
  · refine hp_Bd_c ?_ (hp_Bd_d 1 h')
    rw [List.length_tail]
    omega
  split
  · exact hp_Bd_c (by show 1 ≤ c; omega) (hp_Bd_d 1 h')
  split
  · rename_i z
    rw [if_pos z] at hc
    refine hp_Bd_c ?_ (hp_Bd_d 2 h')
    rw [List.length_cons]
    omega
  · exact hp_Bd_c (by show 1 ≤ c; omega) (hp_Bd_d 2 h')
def hp_TX (ops args : Nat → Int32) (N : Nat → Nat) : Prop := ∀ f, f < 4 → N f ≤ 48 ∧ hp_Wd (hp_o ops f) (hp_o args f) f (N f) ∧ hp_cc (hp_o ops f) (N f) ≤ 3 ∧ hp_Cm (hp_o ops f) (N f)
def hp_At (N : Nat → Nat) (f pc : Nat) : Prop := (N f = 0 ∧ pc = 0) ∨ pc < N f
theorem hp_At0 (N : Nat → Nat) (f : Nat) : hp_At N f 0 := by
  rcases Nat.eq_zero_or_pos (N f) with z | z
  · exact Or.inl ⟨z, rfl⟩
  · exact Or.inr z
theorem hp_At_cc {ops args : Nat → Int32} {N : Nat → Nat} {f pc : Nat} (T : hp_TX ops args N) (hf : f < 4) (h : hp_At N f pc) : hp_cc (hp_o ops f) pc ≤ 3 := by
  have h1 : pc ≤ N f := by rcases h with h | h <;> omega
  exact Nat.le_trans (hp_cc_le h1) (T f hf).2.2.1
/-- what every outcome of the evaluator obeys -/
theorem hp_ev_f {ops args : Nat → Int32} {N : Nat → Nat} {CL DL : Nat} (T : hp_TX ops args N) :
    ∀ (n f pc d : Nat) (nv : Int32) (xs ys : List Int32) (st : List (List Int32)) (e dp b : Nat) (w : List Int32) (e' dp' : Nat), f < 4 → hp_At N f pc → 1 ≤ b → e ≤ CL → dp ≤ DL → xs.length ≤ b → ys.length ≤ b → hp_Bd b st →
      hp_ty (hp_sc (hp_o ops f) (hp_o args f) pc) st → hp_ev ops args N CL DL n f pc d nv xs ys st e dp = .inr (w, e', dp') →
      e ≤ e' ∧ e' ≤ CL ∧ w.length ≤ b + (3 - hp_cc (hp_o ops f) pc) + 3 * (e' - e) ∧ (hp_kg f = false → w.length = 1) ∧ dp' ≤ DL := by
  intro n
  induction n with
  | zero => intro f pc d nv xs ys st e dp b w e' dp' _ _ _ _ _ _ _ _ _ h; exact absurd h (by rw [hp_ev]; exact fun z => nomatch z)
  | succ n ih =>
    intro f pc d nv xs ys st e dp b w e' dp' hf hat hb hCL hDL hx hy hst hty h
    have h3 := hp_At_cc T hf hat
    rcases hat with ⟨h0, hpc⟩ | hpc
    · rw [ev_emp h0] at h
      injection h with h
      injection h with h1 h2
      injection h2 with h2 h4
      subst h1 h2 h4
      refine ⟨Nat.le_refl _, hCL, ?_, fun z => by rw [z]; rfl, hDL⟩
      cases hp_kg f
      · show 1 ≤ _; omega
      · exact Nat.zero_le _
    · have hN : N f ≠ 0 := by omega
      obtain ⟨hn48, hWd, hcc, hCm⟩ := T f hf
      obtain ⟨w1, w2, w3, w4, w5⟩ := hWd pc hpc
      obtain ⟨o, ho⟩ : ∃ o, ops (f * 48 + pc) = o := ⟨_, rfl⟩
      have ho' : hp_o ops f pc = o := ho
      rw [ho'] at w1 w2 w3 w4
      by_cases c16 : o = 16
      · subst c16
        rw [ev_end hN ho] at h
        rw [hp_fe w4] at hty
        obtain ⟨v, vs, rfl, k1, k2⟩ := hp_ty_c hty
        injection h with h
        injection h with h1 h2
        injection h2 with h2 h4
        subst h1 h2 h4
        have := hp_Bd_h hst
        exact ⟨Nat.le_refl _, hCL, by show v.length ≤ _; omega, k1, hDL⟩
      · have hnx := hp_nx hpc (by rw [ho']; exact c16) hCm
        by_cases c14 : o = 14
        · subst c14
          obtain ⟨g, hg4, hg⟩ := w3 rfl
          have hg' : args (f * 48 + pc) = nI g := hg
          have hgc : (args (f * 48 + pc)).toNatClampNeg = g := by rw [hg']; exact nI_clamp (by omega)
          obtain ⟨r, hr⟩ := hp_fk w4
          rw [hr] at hty
          obtain ⟨v3, vs, rfl, hty1⟩ := hp_tyl hty
          obtain ⟨v2, vs, rfl, hty2⟩ := hp_tyl hty1
          obtain ⟨v1, vs, rfl, hty3⟩ := hp_tyi hty2
          by_cases hc : CL ≤ e
          · rw [ev_long hN ho hc] at h; exact absurd h (fun z => nomatch z)
          · by_cases hd : DL < hp_dd (hp_pa (hp_o ops f) (N f) pc) d
            · rw [ev_deep hN ho hc hd] at h; exact absurd h (fun z => nomatch z)
            · rw [ev_call hN ho hc hd hgc] at h
              generalize hE : hp_ev ops args N CL DL n g 0 (hp_dd (hp_pa (hp_o ops f) (N f) pc) d) (([v1] : List Int32).headD 0) v2 v3 [] (e + 1) (hp_mx dp (hp_dd (hp_pa (hp_o ops f) (N f) pc) d)) = E at h
              rcases E with c | ⟨w1', e1, dp1⟩
              · exact absurd h (fun z => nomatch z)
              · have a1 := ih g 0 _ _ v2 v3 [] (e + 1) _ b w1' e1 dp1 hg4 (hp_At0 N g) hb (by omega) (by unfold hp_mx; split <;> omega) (hp_Bd_h (hp_Bd_t hst)) (hp_Bd_h hst) hp_Bd_0 trivial hE
                obtain ⟨a1, a2, a3, a4, a5⟩ := a1
                have e0 : hp_cc (hp_o ops g) 0 = 0 := rfl
                rw [e0] at a3
                have hcn : hp_cc (hp_o ops f) (pc + 1) = hp_cc (hp_o ops f) pc := hp_cc_n (by rw [ho']; decide)
                have hsc : hp_sc (hp_o ops f) (hp_o args f) (pc + 1) = hp_kg g :: r := by
                  rw [hp_sc, hr, ho', hg]
                  show hp_kg (nI g).toNatClampNeg :: r = _
                  rw [nI_clamp (by omega)]
                have b1 := ih f (pc + 1) d nv xs ys (w1' :: vs) e1 dp1 (b + 3 * (e1 - e)) w e' dp' hf (Or.inr hnx) (by omega) a2 a5 (by omega) (by omega)
                  (hp_Bd_c (by omega) (hp_Bd_m (hp_Bd_t (hp_Bd_t (hp_Bd_t hst))) (by omega))) (by rw [hsc]; exact ⟨a4, hty3⟩) h
                obtain ⟨b1, b2, b3, b4, b5⟩ := b1
                rw [hcn] at b3
                exact ⟨by omega, b2, by omega, b4, b5⟩
        · by_cases c15 : o = 15
          · subst c15
            have hcn : hp_cc (hp_o ops f) (pc + 1) = hp_cc (hp_o ops f) pc := hp_cc_n (by rw [ho']; decide)
            by_cases hv : (st.headD []).headD 0 = 0
            · rw [ev_th0 hN ho hv] at h
              obtain ⟨r, r1, r2, r3, r4, r5⟩ := hp_jm_s hpc ho' hCm
              rw [r5] at h
              have b1 := ih f (r + 1) d nv xs ys [] e dp b w e' dp' hf (Or.inr r2) hb hCL hDL hx hy hp_Bd_0 (by rw [hp_sc_0 (Or.inr r3)]; trivial) h
              obtain ⟨b1, b2, b3, b4, b5⟩ := b1
              have := hp_cc_le (o := hp_o ops f) (show pc ≤ r + 1 by omega)
              exact ⟨b1, b2, by omega, b4, b5⟩
            · rw [ev_th1 hN ho hv] at h
              have b1 := ih f (pc + 1) d nv xs ys [] e dp b w e' dp' hf (Or.inr hnx) hb hCL hDL hx hy hp_Bd_0 (by rw [hp_sc_0 (Or.inl ho')]; trivial) h
              rw [hcn] at b1
              exact b1
          · rw [ev_wd hN ho rfl c16 c14 c15] at h
            have hty' := hp_ap_ty (a := args (f * 48 + pc)) (nv := nv) (xs := xs) (ys := ys) w1 w2 c14 c15 c16 w4 hty
            have hsc : hp_sc (hp_o ops f) (hp_o args f) (pc + 1) = hp_ta o (args (f * 48 + pc)) (hp_sc (hp_o ops f) (hp_o args f) pc) := by rw [hp_sc, ho']
            by_cases c9 : o = 9
            · have hcn : hp_cc (hp_o ops f) (pc + 1) = hp_cc (hp_o ops f) pc + 1 := hp_cc_9 (by rw [ho']; exact c9)
              have h3' := hp_At_cc T hf (Or.inr hnx)
              have b1 := ih f (pc + 1) d nv xs ys _ e dp (b + 1) w e' dp' hf (Or.inr hnx) (by omega) hCL hDL (by omega) (by omega) (hp_ap_bd hb hx hy hst (by rw [if_pos c9]; omega)) (by rw [hsc]; exact hty') h
              obtain ⟨b1, b2, b3, b4, b5⟩ := b1
              exact ⟨b1, b2, by omega, b4, b5⟩
            · have hcn : hp_cc (hp_o ops f) (pc + 1) = hp_cc (hp_o ops f) pc := hp_cc_n (by rw [ho']; exact c9)
              have b1 := ih f (pc + 1) d nv xs ys _ e dp b w e' dp' hf (Or.inr hnx) hb hCL hDL hx hy (hp_ap_bd hb hx hy hst (by rw [if_neg c9]; omega)) (by rw [hsc]; exact hty') h
              rw [hcn] at b1
              exact b1
end
section
def hp_cp (cell : Nat → Int32) (P Q n : Nat) : Nat → Int32 := fun j => if Q ≤ j ∧ j < Q + n then cell (P + (j - Q)) else cell j
theorem hp_cp_0 (cell : Nat → Int32) (P Q : Nat) : hp_cp cell P Q 0 = cell := by
  funext j
  exact if_neg (by omega)
theorem hp_cp_s {cell : Nat → Int32} {P Q i : Nat} (h : P + i < Q ∨ Q ≤ P) : upd (hp_cp cell P Q i) (Q + i) (hp_cp cell P Q i (P + i)) = hp_cp cell P Q (i + 1) := by
  funext j
  have e : hp_cp cell P Q i (P + i) = cell (P + i) := if_neg (by omega)
  rw [e]
  by_cases hj : j = Q + i
  · subst hj
    rw [pk_us]
    unfold hp_cp
    rw [if_pos (by omega), show Q + i - Q = i by omega]
  · rw [pk_un hj]
    unfold hp_cp
    by_cases h2 : Q ≤ j ∧ j < Q + i
    · rw [if_pos h2, if_pos (by omega)]
    · rw [if_neg h2, if_neg (by omega)]
theorem hp_cp_r {cell : Nat → Int32} {P Q n i : Nat} (h : i < n) : hp_cp cell P Q n (Q + i) = cell (P + i) := by
  unfold hp_cp
  rw [if_pos (by omega), show Q + i - Q = i by omega]
def hp_sl (cell len : Nat → Int32) (q : Nat) (l : List Int32) : Prop := len q = nI l.length ∧ ∀ i, i < l.length → cell (q * 208 + i) = l.getD i 0
def hp_fr (lo hi : Nat) (cell len cell' len' : Nat → Int32) : Prop := (∀ j, j < lo * 208 ∨ hi * 208 ≤ j → cell' j = cell j) ∧ (∀ r, r < lo ∨ hi ≤ r → len' r = len r)
def hp_ys (cell len : Nat → Int32) (b : Nat) : List (List Int32) → Prop
  | [] => True
  | v :: vs => hp_sl cell len (b + vs.length) v ∧ hp_ys cell len b vs
theorem fr_rf {lo hi : Nat} {cell len : Nat → Int32} : hp_fr lo hi cell len cell len := ⟨fun _ _ => rfl, fun _ _ => rfl⟩
theorem fr_tr {lo hi : Nat} {c l c1 l1 c2 l2 : Nat → Int32} (h1 : hp_fr lo hi c l c1 l1) (h2 : hp_fr lo hi c1 l1 c2 l2) : hp_fr lo hi c l c2 l2 :=
  ⟨fun j hj => (h2.1 j hj).trans (h1.1 j hj), fun r hr => (h2.2 r hr).trans (h1.2 r hr)⟩
theorem fr_mo {lo hi lo' hi' : Nat} {c l c1 l1 : Nat → Int32} (h : hp_fr lo hi c l c1 l1) (h1 : lo' ≤ lo) (h2 : hi ≤ hi') : hp_fr lo' hi' c l c1 l1 :=
  ⟨fun j hj => h.1 j (by rcases hj with z | z <;> omega), fun r hr => h.2 r (by rcases hr with z | z <;> omega)⟩
theorem sl_fr {lo hi q : Nat} {c l c1 l1 : Nat → Int32} {v : List Int32} (h : hp_fr lo hi c l c1 l1) (hq : q < lo ∨ hi ≤ q) (hv : v.length ≤ 208) (hs : hp_sl c l q v) : hp_sl c1 l1 q v :=
  ⟨(h.2 q hq).trans hs.1, fun i hi => (h.1 _ (by rcases hq with z | z <;> omega)).trans (hs.2 i hi)⟩
theorem ys_fr {lo hi b : Nat} {c l c1 l1 : Nat → Int32} (h : hp_fr lo hi c l c1 l1) : ∀ {st : List (List Int32)}, (b + st.length ≤ lo ∨ hi ≤ b) → hp_Bd 208 st → hp_ys c l b st → hp_ys c1 l1 b st
  | [], _, _, _ => trivial
  | v :: vs, hq, hb, hs => by
    rw [List.length_cons] at hq
    exact ⟨sl_fr h (by rcases hq with z | z <;> omega) (hp_Bd_h hb) hs.1, ys_fr h (by rcases hq with z | z <;> omega) (hp_Bd_t hb) hs.2⟩
theorem sl_1 {cell len : Nat → Int32} {q : Nat} {x : Int32} (h1 : len q = 1) (h2 : cell (q * 208) = x) : hp_sl cell len q [x] :=
  ⟨h1, fun i hi => by
    have : i = 0 := by simp only [List.length_cons, List.length_nil] at hi; omega
    subst this
    exact h2⟩
theorem sl_0 {cell len : Nat → Int32} {q : Nat} (h1 : len q = 0) : hp_sl cell len q [] := ⟨h1, fun i hi => absurd hi (Nat.not_lt_zero i)⟩
theorem sl_x {cell len : Nat → Int32} {q : Nat} {x : Int32} (h : hp_sl cell len q [x]) : cell (q * 208) = x := h.2 0 Nat.zero_lt_one
theorem fr_1 {cell len : Nat → Int32} {q : Nat} {x y : Int32} : hp_fr q (q + 1) cell len (upd cell (q * 208) x) (upd len q y) :=
  ⟨fun j hj => pk_un (by rcases hj with z | z <;> omega), fun r hr => pk_un (by rcases hr with z | z <;> omega)⟩
theorem fr_l {cell len : Nat → Int32} {q : Nat} {y : Int32} : hp_fr q (q + 1) cell len cell (upd len q y) :=
  ⟨fun j hj => rfl, fun r hr => pk_un (by rcases hr with z | z <;> omega)⟩
theorem hp_gt {l : List Int32} {i : Nat} : l.tail.getD i 0 = l.getD (i + 1) 0 := by
  cases l with
  | nil => rfl
  | cons a r => rfl
section
variable {f_draft : Int32} {f_outKind : Int32} {f_outCalls : Int32} {f_outPeak : Int32} {f_callLimit : Int32} {f_depthLimit : Int32} {a_ops : Nat → Int32} {a_args : Nat → Int32} {a_length : Nat → Int32} {b_cell : Nat → Int32} {b_len : Nat → Int32} {b_fn : Nat → Int32} {b_pos : Nat → Int32} {b_height : Nat → Int32} {b_depth : Nat → Int32} {n_cell : Nat}
theorem yl_set {q : Nat} (hq : q < 579) {x : Int32} {Q : SY → Prop} (K : Q (f_draft, f_outKind, f_outCalls, f_outPeak, f_callLimit, f_depthLimit, a_ops, a_args, a_length, upd b_cell (q * 208) x, upd b_len q 1, b_fn, b_pos, b_height, b_depth, 120432)) : wpY_setInt Q (f_draft, f_outKind, f_outCalls, f_outPeak, f_callLimit, f_depthLimit, a_ops, a_args, a_length, b_cell, b_len, b_fn, b_pos, b_height, b_depth, 120432) (nI q) x := by
  have e1 : (nI q).toNatClampNeg = q := nI_clamp (by omega)
  have e2 : nI q * 208 = nI (q * 208) := pk_mul q 208
  have e3 : (nI (q * 208)).toNatClampNeg = q * 208 := nI_clamp (by omega)
  have i1 : vp_in (nI q) 579 := vp_in_nI hq (by decide)
  have i2 : vp_in (nI (q * 208)) 120432 := vp_in_nI (by omega) (by decide)
  unfold wpY_setInt
  dsimp only
  rw [e2, e3, e1]
  exact ⟨i2, nm_e ⟨i1, nm_e K⟩⟩
theorem yl_setA {q : Nat} (hq : q < 579) {x : Int32} {Q : SY → Prop} (K : ∀ c l, hp_fr q (q + 1) b_cell b_len c l → hp_sl c l q [x] → Q (f_draft, f_outKind, f_outCalls, f_outPeak, f_callLimit, f_depthLimit, a_ops, a_args, a_length, c, l, b_fn, b_pos, b_height, b_depth, 120432)) : wpY_setInt Q (f_draft, f_outKind, f_outCalls, f_outPeak, f_callLimit, f_depthLimit, a_ops, a_args, a_length, b_cell, b_len, b_fn, b_pos, b_height, b_depth, 120432) (nI q) x :=
  yl_set hq (K _ _ fr_1 (sl_1 pk_us pk_us))
theorem yl_cpl {p q m : Nat} (hp : p < 579) (hq : q < 579) (hne : p ≠ q) (hm : m ≤ 208) (hl : b_len p = nI m) {Q : SY → Prop} (K : Q (f_draft, f_outKind, f_outCalls, f_outPeak, f_callLimit, f_depthLimit, a_ops, a_args, a_length, hp_cp b_cell (p * 208) (q * 208) m, upd b_len q (nI m), b_fn, b_pos, b_height, b_depth, 120432)) :
    ∀ d i k, i + d = m → d < k → wY_copy_2 Q (nI p) (nI q) f_draft f_outKind f_outCalls f_outPeak f_callLimit f_depthLimit 120432 k (nI i) a_ops a_args a_length (hp_cp b_cell (p * 208) (q * 208) i) b_len b_fn b_pos b_height b_depth := by
  have e1 : (nI p).toNatClampNeg = p := nI_clamp (by omega)
  have e2 : (nI q).toNatClampNeg = q := nI_clamp (by omega)
  have i1 : vp_in (nI p) 579 := vp_in_nI hp (by decide)
  have i2 : vp_in (nI q) 579 := vp_in_nI hq (by decide)
  have hK : wY_copy_49 Q (nI p) (nI q) f_draft f_outKind f_outCalls f_outPeak f_callLimit f_depthLimit a_ops a_args a_length (hp_cp b_cell (p * 208) (q * 208) m) b_len b_fn b_pos b_height b_depth 120432 := by
    unfold wY_copy_49
    rw [e1, e2, hl]
    exact ⟨i1, i2, nm_e K⟩
  intro d
  induction d with
  | zero =>
    intro i k hi hk
    obtain ⟨k, rfl⟩ : ∃ k', k = k' + 1 := ⟨k - 1, by omega⟩
    have : i = m := by omega
    subst this
    rw [wY_copy_2]
    refine br_c (fun _ => hK) (fun _ => ⟨i1, ?_⟩)
    rw [e1, hl]
    exact br_t (nI_le (Nat.le_refl _) (by omega)) hK
  | succ d ih =>
    intro i k hi hk
    obtain ⟨k, rfl⟩ : ∃ k', k = k' + 1 := ⟨k - 1, by omega⟩
    have e3 : nI p * 208 + nI i = nI (p * 208 + i) := by rw [show (208 : Int32) = nI 208 from rfl, pk_mul, nI_add]
    have e4 : nI q * 208 + nI i = nI (q * 208 + i) := by rw [show (208 : Int32) = nI 208 from rfl, pk_mul, nI_add]
    have e5 : (nI (p * 208 + i)).toNatClampNeg = p * 208 + i := nI_clamp (by omega)
    have e6 : (nI (q * 208 + i)).toNatClampNeg = q * 208 + i := nI_clamp (by omega)
    rw [wY_copy_2]
    dsimp only
    rw [e3, e4, e5, e6, e1, hl, hp_cp_s (by omega)]
    exact br_f (nI_ge (b := 208) (by omega) (by decide)) ⟨i1, br_f (nI_ge (by omega) (by omega)) ⟨vp_in_nI (by omega) (by decide), vp_in_nI (by omega) (by decide), nm_e (nm_r (nI_1 i) (ih (i + 1) k (by omega) (by omega)))⟩⟩
theorem yl_cpA {p q : Nat} (hp : p < 579) (hq : q < 579) (hne : p ≠ q) {v : List Int32} (hm : v.length ≤ 208) (hl : hp_sl b_cell b_len p v) {Q : SY → Prop} (K : ∀ c l, hp_fr q (q + 1) b_cell b_len c l → hp_sl c l q v → Q (f_draft, f_outKind, f_outCalls, f_outPeak, f_callLimit, f_depthLimit, a_ops, a_args, a_length, c, l, b_fn, b_pos, b_height, b_depth, 120432)) :
    wpY_copy Q (f_draft, f_outKind, f_outCalls, f_outPeak, f_callLimit, f_depthLimit, a_ops, a_args, a_length, b_cell, b_len, b_fn, b_pos, b_height, b_depth, 120432) (nI p) (nI q) := by
  have h := yl_cpl (Q := Q) hp hq hne hm hl.1 (K _ _ ⟨fun j hj => if_neg (by rcases hj with z | z <;> omega), fun r hr => pk_un (by rcases hr with z | z <;> omega)⟩
    ⟨pk_us, fun i hi => by rw [hp_cp_r hi]; exact hl.2 i hi⟩) v.length 0 (v.length + 1) (by omega) (by omega)
  rw [hp_cp_0] at h
  exact ⟨_, h⟩
end
end
section
theorem ya_e5 (base h : Nat) : nI base + 3 + nI h = nI (base + 3 + h) := by rw [show (3 : Int32) = nI 3 from rfl, nI_add, nI_add]
theorem ya_e6 (base h : Nat) : nI (base + 3 + h) - 1 = nI (base + 2 + h) := by
  rw [show (1 : Int32) = nI 1 from rfl, pk_sub (by omega)]
  exact congrArg nI (by omega)
theorem ya_e7 (base h : Nat) : nI (base + 3 + h) - 2 = nI (base + 1 + h) := by
  rw [show (2 : Int32) = nI 2 from rfl, pk_sub (by omega)]
  exact congrArg nI (by omega)
theorem ya_208 (q : Nat) : nI q * 208 = nI (q * 208) := pk_mul q 208
section
variable {f_draft : Int32} {f_outKind : Int32} {f_outCalls : Int32} {f_outPeak : Int32} {f_callLimit : Int32} {f_depthLimit : Int32} {a_ops : Nat → Int32} {a_args : Nat → Int32} {a_length : Nat → Int32} {b_cell : Nat → Int32} {b_len : Nat → Int32} {b_fn : Nat → Int32} {b_pos : Nat → Int32} {b_height : Nat → Int32} {b_depth : Nat → Int32} {n_cell : Nat} {base h : Nat} {a : Int32} {Q : Int32 → SY → Prop}
theorem ya_1 (hb : base + 9 ≤ 576) (hh : h < 6) (K : ∀ c l, hp_fr (base + 3 + h) (base + 3 + h + 1) b_cell b_len c l → hp_sl c l (base + 3 + h) [a] → Q (nI (h + 1)) (f_draft, f_outKind, f_outCalls, f_outPeak, f_callLimit, f_depthLimit, a_ops, a_args, a_length, c, l, b_fn, b_pos, b_height, b_depth, 120432)) :
    wpY_apply Q (f_draft, f_outKind, f_outCalls, f_outPeak, f_callLimit, f_depthLimit, a_ops, a_args, a_length, b_cell, b_len, b_fn, b_pos, b_height, b_depth, 120432) 1 a (nI base) (nI h) := by
  refine nm_r (ya_e5 base h) (nm_r (ya_e6 base h) (nm_r (ya_e7 base h) (br_t rfl ?_)))
  refine yl_setA (by omega) (fun c l h1 h2 => ?_)
  refine br_t (by decide) (br_f (by decide) (br_f (by decide) ?_))
  rw [nI_1]
  exact K c l h1 h2
theorem ya_c {o : Int32} {p : Nat} (ho : o = 2 ∨ o = 3 ∨ o = 4) (hb : base + 9 ≤ 576) (hh : h < 6) (hp : nI base + o - 2 = nI p) (hp2 : p < base + 3) {v : List Int32} (hv : v.length ≤ 208) (hs : hp_sl b_cell b_len p v)
    (K : ∀ c l, hp_fr (base + 3 + h) (base + 3 + h + 1) b_cell b_len c l → hp_sl c l (base + 3 + h) v → Q (nI (h + 1)) (f_draft, f_outKind, f_outCalls, f_outPeak, f_callLimit, f_depthLimit, a_ops, a_args, a_length, c, l, b_fn, b_pos, b_height, b_depth, 120432)) :
    wpY_apply Q (f_draft, f_outKind, f_outCalls, f_outPeak, f_callLimit, f_depthLimit, a_ops, a_args, a_length, b_cell, b_len, b_fn, b_pos, b_height, b_depth, 120432) o a (nI base) (nI h) := by
  have n1 : ¬ o = 1 := by rcases ho with rfl | rfl | rfl <;> decide
  have n2 : ¬ o < 2 := by rcases ho with rfl | rfl | rfl <;> decide
  have n4 : ¬ 4 < o := by rcases ho with rfl | rfl | rfl <;> decide
  have n5 : ¬ o = 5 := by rcases ho with rfl | rfl | rfl <;> decide
  have n6 : ¬ 5 < o := by rcases ho with rfl | rfl | rfl <;> decide
  refine nm_r (ya_e5 base h) (nm_r (ya_e6 base h) (nm_r (ya_e7 base h) (br_f n1 (br_f n2 (br_f n4 ?_)))))
  rw [hp]
  refine yl_cpA (by omega) (by omega) (by omega) hv hs (fun c l h1 h2 => ?_)
  refine br_f n5 (br_f n6 ?_)
  rw [nI_1]
  exact K c l h1 h2
theorem ya_5 (hb : base + 9 ≤ 576) (hh : h < 6) (K : ∀ c l, hp_fr (base + 3 + h) (base + 3 + h + 1) b_cell b_len c l → hp_sl c l (base + 3 + h) [] → Q (nI (h + 1)) (f_draft, f_outKind, f_outCalls, f_outPeak, f_callLimit, f_depthLimit, a_ops, a_args, a_length, c, l, b_fn, b_pos, b_height, b_depth, 120432)) :
    wpY_apply Q (f_draft, f_outKind, f_outCalls, f_outPeak, f_callLimit, f_depthLimit, a_ops, a_args, a_length, b_cell, b_len, b_fn, b_pos, b_height, b_depth, 120432) 5 a (nI base) (nI h) := by
  refine nm_r (ya_e5 base h) (nm_r (ya_e6 base h) (nm_r (ya_e7 base h) (br_f (by decide) (br_f (by decide) (br_t (by decide) (br_t rfl ⟨vp_in_nI (by omega) (by decide), nm_e (br_f (by decide) ?_)⟩))))))
  rw [nI_1, nI_clamp (by omega)]
  exact K _ _ fr_l (sl_0 pk_us)
theorem ya_6 (hb : base + 9 ≤ 576) (hh : h ≤ 6) (h0 : 0 < h) {v : List Int32} (hv : v.length ≤ 208) (hs : hp_sl b_cell b_len (base + 2 + h) v)
    (K : ∀ c l, hp_fr (base + 2 + h) (base + 2 + h + 1) b_cell b_len c l → hp_sl c l (base + 2 + h) [v.headD 0] → Q (nI h) (f_draft, f_outKind, f_outCalls, f_outPeak, f_callLimit, f_depthLimit, a_ops, a_args, a_length, c, l, b_fn, b_pos, b_height, b_depth, 120432)) :
    wpY_apply Q (f_draft, f_outKind, f_outCalls, f_outPeak, f_callLimit, f_depthLimit, a_ops, a_args, a_length, b_cell, b_len, b_fn, b_pos, b_height, b_depth, 120432) 6 a (nI base) (nI h) := by
  have et : (nI (base + 2 + h)).toNatClampNeg = base + 2 + h := nI_clamp (by omega)
  have i6 : vp_in (nI (base + 2 + h)) 579 := vp_in_nI (by omega) (by decide)
  have T : ∀ c l, Q (nI h) (f_draft, f_outKind, f_outCalls, f_outPeak, f_callLimit, f_depthLimit, a_ops, a_args, a_length, c, l, b_fn, b_pos, b_height, b_depth, 120432) → wY_apply_113 Q 6 (nI h) (nI (base + 2 + h)) (nI (base + 1 + h)) f_draft f_outKind f_outCalls f_outPeak f_callLimit f_depthLimit a_ops a_args a_length c l b_fn b_pos b_height b_depth 120432 := fun c l k => br_f (by decide) (br_f (by decide) (br_f (by decide) k))
  refine nm_r (ya_e5 base h) (nm_r (ya_e6 base h) (nm_r (ya_e7 base h) (br_f (by decide) (br_f (by decide) (br_t (by decide) (br_f (by decide) (br_t (by decide) (br_t rfl (And.intro i6 ?_)))))))))
  rw [et, hs.1]
  cases v with
  | nil =>
    refine br_t rfl ?_
    unfold wY_apply_110
    exact yl_setA (by omega) (fun c l h1 h2 => T c l (K c l h1 h2))
  | cons x r =>
    have hx : b_cell ((base + 2 + h) * 208) = x := hs.2 0 (by simp only [List.length_cons]; omega)
    rw [ya_208, nI_clamp (show (base + 2 + h) * 208 < 2 ^ 31 by omega), hx]
    refine br_f (nI_ne0 (by simp only [List.length_cons]; omega) (by omega)) (And.intro (vp_in_nI (by omega) (by decide)) ?_)
    unfold wY_apply_110
    exact yl_setA (by omega) (fun c l h1 h2 => T c l (K c l h1 h2))
theorem ya_8 (hb : base + 9 ≤ 576) (hh : h ≤ 6) (h0 : 0 < h) {v : List Int32} (hv : v.length ≤ 208) (hs : hp_sl b_cell b_len (base + 2 + h) v)
    (K : ∀ c l, hp_fr (base + 2 + h) (base + 2 + h + 1) b_cell b_len c l → hp_sl c l (base + 2 + h) [if v = [] then 1 else 0] → Q (nI h) (f_draft, f_outKind, f_outCalls, f_outPeak, f_callLimit, f_depthLimit, a_ops, a_args, a_length, c, l, b_fn, b_pos, b_height, b_depth, 120432)) :
    wpY_apply Q (f_draft, f_outKind, f_outCalls, f_outPeak, f_callLimit, f_depthLimit, a_ops, a_args, a_length, b_cell, b_len, b_fn, b_pos, b_height, b_depth, 120432) 8 a (nI base) (nI h) := by
  have et : (nI (base + 2 + h)).toNatClampNeg = base + 2 + h := nI_clamp (by omega)
  have i6 : vp_in (nI (base + 2 + h)) 579 := vp_in_nI (by omega) (by decide)
  have T : ∀ c l, Q (nI h) (f_draft, f_outKind, f_outCalls, f_outPeak, f_callLimit, f_depthLimit, a_ops, a_args, a_length, c, l, b_fn, b_pos, b_height, b_depth, 120432) → wY_apply_140 Q 8 (nI h) (nI (base + 2 + h)) (nI (base + 1 + h)) f_draft f_outKind f_outCalls f_outPeak f_callLimit f_depthLimit a_ops a_args a_length c l b_fn b_pos b_height b_depth 120432 := fun c l k => br_f (by decide) (br_f (by decide) k)
  refine nm_r (ya_e5 base h) (nm_r (ya_e6 base h) (nm_r (ya_e7 base h) (br_f (by decide) (br_f (by decide) (br_t (by decide) (br_f (by decide) (br_t (by decide) (br_f (by decide) (br_t rfl (And.intro i6 ?_))))))))))
  rw [et, hs.1]
  cases v with
  | nil =>
    refine br_t rfl ?_
    unfold wY_apply_137
    exact yl_setA (by omega) (fun c l h1 h2 => T c l (K c l h1 h2))
  | cons x r =>
    refine br_f (nI_ne0 (by simp only [List.length_cons]; omega) (by omega)) ?_
    unfold wY_apply_137
    exact yl_setA (by omega) (fun c l h1 h2 => T c l (K c l h1 h2))
theorem yl_tl {t m : Nat} {x4 x7 : Int32} (ht : t < 579) (hm : m ≤ 208) (hl : b_len t = nI m) (K : wY_apply_205 Q 7 x4 (nI t) x7 f_draft f_outKind f_outCalls f_outPeak f_callLimit f_depthLimit a_ops a_args a_length (hp_cp b_cell (t * 208 + 1) (t * 208) (m - 1)) b_len b_fn b_pos b_height b_depth 120432) :
    ∀ d i k, i + d = m - 1 → d < k → wY_apply_149 Q 7 x4 (nI t) x7 f_draft f_outKind f_outCalls f_outPeak f_callLimit f_depthLimit 120432 k (nI (i + 1)) a_ops a_args a_length (hp_cp b_cell (t * 208 + 1) (t * 208) i) b_len b_fn b_pos b_height b_depth := by
  have e1 : (nI t).toNatClampNeg = t := nI_clamp (by omega)
  have i1 : vp_in (nI t) 579 := vp_in_nI ht (by decide)
  intro d
  induction d with
  | zero =>
    intro i k hi hk
    obtain ⟨k, rfl⟩ : ∃ k', k = k' + 1 := ⟨k - 1, by omega⟩
    have : i = m - 1 := by omega
    subst this
    rw [wY_apply_149]
    refine br_c (fun _ => K) (fun _ => ⟨i1, ?_⟩)
    rw [e1, hl]
    exact br_t (nI_le (by omega) (by omega)) K
  | succ d ih =>
    intro i k hi hk
    obtain ⟨k, rfl⟩ : ∃ k', k = k' + 1 := ⟨k - 1, by omega⟩
    have e3 : nI t * 208 + nI (i + 1) = nI (t * 208 + 1 + i) := by
      rw [show (208 : Int32) = nI 208 from rfl, pk_mul, nI_add]
      exact congrArg nI (by omega)
    have e4 : nI (t * 208 + 1 + i) - 1 = nI (t * 208 + i) := by
      rw [show (1 : Int32) = nI 1 from rfl, pk_sub (by omega)]
      exact congrArg nI (by omega)
    have e5 : (nI (t * 208 + 1 + i)).toNatClampNeg = t * 208 + 1 + i := nI_clamp (by omega)
    have e6 : (nI (t * 208 + i)).toNatClampNeg = t * 208 + i := nI_clamp (by omega)
    rw [wY_apply_149]
    dsimp only
    rw [e3, e4, e5, e6, e1, hl, hp_cp_s (by omega)]
    exact br_f (nI_ge (b := 208) (by omega) (by decide)) ⟨i1, br_f (nI_ge (by omega) (by omega)) ⟨vp_in_nI (by omega) (by decide), vp_in_nI (by omega) (by decide), nm_e (nm_r (nI_1 (i + 1)) (ih (i + 1) k (by omega) (by omega)))⟩⟩
theorem ya_7 (hb : base + 9 ≤ 576) (hh : h ≤ 6) (h0 : 0 < h) {v : List Int32} (hv : v.length ≤ 208) (hs : hp_sl b_cell b_len (base + 2 + h) v)
    (K : ∀ c l, hp_fr (base + 2 + h) (base + 2 + h + 1) b_cell b_len c l → hp_sl c l (base + 2 + h) v.tail → Q (nI h) (f_draft, f_outKind, f_outCalls, f_outPeak, f_callLimit, f_depthLimit, a_ops, a_args, a_length, c, l, b_fn, b_pos, b_height, b_depth, 120432)) :
    wpY_apply Q (f_draft, f_outKind, f_outCalls, f_outPeak, f_callLimit, f_depthLimit, a_ops, a_args, a_length, b_cell, b_len, b_fn, b_pos, b_height, b_depth, 120432) 7 a (nI base) (nI h) := by
  have et : (nI (base + 2 + h)).toNatClampNeg = base + 2 + h := nI_clamp (by omega)
  have i6 : vp_in (nI (base + 2 + h)) 579 := vp_in_nI (by omega) (by decide)
  refine nm_r (ya_e5 base h) (nm_r (ya_e6 base h) (nm_r (ya_e7 base h) (br_f (by decide) (br_f (by decide) (br_t (by decide) (br_f (by decide) (br_t (by decide) (br_f (by decide) (br_f (by decide) (br_t rfl ?_))))))))))
  have hK : wY_apply_205 Q 7 (nI h) (nI (base + 2 + h)) (nI (base + 1 + h)) f_draft f_outKind f_outCalls f_outPeak f_callLimit f_depthLimit a_ops a_args a_length (hp_cp b_cell ((base + 2 + h) * 208 + 1) ((base + 2 + h) * 208) (v.length - 1)) b_len b_fn b_pos b_height b_depth 120432 := by
    unfold wY_apply_205
    rw [et, hs.1]
    have hcell : ∀ l, (∀ r, r < base + 2 + h ∨ base + 2 + h + 1 ≤ r → l r = b_len r) → l (base + 2 + h) = nI (v.length - 1) → Q (nI h) (f_draft, f_outKind, f_outCalls, f_outPeak, f_callLimit, f_depthLimit, a_ops, a_args, a_length, hp_cp b_cell ((base + 2 + h) * 208 + 1) ((base + 2 + h) * 208) (v.length - 1), l, b_fn, b_pos, b_height, b_depth, 120432) := by
      intro l hl1 hl2
      refine K _ _ ⟨fun j hj => if_neg (by rcases hj with z | z <;> omega), hl1⟩ ⟨by rw [hl2, List.length_tail], fun i hi => ?_⟩
      rw [List.length_tail] at hi
      rw [hp_cp_r hi, hp_gt, Nat.add_assoc, Nat.add_comm 1 i]
      exact hs.2 (i + 1) (by omega)
    refine And.intro i6 (br_c (fun z => br_f (by decide) (hcell _ (fun _ _ => rfl) ?_)) (fun z => ⟨i6, i6, nm_e (br_f (by decide) (hcell _ (fun r hr => pk_un (by rcases hr with z | z <;> omega)) ?_))⟩))
    · have z' : nI v.length ≤ nI 0 := z
      rw [nI_leI (by omega) (by decide)] at z'
      rw [hs.1]
      exact congrArg nI (by omega)
    · have z' : ¬ nI v.length ≤ nI 0 := z
      rw [nI_leI (by omega) (by decide)] at z'
      rw [pk_us, show (1 : Int32) = nI 1 from rfl, pk_sub (by omega)]
  have hl := yl_tl (Q := Q) (t := base + 2 + h) (by omega) hv hs.1 hK (v.length - 1) 0 (v.length + 1) (by omega) (by omega)
  rw [hp_cp_0] at hl
  exact ⟨_, hl⟩
theorem yl_cs {t u m : Nat} {x4 x8 x9 : Int32} (htu : t = u + 1) (ht : t < 579) (hm : m ≤ 207) (hl : b_len t = nI m) (K : wY_apply_326 Q 9 x4 (nI t) (nI u) x8 x9 f_draft f_outKind f_outCalls f_outPeak f_callLimit f_depthLimit a_ops a_args a_length (hp_cp b_cell (t * 208) (u * 208 + 1) m) b_len b_fn b_pos b_height b_depth 120432) :
    ∀ d i k, i + d = m → d < k → wY_apply_270 Q 9 x4 (nI t) (nI u) x8 x9 f_draft f_outKind f_outCalls f_outPeak f_callLimit f_depthLimit 120432 k (nI i) a_ops a_args a_length (hp_cp b_cell (t * 208) (u * 208 + 1) i) b_len b_fn b_pos b_height b_depth := by
  have e1 : (nI t).toNatClampNeg = t := nI_clamp (by omega)
  have i1 : vp_in (nI t) 579 := vp_in_nI ht (by decide)
  intro d
  induction d with
  | zero =>
    intro i k hi hk
    obtain ⟨k, rfl⟩ : ∃ k', k = k' + 1 := ⟨k - 1, by omega⟩
    have : i = m := by omega
    subst this
    rw [wY_apply_270]
    refine br_c (fun _ => K) (fun _ => ⟨i1, ?_⟩)
    rw [e1, hl]
    exact br_t (nI_le (by omega) (by omega)) K
  | succ d ih =>
    intro i k hi hk
    obtain ⟨k, rfl⟩ : ∃ k', k = k' + 1 := ⟨k - 1, by omega⟩
    have e3 : nI t * 208 + nI i = nI (t * 208 + i) := by rw [show (208 : Int32) = nI 208 from rfl, pk_mul, nI_add]
    have e4 : nI u * 208 + 1 + nI i = nI (u * 208 + 1 + i) := by rw [show (208 : Int32) = nI 208 from rfl, pk_mul, nI_1, nI_add]
    have e5 : (nI (t * 208 + i)).toNatClampNeg = t * 208 + i := nI_clamp (by omega)
    have e6 : (nI (u * 208 + 1 + i)).toNatClampNeg = u * 208 + 1 + i := nI_clamp (by omega)
    rw [wY_apply_270]
    dsimp only
    rw [e3, e4, e5, e6, e1, hl, hp_cp_s (by omega)]
    exact br_f (nI_ge (b := 207) (by omega) (by decide)) ⟨i1, br_f (nI_ge (by omega) (by omega)) ⟨vp_in_nI (by omega) (by decide), vp_in_nI (by omega) (by decide), nm_e (nm_r (nI_1 i) (ih (i + 1) k (by omega) (by omega)))⟩⟩
theorem ya_h1 {h : Nat} (h0 : 0 < h) : nI h - 1 = nI (h - 1) := by rw [show (1 : Int32) = nI 1 from rfl, pk_sub h0]
theorem ya_9 (hb : base + 9 ≤ 576) (hh : h ≤ 6) (h0 : 1 < h) {v : List Int32} {x : Int32} (hv : v.length ≤ 207) (hs : hp_sl b_cell b_len (base + 2 + h) v) (hx : hp_sl b_cell b_len (base + 1 + h) [x])
    (K : ∀ c l, hp_fr (base + 1 + h) (base + 1 + h + 1) b_cell b_len c l → hp_sl c l (base + 1 + h) (x :: v) → Q (nI (h - 1)) (f_draft, f_outKind, f_outCalls, f_outPeak, f_callLimit, f_depthLimit, a_ops, a_args, a_length, c, l, b_fn, b_pos, b_height, b_depth, 120432)) :
    wpY_apply Q (f_draft, f_outKind, f_outCalls, f_outPeak, f_callLimit, f_depthLimit, a_ops, a_args, a_length, b_cell, b_len, b_fn, b_pos, b_height, b_depth, 120432) 9 a (nI base) (nI h) := by
  have et : (nI (base + 2 + h)).toNatClampNeg = base + 2 + h := nI_clamp (by omega)
  have eu : (nI (base + 1 + h)).toNatClampNeg = base + 1 + h := nI_clamp (by omega)
  have i6 : vp_in (nI (base + 2 + h)) 579 := vp_in_nI (by omega) (by decide)
  have i7 : vp_in (nI (base + 1 + h)) 579 := vp_in_nI (by omega) (by decide)
  refine nm_r (ya_e5 base h) (nm_r (ya_e6 base h) (nm_r (ya_e7 base h) (br_f (by decide) (br_f (by decide) (br_t (by decide) (br_f (by decide) (br_t (by decide) (br_f (by decide) (br_f (by decide) (br_f (by decide) (br_t (by decide) ?_)))))))))))
  rw [ya_208, ya_208]
  refine And.intro (vp_in_nI (by omega) (by decide)) (nm_e (And.intro (vp_in_nI (by omega) (by decide)) (nm_e (br_t rfl ?_))))
  have hK : wY_apply_326 Q 9 (nI h) (nI (base + 2 + h)) (nI (base + 1 + h)) (b_cell (nI ((base + 1 + h) * 208)).toNatClampNeg) (b_cell (nI ((base + 2 + h) * 208)).toNatClampNeg) f_draft f_outKind f_outCalls f_outPeak f_callLimit f_depthLimit a_ops a_args a_length (hp_cp b_cell ((base + 2 + h) * 208) ((base + 1 + h) * 208 + 1) v.length) b_len b_fn b_pos b_height b_depth 120432 := by
    unfold wY_apply_326
    rw [et, eu, hs.1]
    refine And.intro i6 (And.intro i7 (nm_r (congrArg (upd b_len (base + 1 + h)) (nI_1 v.length)) (br_f (by decide) (br_f (by decide) (br_f (by decide) (br_f (by decide) ?_))))))
    rw [ya_h1 (by omega)]
    refine K _ _ ⟨fun j hj => if_neg (by rcases hj with z | z <;> omega), fun r hr => pk_un (by rcases hr with z | z <;> omega)⟩ ⟨pk_us, fun i hi => ?_⟩
    rw [List.length_cons] at hi
    cases i with
    | zero =>
      have e : hp_cp b_cell ((base + 2 + h) * 208) ((base + 1 + h) * 208 + 1) v.length ((base + 1 + h) * 208 + 0) = b_cell ((base + 1 + h) * 208 + 0) := if_neg (by omega)
      have e2 := sl_x hx
      rw [e, Nat.add_zero]
      exact e2
    | succ i =>
      rw [show (base + 1 + h) * 208 + (i + 1) = (base + 1 + h) * 208 + 1 + i by omega, hp_cp_r (by omega)]
      exact hs.2 i (by omega)
  have hl := yl_cs (Q := Q) (t := base + 2 + h) (u := base + 1 + h) (by omega) (by omega) hv hs.1 hK v.length 0 (v.length + 1) (by omega) (by omega)
  rw [hp_cp_0] at hl
  exact ⟨_, hl⟩
theorem ya_b {o : Int32} (ho : o = 10 ∨ o = 11 ∨ o = 12 ∨ o = 13) (hb : base + 9 ≤ 576) (hh : h ≤ 6) (h0 : 1 < h) {x y : Int32} (hs : hp_sl b_cell b_len (base + 2 + h) [y]) (hx : hp_sl b_cell b_len (base + 1 + h) [x])
    (K : ∀ c l, hp_fr (base + 1 + h) (base + 1 + h + 1) b_cell b_len c l → hp_sl c l (base + 1 + h) [hp_ar o x y] → Q (nI (h - 1)) (f_draft, f_outKind, f_outCalls, f_outPeak, f_callLimit, f_depthLimit, a_ops, a_args, a_length, c, l, b_fn, b_pos, b_height, b_depth, 120432)) :
    wpY_apply Q (f_draft, f_outKind, f_outCalls, f_outPeak, f_callLimit, f_depthLimit, a_ops, a_args, a_length, b_cell, b_len, b_fn, b_pos, b_height, b_depth, 120432) o a (nI base) (nI h) := by
  have ct : b_cell (nI ((base + 2 + h) * 208)).toNatClampNeg = y := by rw [nI_clamp (by omega)]; exact sl_x hs
  have cu : b_cell (nI ((base + 1 + h) * 208)).toNatClampNeg = x := by rw [nI_clamp (by omega)]; exact sl_x hx
  rw [← ya_h1 (by omega)] at K
  have K' : wY_apply_342 Q o (nI h) (nI (base + 1 + h)) x y f_draft f_outKind f_outCalls f_outPeak f_callLimit f_depthLimit a_ops a_args a_length b_cell b_len b_fn b_pos b_height b_depth 120432 := by
    rcases ho with rfl | rfl | rfl | rfl
    · exact br_t rfl (yl_setA (by omega) (fun c l h1 h2 => br_f (by decide) (br_f (by decide) (br_f (by decide) (K c l h1 h2)))))
    · exact br_f (by decide) (br_t rfl (yl_setA (by omega) (fun c l h1 h2 => br_f (by decide) (br_f (by decide) (K c l h1 h2)))))
    · exact br_f (by decide) (br_f (by decide) (br_t rfl (yl_setA (by omega) (fun c l h1 h2 => br_f (by decide) (K c l h1 h2)))))
    · refine br_f (by decide) (br_f (by decide) (br_f (by decide) (br_t rfl (br_c (fun z => ?_) (fun z => ?_)))))
      · unfold wY_apply_414
        refine yl_setA (by omega) (fun c l h1 h2 => K c l h1 ?_)
        have : hp_ar 13 x y = 0 := if_neg (Int32.not_lt.mpr z)
        rw [this]
        exact h2
      · unfold wY_apply_414
        refine yl_setA (by omega) (fun c l h1 h2 => K c l h1 ?_)
        have : hp_ar 13 x y = 1 := if_pos (Int32.not_le.mp z)
        rw [this]
        exact h2
  have d1 : ¬ o = 1 ∧ ¬ o < 2 ∧ 4 < o ∧ ¬ o = 5 ∧ 5 < o ∧ ¬ o = 6 ∧ ¬ o = 8 ∧ ¬ o = 7 ∧ 8 < o ∧ ¬ o = 9 := by rcases ho with rfl | rfl | rfl | rfl <;> decide
  obtain ⟨d1, d2, d3, d4, d5, d6, d7, d8, d9, d10⟩ := d1
  refine nm_r (ya_e5 base h) (nm_r (ya_e6 base h) (nm_r (ya_e7 base h) (br_f d1 (br_f d2 (br_t d3 (br_f d4 (br_t d5 (br_f d6 (br_f d7 (br_f d8 (br_t d9 ?_)))))))))))
  rw [ya_208, ya_208]
  exact And.intro (vp_in_nI (by omega) (by decide)) (nm_r cu (And.intro (vp_in_nI (by omega) (by decide)) (nm_r ct (br_f d10 K'))))
end
end
section
section
variable {f_draft : Int32} {f_outKind : Int32} {f_outCalls : Int32} {f_outPeak : Int32} {f_callLimit : Int32} {f_depthLimit : Int32} {a_ops : Nat → Int32} {a_args : Nat → Int32} {a_length : Nat → Int32} {b_cell : Nat → Int32} {b_len : Nat → Int32} {b_fn : Nat → Int32} {b_pos : Nat → Int32} {b_height : Nat → Int32} {b_depth : Nat → Int32} {n_cell : Nat}
/-- a word other than CALL, THEN, END in Y -/
theorem yl_ap {base : Nat} {o a nv : Int32} {xs ys : List Int32} {st : List (List Int32)} {ks : List Bool} {f : Nat} {g : Bool} {Q : Int32 → SY → Prop} (h1 : 1 ≤ o) (h2 : o ≤ 16) (h14 : o ≠ 14) (h15 : o ≠ 15) (h16 : o ≠ 16)
    (hf : hp_fit o f ks g) (ht : hp_ty ks st) (h6 : (hp_ta o a ks).length ≤ 6) (hk6 : ks.length ≤ 6) (hb : base + 9 ≤ 576) (s0 : hp_sl b_cell b_len base [nv]) (s1 : hp_sl b_cell b_len (base + 1) xs) (s2 : hp_sl b_cell b_len (base + 2) ys)
    (hx : xs.length ≤ 208) (hy : ys.length ≤ 208) (hS : hp_ys b_cell b_len (base + 3) st) (hB : hp_Bd 208 st) (h9 : o = 9 → hp_Bd 207 st)
    (K : ∀ c l, hp_fr (base + 3) (base + 9) b_cell b_len c l → hp_ys c l (base + 3) (hp_ap o a nv xs ys st) → Q (nI (hp_ap o a nv xs ys st).length) (f_draft, f_outKind, f_outCalls, f_outPeak, f_callLimit, f_depthLimit, a_ops, a_args, a_length, c, l, b_fn, b_pos, b_height, b_depth, 120432)) :
    wpY_apply Q (f_draft, f_outKind, f_outCalls, f_outPeak, f_callLimit, f_depthLimit, a_ops, a_args, a_length, b_cell, b_len, b_fn, b_pos, b_height, b_depth, 120432) o a (nI base) (nI st.length) := by
  have hl := hp_ty_len ht
  rcases hp_16 h1 h2 with rfl | rfl | rfl | rfl | rfl | rfl | rfl | rfl | rfl | rfl | rfl | rfl | rfl | rfl | rfl | rfl
  · have h6' : ks.length + 1 ≤ 6 := h6
    exact ya_1 hb (by omega) (fun c l k1 k2 => K c l (fr_mo k1 (by omega) (by omega)) (And.intro k2 (ys_fr k1 (Or.inl (by omega)) hB hS)))
  · have h6' : ks.length + 1 ≤ 6 := h6
    exact ya_c (p := base) (Or.inl rfl) hb (by omega) (by rw [show (2 : Int32) = nI 2 from rfl, nI_add, pk_sub (by omega)]; rfl) (by omega) (by show 1 ≤ 208; decide) s0 (fun c l k1 k2 => K c l (fr_mo k1 (by omega) (by omega)) (And.intro k2 (ys_fr k1 (Or.inl (by omega)) hB hS)))
  · have h6' : ks.length + 1 ≤ 6 := h6
    exact ya_c (p := base + 1) (Or.inr (Or.inl rfl)) hb (by omega) (by rw [show (2 : Int32) = nI 2 from rfl, show (3 : Int32) = nI 3 from rfl, nI_add, pk_sub (by omega)]; rfl) (by omega) hx s1 (fun c l k1 k2 => K c l (fr_mo k1 (by omega) (by omega)) (And.intro k2 (ys_fr k1 (Or.inl (by omega)) hB hS)))
  · have h6' : ks.length + 1 ≤ 6 := h6
    exact ya_c (p := base + 2) (Or.inr (Or.inr rfl)) hb (by omega) (by rw [show (2 : Int32) = nI 2 from rfl, show (4 : Int32) = nI 4 from rfl, nI_add, pk_sub (by omega)]; rfl) (by omega) hy s2 (fun c l k1 k2 => K c l (fr_mo k1 (by omega) (by omega)) (And.intro k2 (ys_fr k1 (Or.inl (by omega)) hB hS)))
  · have h6' : ks.length + 1 ≤ 6 := h6
    exact ya_5 hb (by omega) (fun c l k1 k2 => K c l (fr_mo k1 (by omega) (by omega)) (And.intro k2 (ys_fr k1 (Or.inl (by omega)) hB hS)))
  · obtain ⟨r, rfl⟩ := hp_fu hf (by decide) (by decide)
    obtain ⟨v, vs, rfl, h⟩ := hp_tyl ht
    simp only [List.length_cons] at hl hk6
    have hs1 : hp_sl b_cell b_len (base + 2 + (vs.length + 1)) v := by rw [show base + 2 + (vs.length + 1) = base + 3 + vs.length by omega]; exact hS.1
    refine ya_6 hb (by rw [List.length_cons]; omega) (by rw [List.length_cons]; omega) (hp_Bd_h hB) hs1 (fun c l k1 k2 => ?_)
    rw [List.length_cons, show base + 2 + (vs.length + 1) = base + 3 + vs.length by omega] at k1 k2
    exact K c l (fr_mo k1 (by omega) (by omega)) (And.intro k2 (ys_fr (st := vs) k1 (Or.inl (by omega)) (hp_Bd_t hB) hS.2))
  · obtain ⟨r, rfl⟩ := hp_fu hf (by decide) (by decide)
    obtain ⟨v, vs, rfl, h⟩ := hp_tyl ht
    simp only [List.length_cons] at hl hk6
    have hs1 : hp_sl b_cell b_len (base + 2 + (vs.length + 1)) v := by rw [show base + 2 + (vs.length + 1) = base + 3 + vs.length by omega]; exact hS.1
    refine ya_7 hb (by rw [List.length_cons]; omega) (by rw [List.length_cons]; omega) (hp_Bd_h hB) hs1 (fun c l k1 k2 => ?_)
    rw [List.length_cons, show base + 2 + (vs.length + 1) = base + 3 + vs.length by omega] at k1 k2
    exact K c l (fr_mo k1 (by omega) (by omega)) (And.intro k2 (ys_fr (st := vs) k1 (Or.inl (by omega)) (hp_Bd_t hB) hS.2))
  · obtain ⟨r, rfl⟩ := hp_fu hf (by decide) (by decide)
    obtain ⟨v, vs, rfl, h⟩ := hp_tyl ht
    simp only [List.length_cons] at hl hk6
    have hs1 : hp_sl b_cell b_len (base + 2 + (vs.length + 1)) v := by rw [show base + 2 + (vs.length + 1) = base + 3 + vs.length by omega]; exact hS.1
    refine ya_8 hb (by rw [List.length_cons]; omega) (by rw [List.length_cons]; omega) (hp_Bd_h hB) hs1 (fun c l k1 k2 => ?_)
    rw [List.length_cons, show base + 2 + (vs.length + 1) = base + 3 + vs.length by omega] at k1 k2
    exact K c l (fr_mo k1 (by omega) (by omega)) (And.intro k2 (ys_fr (st := vs) k1 (Or.inl (by omega)) (hp_Bd_t hB) hS.2))
  · obtain ⟨r, rfl⟩ := hp_fc hf
    obtain ⟨v, vs, rfl, h⟩ := hp_tyl ht
    obtain ⟨x, vs, rfl, h'⟩ := hp_tyi h
    simp only [List.length_cons] at hl hk6
    have hs1 : hp_sl b_cell b_len (base + 2 + (vs.length + 1 + 1)) v := by rw [show base + 2 + (vs.length + 1 + 1) = base + 3 + (vs.length + 1) by omega]; exact hS.1
    have hs2 : hp_sl b_cell b_len (base + 1 + (vs.length + 1 + 1)) [x] := by rw [show base + 1 + (vs.length + 1 + 1) = base + 3 + vs.length by omega]; exact hS.2.1
    refine ya_9 hb (by simp only [List.length_cons]; omega) (by simp only [List.length_cons]; omega) (hp_Bd_h (h9 rfl)) hs1 hs2 (fun c l k1 k2 => ?_)
    simp only [List.length_cons] at k1 k2
    rw [show base + 1 + (vs.length + 1 + 1) = base + 3 + vs.length by omega] at k1 k2
    exact K c l (fr_mo k1 (by omega) (by omega)) (And.intro k2 (ys_fr (st := vs) k1 (Or.inl (by omega)) (hp_Bd_t (hp_Bd_t hB)) hS.2.2))
  all_goals first | exact absurd rfl h14 | exact absurd rfl h15 | exact absurd rfl h16 | skip
  all_goals
    obtain ⟨r, rfl⟩ := hp_fb hf (by decide) (by decide)
    obtain ⟨y, vs, rfl, h⟩ := hp_tyi ht
    obtain ⟨x, vs, rfl, h'⟩ := hp_tyi h
    simp only [List.length_cons] at hl hk6
    have hs1 : hp_sl b_cell b_len (base + 2 + (vs.length + 1 + 1)) [y] := by rw [show base + 2 + (vs.length + 1 + 1) = base + 3 + (vs.length + 1) by omega]; exact hS.1
    have hs2 : hp_sl b_cell b_len (base + 1 + (vs.length + 1 + 1)) [x] := by rw [show base + 1 + (vs.length + 1 + 1) = base + 3 + vs.length by omega]; exact hS.2.1
    refine ya_b (by decide) hb (by simp only [List.length_cons]; omega) (by simp only [List.length_cons]; omega) hs1 hs2 (fun c l k1 k2 => ?_)
    simp only [List.length_cons] at k1 k2
    rw [show base + 1 + (vs.length + 1 + 1) = base + 3 + vs.length by omega] at k1 k2
    exact K c l (fr_mo k1 (by omega) (by omega)) (And.intro k2 (ys_fr (st := vs) k1 (Or.inl (by omega)) (hp_Bd_t (hp_Bd_t hB)) hS.2.2))
theorem yl_ps {f n : Nat} (hf : f < 4) (hn : n ≤ 48) (hl : a_length f = nI n) {Q : Int32 → Prop} :
    ∀ d i b k, i + d = n → d < k → b ≤ i → Q (hp_bI (hp_ps (hp_o a_ops f) d i b)) → wY_passed_7 Q (nI f) f_draft f_outKind f_outCalls f_outPeak f_callLimit f_depthLimit a_ops a_args a_length b_cell b_len b_fn b_pos b_height b_depth n_cell k (nI b) (nI i) := by
  have e1 : (nI f).toNatClampNeg = f := nI_clamp (by omega)
  have i1 : vp_in (nI f) 4 := vp_in_nI hf (by decide)
  intro d
  induction d with
  | zero =>
    intro i b k hi hk hb hQ
    obtain ⟨k, rfl⟩ : ∃ k', k = k' + 1 := ⟨k - 1, by omega⟩
    rw [wY_passed_7]
    dsimp only
    rw [e1, hl]
    exact And.intro i1 (br_t (nI_le (by omega) (by omega)) hQ)
  | succ d ih =>
    intro i b k hi hk hb hQ
    obtain ⟨k, rfl⟩ : ∃ k', k = k' + 1 := ⟨k - 1, by omega⟩
    have e3 : nI f * 48 + nI i = nI (f * 48 + i) := by rw [show (48 : Int32) = nI 48 from rfl, pk_mul, nI_add]
    have e5 : (nI (f * 48 + i)).toNatClampNeg = f * 48 + i := nI_clamp (by omega)
    obtain ⟨o, ho⟩ : ∃ o, a_ops (f * 48 + i) = o := ⟨_, rfl⟩
    have ho' : hp_o a_ops f i = o := ho
    rw [hp_ps, ho'] at hQ
    rw [wY_passed_7]
    dsimp only
    rw [e3, e5, e1, hl, ho]
    refine And.intro i1 (br_f (nI_ge (by omega) (by omega)) (And.intro (vp_in_nI (by omega) (by decide)) (nm_e ?_)))
    by_cases c16 : o = 16
    · rw [if_pos c16] at hQ; exact br_t c16 hQ
    rw [if_neg c16] at hQ
    refine br_f c16 ?_
    by_cases c14 : o = 14
    · rw [if_pos (Or.inl c14)] at hQ; exact br_t c14 hQ
    refine br_f c14 ?_
    by_cases c15 : o = 15
    · rw [if_pos (Or.inr c15)] at hQ; exact br_t c15 hQ
    refine br_f c15 ?_
    rw [if_neg (fun z => z.elim c14 c15)] at hQ
    by_cases c5 : 5 < o
    · refine br_t c5 ?_
      rw [if_pos c5] at hQ
      by_cases c8 : 8 < o
      · refine br_t c8 ?_
        rw [if_pos c8] at hQ
        by_cases cb : b < 2
        · refine br_t (nI_lt (b := 2) cb (by decide)) ?_
          rw [if_pos cb] at hQ
          by_cases c13 : o = 13
          · rw [if_pos c13] at hQ; exact br_t c13 hQ
          refine br_f c13 ?_
          rw [if_neg c13] at hQ
          by_cases c9 : o = 9
          · refine br_t c9 ?_
            rw [if_pos c9] at hQ
            by_cases cb1 : b = 1
            · rw [if_pos cb1] at hQ
              subst cb1
              exact br_t rfl hQ
            · rw [if_neg cb1] at hQ
              have cb0 : b = 0 := by omega
              subst cb0
              exact br_f (by decide) (nm_r (nI_1 i) (ih (i + 1) 0 k (by omega) (by omega) (by omega) hQ))
          · rw [if_neg c9] at hQ
            exact br_f c9 (nm_r (nI_1 i) (ih (i + 1) 0 k (by omega) (by omega) (by omega) hQ))
        · refine br_f (nI_nlt (b := 2) (by omega) (by omega)) ?_
          rw [if_neg cb] at hQ
          exact nm_r (sb_m1 (by omega)) (nm_r (nI_1 i) (ih (i + 1) (b - 1) k (by omega) (by omega) (by omega) hQ))
      · refine br_f c8 ?_
        rw [if_neg c8] at hQ
        by_cases cb : b = 0
        · rw [if_pos cb] at hQ
          subst cb
          exact br_t rfl hQ
        · rw [if_neg cb] at hQ
          exact br_f (nI_ne0 (by omega) (by omega)) (nm_r (nI_1 i) (ih (i + 1) b k (by omega) (by omega) (by omega) hQ))
    · refine br_f c5 ?_
      rw [if_neg c5] at hQ
      exact nm_r (nI_1 b) (nm_r (nI_1 i) (ih (i + 1) (b + 1) k (by omega) (by omega) (by omega) hQ))
theorem yl_pa {f n pc : Nat} (hf : f < 4) (hn : n ≤ 48) (hl : a_length f = nI n) (hp : pc < n) {Q : Int32 → Prop} (K : Q (hp_bI (hp_pa (hp_o a_ops f) n pc))) : wpY_passed Q (f_draft, f_outKind, f_outCalls, f_outPeak, f_callLimit, f_depthLimit, a_ops, a_args, a_length, b_cell, b_len, b_fn, b_pos, b_height, b_depth, n_cell) (nI f) (nI pc) := by
  unfold wpY_passed
  exact nm_r (nI_1 pc) ⟨n + 1, yl_ps hf hn hl (n - (pc + 1)) (pc + 1) 0 (n + 1) (by omega) (by omega) (by omega) K⟩
end
end
section
section
variable {f_draft : Int32} {f_outKind : Int32} {f_outCalls : Int32} {f_outPeak : Int32} {f_callLimit : Int32} {f_depthLimit : Int32} {a_ops : Nat → Int32} {a_args : Nat → Int32} {a_length : Nat → Int32} {b_cell : Nat → Int32} {b_len : Nat → Int32} {b_fn : Nat → Int32} {b_pos : Nat → Int32} {b_height : Nat → Int32} {b_depth : Nat → Int32} {n_cell : Nat} {post : Int32 → SY → Prop} {J : Int32 → Int32 → Int32 → Int32 → Int32 → Int32 → Int32 → Int32 → Int32 → Int32 → (Nat → Int32) → (Nat → Int32) → (Nat → Int32) → (Nat → Int32) → (Nat → Int32) → (Nat → Int32) → (Nat → Int32) → (Nat → Int32) → (Nat → Int32) → Nat → Prop} {x1 x3 x4 x5 x6 x12 : Int32}
theorem yl_355s {T s f pc h base i k : Nat} (hi : i < 3) (hb : base + 12 ≤ 576) (hh3 : 3 ≤ h) (hh : h ≤ 6) {v : List Int32} (hv : v.length ≤ 208) (hs : hp_sl b_cell b_len (base + h + i) v)
    (K : ∀ c l, hp_fr (base + 9 + i) (base + 9 + i + 1) b_cell b_len c l → hp_sl c l (base + 9 + i) v → wY_run_355 post J x1 x3 x4 (nI T) (nI s) (nI f) (nI pc) (nI h) (nI base) x12 k (nI (i + 1)) f_draft f_outKind f_outCalls f_outPeak f_callLimit f_depthLimit a_ops a_args a_length c l b_fn b_pos b_height b_depth 120432) :
    wY_run_355 post J x1 x3 x4 (nI T) (nI s) (nI f) (nI pc) (nI h) (nI base) x12 (k + 1) (nI i) f_draft f_outKind f_outCalls f_outPeak f_callLimit f_depthLimit a_ops a_args a_length b_cell b_len b_fn b_pos b_height b_depth 120432 := by
  have e1 : nI base + nI h + nI i = nI (base + h + i) := by rw [nI_add, nI_add]
  have e2 : nI base + 9 + nI i = nI (base + 9 + i) := by rw [show (9 : Int32) = nI 9 from rfl, nI_add, nI_add]
  rw [wY_run_355]
  dsimp only
  rw [e1, e2]
  refine br_f (nI_ge (b := 3) hi (by decide)) ?_
  refine yl_cpA (by omega) (by omega) (by omega) hv hs (fun c l h1 h2 => ?_)
  exact nm_r (nI_1 i) (K c l h1 h2)
theorem yl_355 {T s f pc h base g : Nat} (hT : T + 1 < 64) (hf : f < 4) (hpc : pc < 48) (hb : base + 12 ≤ 576) (hh3 : 3 ≤ h) (hh : h ≤ 6) {v1 v2 v3 : List Int32} (l1 : v1.length ≤ 208) (l2 : v2.length ≤ 208) (l3 : v3.length ≤ 208)
    (s1 : hp_sl b_cell b_len (base + h) v1) (s2 : hp_sl b_cell b_len (base + h + 1) v2) (s3 : hp_sl b_cell b_len (base + h + 2) v3) (ha : a_args (f * 48 + pc) = nI g)
    (K : ∀ c l, hp_fr (base + 9) (base + 12) b_cell b_len c l → hp_sl c l (base + 9) v1 → hp_sl c l (base + 10) v2 → hp_sl c l (base + 11) v3 →
      J x3 x4 (nI (T + 1)) (nI (s + 1)) f_draft f_outKind f_outCalls f_outPeak f_callLimit f_depthLimit a_ops a_args a_length c l (upd b_fn (T + 1) (nI g)) (upd (upd b_pos T (nI (pc + 1))) (T + 1) 0) (upd (upd b_height T (nI (h - 3))) (T + 1) 0) (upd b_depth (T + 1) x12) 120432) :
    wY_run_355 post J x1 x3 x4 (nI T) (nI s) (nI f) (nI pc) (nI h) (nI base) x12 4 0 f_draft f_outKind f_outCalls f_outPeak f_callLimit f_depthLimit a_ops a_args a_length b_cell b_len b_fn b_pos b_height b_depth 120432 := by
  refine yl_355s (i := 0) (k := 3) (by decide) hb hh3 hh l1 s1 (fun c l f1 g1 => ?_)
  refine yl_355s (i := 1) (k := 2) (by decide) hb hh3 hh l2 (sl_fr f1 (Or.inl (by omega)) l2 s2) (fun c' l' f2 g2 => ?_)
  refine yl_355s (i := 2) (k := 1) (by decide) hb hh3 hh l3 (sl_fr f2 (Or.inl (by omega)) l3 (sl_fr f1 (Or.inl (by omega)) l3 s3)) (fun c2 l2' f3 g3 => ?_)
  have i1 : vp_in (nI T) 64 := vp_in_nI (by omega) (by decide)
  have i2 : vp_in (nI (T + 1)) 64 := vp_in_nI hT (by decide)
  have e1 : (nI T).toNatClampNeg = T := nI_clamp (by omega)
  have e2 : (nI (T + 1)).toNatClampNeg = T + 1 := nI_clamp (by omega)
  have e3 : nI f * 48 + nI pc = nI (f * 48 + pc) := by rw [show (48 : Int32) = nI 48 from rfl, pk_mul, nI_add]
  have e5 : (nI (f * 48 + pc)).toNatClampNeg = f * 48 + pc := nI_clamp (by omega)
  have e6 : nI h - 3 = nI (h - 3) := by rw [show (3 : Int32) = nI 3 from rfl, pk_sub hh3]
  have hK := K c2 l2' (fr_tr (fr_mo f1 (by omega) (by omega)) (fr_tr (fr_mo f2 (by omega) (by omega)) (fr_mo f3 (by omega) (by omega))))
    (sl_fr f3 (Or.inl (by omega)) l1 (sl_fr f2 (Or.inl (by omega)) l1 g1)) (sl_fr f3 (Or.inl (by omega)) l2 g2) g3
  rw [wY_run_355]
  dsimp only
  rw [nI_1 T, nI_1 pc, nI_1 s, e3, e5, e1, e6, ha]
  refine br_t (by decide) (And.intro i1 (nm_e (And.intro i1 (nm_e (nm_e (And.intro (vp_in_nI (by omega) (by decide)) ?_))))))
  rw [e2]
  exact And.intro i2 (nm_e (And.intro i2 (nm_e (And.intro i2 (nm_e (And.intro i2 (nm_e (nm_e hK))))))))
theorem yl_500 {f pc n r : Nat} (hf : f < 4) (hn : n ≤ 48) (hr : pc < r) (ho : a_ops (f * 48 + r) = 16) (hm : ∀ j, pc < j → j < r → a_ops (f * 48 + j) ≠ 16) (K : wY_run_537 post J x1 x3 x4 x5 x6 (nI (r + 1)) f_draft f_outKind f_outCalls f_outPeak f_callLimit f_depthLimit a_ops a_args a_length b_cell b_len b_fn b_pos b_height b_depth n_cell) :
    ∀ d k x, pc + d < n → d < k → (x = nI (r + 1) ∨ r ≤ pc + d) → wY_run_500 post J x1 x3 x4 x5 x6 (nI f) (nI pc) f_draft f_outKind f_outCalls f_outPeak f_callLimit f_depthLimit a_ops a_args a_length b_cell b_len b_fn b_pos b_height b_depth n_cell k x (nI (pc + d)) := by
  intro d
  induction d with
  | zero =>
    intro k x h1 h2 h3
    obtain ⟨k, rfl⟩ : ∃ k', k = k' + 1 := ⟨k - 1, by omega⟩
    have : x = nI (r + 1) := h3.elim id (fun z => by omega)
    subst this
    rw [wY_run_500]
    exact br_t (nI_le (by omega) (by omega)) K
  | succ d ih =>
    intro k x h1 h2 h3
    obtain ⟨k, rfl⟩ : ∃ k', k = k' + 1 := ⟨k - 1, by omega⟩
    have e3 : nI f * 48 + nI (pc + (d + 1)) = nI (f * 48 + (pc + (d + 1))) := by rw [show (48 : Int32) = nI 48 from rfl, pk_mul, nI_add]
    have e5 : (nI (f * 48 + (pc + (d + 1)))).toNatClampNeg = f * 48 + (pc + (d + 1)) := nI_clamp (by omega)
    have em : nI (pc + (d + 1)) + (-1) = nI (pc + d) := pk_m1 (pc + d)
    rw [wY_run_500]
    dsimp only
    rw [e3, e5]
    refine br_f (nI_ge (by omega) (by omega)) (And.intro (vp_in_nI (by omega) (by decide)) (br_c (fun c => nm_r (nI_1 _) (nm_r em (ih k _ (by omega) (by omega) ?_))) (fun c => nm_r em (ih k _ (by omega) (by omega) ?_))))
    · rcases Nat.lt_or_ge (pc + (d + 1)) r with z | z
      · exact absurd c (hm _ (by omega) z)
      · rcases Nat.lt_or_ge r (pc + (d + 1)) with z2 | z2
        · exact Or.inr (by omega)
        · have : pc + (d + 1) = r := by omega
          rw [this]
          exact Or.inl rfl
    · rcases h3 with z | z
      · exact Or.inl z
      · have : r ≠ pc + (d + 1) := fun q => c (by rw [← q]; exact ho)
        exact Or.inr (by omega)
end
def hp_YF (b_cell b_len b_fn b_pos b_height b_depth : Nat → Int32) (T f pc d : Nat) (nv : Int32) (xs ys : List Int32) (st : List (List Int32)) : Prop :=
  b_fn T = nI f ∧ b_pos T = nI pc ∧ b_height T = nI st.length ∧ b_depth T = nI d ∧ hp_sl b_cell b_len (9 * T) [nv] ∧ hp_sl b_cell b_len (9 * T + 1) xs ∧ hp_sl b_cell b_len (9 * T + 2) ys ∧ hp_ys b_cell b_len (9 * T + 3) st
section
variable {f_draft f_outKind f_outCalls f_outPeak : Int32} {a_ops a_args a_length : Nat → Int32} {post : Int32 → SY → Prop} {x1 : Int32} {CL DL : Nat}
/-- Y's loop gives the evaluator's outcome -/
theorem yr_main (hTX : hp_TX a_ops a_args (hp_N a_length)) (hlen : ∀ f, f < 4 → a_length f = nI (hp_N a_length f)) (hCL : CL ≤ 64) (hDL : DL ≤ 16) :
    ∀ (n f pc d : Nat) (nv : Int32) (xs ys : List Int32) (st : List (List Int32)) (e dp b T s : Nat) (b_cell b_len b_fn b_pos b_height b_depth : Nat → Int32),
      f < 4 → hp_At (hp_N a_length) f pc → T + 1 ≤ e → e ≤ CL → d ≤ DL → dp ≤ DL → 1 ≤ b → b + (3 - hp_cc (hp_o a_ops f) pc) + 3 * (64 - e) ≤ 208 → xs.length ≤ b → ys.length ≤ b → hp_Bd b st →
      hp_ty (hp_sc (hp_o a_ops f) (hp_o a_args f) pc) st → hp_YF b_cell b_len b_fn b_pos b_height b_depth T f pc d nv xs ys st → s + (48 - pc) + 48 * (64 - e) ≤ 4095 → 49 * (64 - e) + (48 - pc) < n →
      (∀ c, hp_ev a_ops a_args (hp_N a_length) CL DL n f pc d nv xs ys st e dp = .inl c → ∀ c1 l1 f1 p1 h1 d1, hp_fr (9 * T) 576 b_cell b_len c1 l1 →
        post c (f_draft, f_outKind, f_outCalls, f_outPeak, nI CL, nI DL, a_ops, a_args, a_length, c1, l1, f1, p1, h1, d1, 120432)) →
      (∀ w e' dp', hp_ev a_ops a_args (hp_N a_length) CL DL n f pc d nv xs ys st e dp = .inr (w, e', dp') → ∀ s' c1 l1 f1 p1 h1 d1 x7 x8 x9 k, hp_fr (9 * T) 576 b_cell b_len c1 l1 → hp_sl c1 l1 (9 * T + 3) w →
        (∀ j, j < T → f1 j = b_fn j ∧ p1 j = b_pos j ∧ h1 j = b_height j ∧ d1 j = b_depth j) → s' + 48 * (64 - e') + 1 ≤ s + (48 - pc) + 48 * (64 - e) → k + (s' + 1) = 4097 →
        wY_run_200 post (wY_run_97 post x1 k) x1 (nI e') (nI dp') (nI T) (nI s') x7 x8 x9 (nI (9 * T)) 16 f_draft f_outKind f_outCalls f_outPeak (nI CL) (nI DL) a_ops a_args a_length c1 l1 f1 p1 h1 d1 120432) →
      ∀ k, k + s = 4097 → wY_run_97 post x1 k (nI e) (nI dp) (nI T) (nI s) f_draft f_outKind f_outCalls f_outPeak (nI CL) (nI DL) a_ops a_args a_length b_cell b_len b_fn b_pos b_height b_depth 120432 := by
  intro n
  induction n with
  | zero => intro f pc d nv xs ys st e dp b T s b_cell b_len b_fn b_pos b_height b_depth _ _ _ _ _ _ _ _ _ _ _ _ _ _ h; omega
  | succ n ih =>
    intro f pc d nv xs ys st e dp b T s b_cell b_len b_fn b_pos b_height b_depth hf hat hTe heC hdD hdp hb1 hb hx hy hst hty hYF hs hn KF KO k hk
    obtain ⟨k, rfl⟩ : ∃ k', k = k' + 1 := ⟨k - 1, by omega⟩
    have hat0 := hat
    have h3 := hp_At_cc hTX hf hat
    obtain ⟨y1, y2, y3, y4, y5, y6, y7, y8⟩ := hYF
    obtain ⟨hn48, hWd, hcc, hCm⟩ := hTX f hf
    have hlf := hlen f hf
    have iT : vp_in (nI T) 64 := vp_in_nI (by omega) (by decide)
    have i4 : vp_in (nI f) 4 := vp_in_nI hf (by decide)
    have eT : (nI T).toNatClampNeg = T := nI_clamp (by omega)
    have ef : (nI f).toNatClampNeg = f := nI_clamp (by omega)
    have e9 : nI T * 9 = nI (9 * T) := by rw [show (9 : Int32) = nI 9 from rfl, pk_mul, Nat.mul_comm]
    have e93 : nI (9 * T) + 3 = nI (9 * T + 3) := nI_add (9 * T) 3
    have e48 : nI f * 48 + nI pc = nI (f * 48 + pc) := by rw [show (48 : Int32) = nI 48 from rfl, pk_mul, nI_add]
    rw [wY_run_97]
    dsimp only
    rw [eT]
    refine br_f (nI_ge (b := 4096) (by omega) (by decide)) (And.intro iT (nm_r y1 (And.intro iT (nm_r y2 (And.intro iT (nm_r y3 (nm_r e9 (And.intro i4 ?_))))))))
    rw [ef, hlf, e93, e48]
    rcases hat with ⟨h0, hpc⟩ | hpc
    · rw [h0]
      refine br_t (by decide) ?_
      have hev := ev_emp (ops := a_ops) (args := a_args) (N := hp_N a_length) (CL := CL) (DL := DL) (n := n) (f := f) (pc := pc) (d := d) (nv := nv) (xs := xs) (ys := ys) (st := st) (e := e) (dp := dp) h0
      have eand : nI f &&& 1 = nI (f % 2) := pk_andN (by omega) 1 (by decide)
      rw [eand]
      rcases Nat.mod_two_eq_zero_or_one f with z | z
      · have hk0 : hp_kg f = false := by unfold hp_kg; rw [z]; rfl
        rw [z]
        rw [hk0] at hev
        refine br_t rfl (yl_setA (by omega) (fun c l f1 g1 => ?_))
        exact KO [0] e dp hev s c l _ _ _ _ _ _ _ k (fr_mo f1 (by omega) (by omega)) g1 (fun j hj => ⟨rfl, rfl, rfl, rfl⟩) (by omega) (by omega)
      · have hk0 : hp_kg f = true := by unfold hp_kg; rw [z]; rfl
        rw [z]
        rw [hk0] at hev
        refine br_f (by decide) (And.intro (vp_in_nI (by omega) (by decide)) (nm_e ?_))
        rw [nI_clamp (by omega)]
        exact KO [] e dp hev s b_cell _ _ _ _ _ _ _ _ k (fr_mo fr_l (by omega) (by omega)) (sl_0 pk_us) (fun j hj => ⟨rfl, rfl, rfl, rfl⟩) (by omega) (by omega)
    · have hN : hp_N a_length f ≠ 0 := by omega
      obtain ⟨w1, w2, w3, w4, w5⟩ := hWd pc hpc
      obtain ⟨o, ho⟩ : ∃ o, a_ops (f * 48 + pc) = o := ⟨_, rfl⟩
      have ho' : hp_o a_ops f pc = o := ho
      rw [ho'] at w1 w2 w3 w4
      refine br_f (nI_nle (by omega) (by omega)) (And.intro (vp_in_nI (by omega) (by decide)) (nm_r (e' := o) (by rw [nI_clamp (by omega)]; exact ho) ?_))
      have hB208 : hp_Bd 208 st := hp_Bd_m hst (by omega)
      have hlst := hp_ty_len hty
      by_cases c16 : o = 16
      · subst c16
        have hev := ev_end (ops := a_ops) (args := a_args) (N := hp_N a_length) (CL := CL) (DL := DL) (n := n) (f := f) (pc := pc) (d := d) (nv := nv) (xs := xs) (ys := ys) (st := st) (e := e) (dp := dp) hN ho
        rw [hp_fe w4] at hty
        obtain ⟨v, vs, rfl, k1, k2⟩ := hp_ty_c hty
        rw [hp_ty_n k2] at y8
        exact KO v e dp hev s b_cell b_len _ _ _ _ _ _ _ k fr_rf y8.1 (fun j hj => ⟨rfl, rfl, rfl, rfl⟩) (by omega) (by omega)
      · have hnx := hp_nx hpc (by rw [ho']; exact c16) hCm
        have hks6 : (hp_sc (hp_o a_ops f) (hp_o a_args f) pc).length ≤ 6 := by
          cases pc with
          | zero => exact Nat.zero_le _
          | succ p => exact (hWd p (by omega)).2.2.2.2
        by_cases c14 : o = 14
        · subst c14
          obtain ⟨g, hg4, hg⟩ := w3 rfl
          have hg' : a_args (f * 48 + pc) = nI g := hg
          have hgc : (a_args (f * 48 + pc)).toNatClampNeg = g := by rw [hg']; exact nI_clamp (by omega)
          obtain ⟨r, hr⟩ := hp_fk w4
          rw [hr] at hty hks6
          obtain ⟨v3, vs, rfl, hty1⟩ := hp_tyl hty
          obtain ⟨v2, vs, rfl, hty2⟩ := hp_tyl hty1
          obtain ⟨v1, vs, rfl, hty3⟩ := hp_tyi hty2
          have hlv := hp_ty_len hty3
          simp only [List.length_cons] at hks6
          refine br_f (by decide) (br_t rfl ?_)
          by_cases hc : CL ≤ e
          · refine br_f (nI_nlt hc (by omega)) ?_
            exact KF (-7) (ev_long hN ho hc) _ _ _ _ _ _ fr_rf
          · refine br_t (nI_lt (by omega) (by omega)) (And.intro iT (nm_r (e' := nI d) (by rw [eT]; exact y4) ?_))
            refine yl_pa hf hn48 hlf hpc ?_
            generalize hdd : hp_dd (hp_pa (hp_o a_ops f) (hp_N a_length f) pc) d = d'
            have hd17 : d' ≤ d + 1 := by rw [← hdd]; cases hp_pa (hp_o a_ops f) (hp_N a_length f) pc <;> (show _ ≤ d + 1; first | exact Nat.le_refl _ | exact Nat.le_succ _)
            have key : wY_run_326 post (wY_run_97 post x1 k) x1 (nI e) (nI dp) (nI T) (nI s) (nI f) (nI pc) (nI ((v3 :: v2 :: [v1] :: vs).length)) (nI (9 * T)) (nI d') f_draft f_outKind f_outCalls f_outPeak (nI CL) (nI DL) a_ops a_args a_length b_cell b_len b_fn b_pos b_height b_depth 120432 := by
              unfold wY_run_326
              by_cases hd : DL < d'
              · refine br_f (nI_ge hd (by omega)) ?_
                exact KF (-6) (ev_deep hN ho hc (by rw [hdd]; exact hd)) _ _ _ _ _ _ fr_rf
              · refine br_t (nI_le (by omega) (by omega)) (nm_r (nI_1 e) ?_)
                have hev := ev_call (n := n) (d := d) (nv := nv) (xs := xs) (ys := ys) (dp := dp) (a := [v1]) (b := v2) (c := v3) (r := vs) hN ho hc (by rw [hdd]; exact hd) hgc
                rw [hdd] at hev
                have key2 : wY_run_355 post (wY_run_97 post x1 k) x1 (nI (e + 1)) (nI (hp_mx dp d')) (nI T) (nI s) (nI f) (nI pc) (nI ((v3 :: v2 :: [v1] :: vs).length)) (nI (9 * T)) (nI d') 4 0 f_draft f_outKind f_outCalls f_outPeak (nI CL) (nI DL) a_ops a_args a_length b_cell b_len b_fn b_pos b_height b_depth 120432 := by
                  simp only [List.length_cons]
                  have z1 : hp_sl b_cell b_len (9 * T + (vs.length + 1 + 1 + 1)) [v1] := by rw [show 9 * T + (vs.length + 1 + 1 + 1) = 9 * T + 3 + vs.length by omega]; exact y8.2.2.1
                  have z2 : hp_sl b_cell b_len (9 * T + (vs.length + 1 + 1 + 1) + 1) v2 := by rw [show 9 * T + (vs.length + 1 + 1 + 1) + 1 = 9 * T + 3 + (vs.length + 1) by omega]; exact y8.2.1
                  have z3 : hp_sl b_cell b_len (9 * T + (vs.length + 1 + 1 + 1) + 2) v3 := by rw [show 9 * T + (vs.length + 1 + 1 + 1) + 2 = 9 * T + 3 + (vs.length + 1 + 1) by omega]; exact y8.1
                  refine yl_355 (g := g) (by omega) hf (by omega) (by omega) (by omega) (by omega) (show ([v1] : List Int32).length ≤ 208 from (by decide : 1 ≤ 208)) (hp_Bd_h (hp_Bd_t hB208)) (hp_Bd_h hB208) z1 z2 z3 hg' (fun c l q1 q2 q3 q4 => ?_)
                  have e9' : 9 * (T + 1) = 9 * T + 9 := by omega
                  refine ih g 0 d' (([v1] : List Int32).headD 0) v2 v3 [] (e + 1) (hp_mx dp d') b (T + 1) (s + 1) _ _ _ _ _ _ hg4 (hp_At0 _ g) (by omega) (by omega) (by omega) (by unfold hp_mx; split <;> omega) hb1 (by have : hp_cc (hp_o a_ops g) 0 = 0 := rfl; omega) (hp_Bd_h (hp_Bd_t hst)) (hp_Bd_h hst) hp_Bd_0 trivial ?_ (by omega) (by omega) ?_ ?_ k (by omega)
                  · refine ⟨pk_us, pk_us, pk_us, pk_us, ?_, ?_, ?_, trivial⟩
                    · rw [e9']; exact q2
                    · rw [e9']; exact q3
                    · rw [e9']; exact q4
                  · intro c0 hE c1 l1 f1 p1 h1 d1 hfr
                    refine KF c0 ?_ c1 l1 f1 p1 h1 d1 (fr_tr (fr_mo q1 (by omega) (by omega)) (fr_mo hfr (by omega) (by omega)))
                    rw [hev, hE]
                    rfl
                  · intro w e' dp' hE s' c1 l1 f1 p1 h1 d1 x7 x8 x9 k' hfr hsl hlow hs' hk'
                    obtain ⟨a1, a2, a3, a4, a5⟩ := hp_ev_f hTX n g 0 d' _ v2 v3 [] (e + 1) (hp_mx dp d') b w e' dp' hg4 (hp_At0 _ g) hb1 (by omega) (by unfold hp_mx; split <;> omega) (hp_Bd_h (hp_Bd_t hst)) (hp_Bd_h hst) hp_Bd_0 trivial hE
                    have e0 : hp_cc (hp_o a_ops g) 0 = 0 := rfl
                    rw [e0] at a3
                    rw [hE] at hev
                    have hev' : hp_ev a_ops a_args (hp_N a_length) CL DL (n + 1) f pc d nv xs ys (v3 :: v2 :: [v1] :: vs) e dp = hp_ev a_ops a_args (hp_N a_length) CL DL n f (pc + 1) d nv xs ys (w :: vs) e' dp' := hev
                    obtain ⟨lw1, lw2, lw3, lw4⟩ := hlow T (by omega)
                    rw [pk_un (by omega)] at lw1 lw4
                    rw [pk_un (by omega), pk_us] at lw2 lw3
                    have hh3 : vs.length + 1 + 1 + 1 - 3 = vs.length := by omega
                    rw [hh3] at lw3
                    have hcn : hp_cc (hp_o a_ops f) (pc + 1) = hp_cc (hp_o a_ops f) pc := hp_cc_n (by rw [ho']; decide)
                    have hsc : hp_sc (hp_o a_ops f) (hp_o a_args f) (pc + 1) = hp_kg g :: r := by
                      rw [hp_sc, hr, ho', hg]
                      show hp_kg (nI g).toNatClampNeg :: r = _
                      rw [nI_clamp (by omega)]
                    have em : nI (T + 1) + (-1) = nI T := pk_m1 T
                    unfold wY_run_200
                    refine br_t rfl (br_f (nI_ne0 (by omega) (by omega)) (nm_r em (And.intro iT ?_)))
                    have ed : nI T * 9 + 3 + h1 (nI T).toNatClampNeg = nI (9 * T + 3 + vs.length) := by rw [e9, e93, eT, lw3, nI_add]
                    have es : nI (9 * (T + 1)) + 3 = nI (9 * (T + 1) + 3) := nI_add (9 * (T + 1)) 3
                    rw [ed, es]
                    refine yl_cpA (by omega) (by omega) (by omega) (by omega) hsl (fun c2 l2 t1 t2 => ?_)
                    refine And.intro iT (And.intro iT (nm_e (nm_r (nI_1 s') ?_)))
                    rw [eT, lw3, nI_1]
                    have hfr2 : hp_fr (9 * T + 3 + vs.length) 576 b_cell b_len c2 l2 := fr_tr (fr_mo q1 (by omega) (by omega)) (fr_tr (fr_mo hfr (by omega) (by omega)) (fr_mo t1 (by omega) (by omega)))
                    refine ih f (pc + 1) d nv xs ys (w :: vs) e' dp' (b + 3 * (e' - e)) T (s' + 1) _ _ _ _ _ _ hf (Or.inr hnx) (by omega) a2 hdD a5 (by omega) (by omega) (by omega) (by omega)
                      (hp_Bd_c (by omega) (hp_Bd_m (hp_Bd_t (hp_Bd_t (hp_Bd_t hst))) (by omega))) (by rw [hsc]; exact And.intro a4 hty3) ?_ (by omega) (by omega) ?_ ?_ k' (by omega)
                    · refine ⟨?_, lw2, ?_, ?_, sl_fr hfr2 (Or.inl (by omega)) (by show 1 ≤ 208; decide) y5, sl_fr hfr2 (Or.inl (by omega)) (by omega) y6, sl_fr hfr2 (Or.inl (by omega)) (by omega) y7, And.intro t2 (ys_fr hfr2 (Or.inl (by omega)) (hp_Bd_t (hp_Bd_t (hp_Bd_t hB208))) y8.2.2.2)⟩
                      · rw [lw1]; exact y1
                      · rw [pk_us, List.length_cons]
                      · rw [lw4]; exact y4
                    · intro c0 hE2 c3 l3 f3 p3 h3' d3 hfr3
                      exact KF c0 (by rw [hev']; exact hE2) c3 l3 f3 p3 h3' d3 (fr_tr (fr_mo hfr2 (by omega) (by omega)) hfr3)
                    · intro w2' e2 dp2 hE2 s2 c3 l3 f3 p3 h3' d3 x7' x8' x9' k2 hfr3 hsl3 hlow3 hs2 hk2
                      refine KO w2' e2 dp2 (by rw [hev']; exact hE2) s2 c3 l3 f3 p3 h3' d3 x7' x8' x9' k2 (fr_tr (fr_mo hfr2 (by omega) (by omega)) hfr3) hsl3 (fun j hj => ?_) (by omega) hk2
                      obtain ⟨m1, m2, m3, m4⟩ := hlow3 j hj
                      obtain ⟨n1, n2, n3, n4⟩ := hlow j (by omega)
                      rw [pk_un (by omega)] at n1 n4 m3
                      rw [pk_un (by omega), pk_un (by omega)] at n2 n3
                      exact ⟨m1.trans n1, m2.trans n2, m3.trans n3, m4.trans n4⟩
                by_cases hdx : d' ≤ dp
                · rw [hp_mx_le hdx] at key2
                  exact br_t (nI_le hdx (by omega)) ⟨4, key2⟩
                · rw [hp_mx_gt hdx] at key2
                  exact br_f (nI_ge (by omega) (by omega)) ⟨4, key2⟩
            cases hpa : hp_pa (hp_o a_ops f) (hp_N a_length f) pc with
            | true =>
              rw [hpa] at hdd
              have : d = d' := hdd
              subst this
              exact br_f (by decide) key
            | false =>
              rw [hpa] at hdd
              have : d + 1 = d' := hdd
              subst this
              exact br_t rfl (nm_r (nI_1 d) key)
        · by_cases c15 : o = 15
          · subst c15
            rw [(hp_ft w4).2] at hty
            obtain ⟨v, vs, rfl, hty1⟩ := hp_tyi hty
            rw [hp_ty_n hty1] at y8 hst KF KO
            have hcv : b_cell (nI ((9 * T + 3) * 208)).toNatClampNeg = v := by rw [nI_clamp (by omega)]; exact sl_x y8.1
            refine br_f (by decide) (br_f (by decide) (br_t rfl (nm_r (nI_1 pc) ?_)))
            rw [e93, ya_208, hcv]
            refine And.intro (vp_in_nI (by omega) (by decide)) ?_
            have fin : ∀ q, q < hp_N a_length f → pc < q → hp_sc (hp_o a_ops f) (hp_o a_args f) q = [] → hp_ev a_ops a_args (hp_N a_length) CL DL (n + 1) f pc d nv xs ys [[v]] e dp = hp_ev a_ops a_args (hp_N a_length) CL DL n f q d nv xs ys [] e dp →
                wY_run_537 post (wY_run_97 post x1 k) x1 (nI e) (nI dp) (nI T) (nI s) (nI q) f_draft f_outKind f_outCalls f_outPeak (nI CL) (nI DL) a_ops a_args a_length b_cell b_len b_fn b_pos b_height b_depth 120432 := by
              intro q hq1 hq2 hq3 hq4
              have hcq := hp_cc_le (o := hp_o a_ops f) (show pc ≤ q by omega)
              unfold wY_run_537
              rw [eT]
              refine And.intro iT (nm_e (And.intro iT (nm_e (nm_r (nI_1 s) ?_))))
              refine ih f q d nv xs ys [] e dp b T (s + 1) _ _ _ _ _ _ hf (Or.inr hq1) hTe heC hdD hdp hb1 (by omega) hx hy hp_Bd_0 (by rw [hq3]; trivial) ⟨y1, pk_us, pk_us, y4, y5, y6, y7, trivial⟩ (by omega) (by omega) ?_ ?_ k (by omega)
              · intro c0 hE2 c3 l3 f3 p3 h3' d3 hfr3
                exact KF c0 (by rw [hq4]; exact hE2) c3 l3 f3 p3 h3' d3 hfr3
              · intro w2' e2 dp2 hE2 s2 c3 l3 f3 p3 h3' d3 x7' x8' x9' k2 hfr3 hsl3 hlow3 hs2 hk2
                refine KO w2' e2 dp2 (by rw [hq4]; exact hE2) s2 c3 l3 f3 p3 h3' d3 x7' x8' x9' k2 hfr3 hsl3 (fun j hj => ?_) (by omega) hk2
                obtain ⟨m1, m2, m3, m4⟩ := hlow3 j hj
                rw [pk_un (by omega)] at m2 m3
                exact ⟨m1, m2, m3, m4⟩
            by_cases hv : v = 0
            · obtain ⟨r, r1, r2, r3, r4, r5⟩ := hp_jm_s hpc ho' hCm
              have hev := ev_th0 (args := a_args) (N := hp_N a_length) (CL := CL) (DL := DL) (n := n) (d := d) (nv := nv) (xs := xs) (ys := ys) (st := [[v]]) (e := e) (dp := dp) hN ho hv
              rw [r5] at hev
              have hf1 := fin (r + 1) (by omega) (by omega) (hp_sc_0 (Or.inr r3)) hev
              have hl1 : nI (hp_N a_length f) - 1 = nI (pc + (hp_N a_length f - 1 - pc)) := by
                rw [show (1 : Int32) = nI 1 from rfl, pk_sub (by omega)]
                exact congrArg nI (by omega)
              refine br_t hv (And.intro i4 (nm_r (e' := nI (pc + (hp_N a_length f - 1 - pc))) (by rw [ef, hlf]; exact hl1) ⟨hp_N a_length f + 1, ?_⟩))
              exact yl_500 (n := hp_N a_length f) hf hn48 r1 r3 (fun j j1 j2 => r4 j j1 j2) hf1 _ _ _ (by omega) (by omega) (Or.inr (by omega))
            · exact br_f hv (fin (pc + 1) hnx (by omega) (hp_sc_0 (Or.inl ho')) (ev_th1 hN ho hv))
          · have hev := ev_wd (args := a_args) (CL := CL) (DL := DL) (n := n) (d := d) (nv := nv) (xs := xs) (ys := ys) (st := st) (e := e) (dp := dp) hN ho rfl c16 c14 c15
            have hsc : hp_sc (hp_o a_ops f) (hp_o a_args f) (pc + 1) = hp_ta o (a_args (f * 48 + pc)) (hp_sc (hp_o a_ops f) (hp_o a_args f) pc) := by rw [hp_sc, ho']
            have hty' := hp_ap_ty (a := a_args (f * 48 + pc)) (nv := nv) (xs := xs) (ys := ys) w1 w2 c14 c15 c16 w4 hty
            rw [hsc] at w5
            refine br_f c16 (br_f c14 (br_f c15 ?_))
            rw [e48, nI_clamp (show f * 48 + pc < 2 ^ 31 by omega)]
            refine And.intro (vp_in_nI (by omega) (by decide)) ?_
            have hcl : hp_cc (hp_o a_ops f) pc ≤ hp_cc (hp_o a_ops f) (pc + 1) := hp_cc_le (by omega)
            have hc3 := hp_At_cc hTX hf (Or.inr hnx)
            have h9 : o = 9 → hp_cc (hp_o a_ops f) (pc + 1) = hp_cc (hp_o a_ops f) pc + 1 := fun z => hp_cc_9 (by rw [ho']; exact z)
            refine yl_ap w1 w2 c14 c15 c16 w4 hty w5 hks6 (by omega) y5 y6 y7 (by omega) (by omega) y8 hB208 (fun z => hp_Bd_m hst (by have := h9 z; omega)) (fun c l t1 t2 => ?_)
            refine And.intro iT (nm_e (And.intro iT (nm_r (congrArg _ (nI_1 pc)) (nm_r (nI_1 s) ?_))))
            rw [eT]
            refine ih f (pc + 1) d nv xs ys _ e dp (b + (hp_cc (hp_o a_ops f) (pc + 1) - hp_cc (hp_o a_ops f) pc)) T (s + 1) _ _ _ _ _ _ hf (Or.inr hnx) hTe heC hdD hdp (by omega) (by omega) (by omega) (by omega)
              (hp_ap_bd hb1 hx hy hst (by split; · have := h9 (by assumption); omega
                                          · omega)) (by rw [hsc]; exact hty')
              ⟨y1, pk_us, pk_us, y4, sl_fr t1 (Or.inl (by omega)) (by show 1 ≤ 208; decide) y5, sl_fr t1 (Or.inl (by omega)) (by omega) y6, sl_fr t1 (Or.inl (by omega)) (by omega) y7, t2⟩ (by omega) (by omega) ?_ ?_ k (by omega)
            · intro c0 hE2 c3 l3 f3 p3 h3' d3 hfr3
              exact KF c0 (by rw [hev]; exact hE2) c3 l3 f3 p3 h3' d3 (fr_tr (fr_mo t1 (by omega) (by omega)) hfr3)
            · intro w2' e2 dp2 hE2 s2 c3 l3 f3 p3 h3' d3 x7' x8' x9' k2 hfr3 hsl3 hlow3 hs2 hk2
              refine KO w2' e2 dp2 (by rw [hev]; exact hE2) s2 c3 l3 f3 p3 h3' d3 x7' x8' x9' k2 (fr_tr (fr_mo t1 (by omega) (by omega)) hfr3) hsl3 (fun j hj => ?_) (by omega) hk2
              obtain ⟨m1, m2, m3, m4⟩ := hlow3 j hj
              rw [pk_un (by omega)] at m2 m3
              exact ⟨m1, m2, m3, m4⟩
end
end
section
theorem pk_uu {f : Nat → Int32} {k : Nat} {x y : Int32} : upd (upd f k x) k y = upd f k y := by
  funext j
  unfold upd
  by_cases h : j = k
  · rw [if_pos h, if_pos h]
  · rw [if_neg h, if_neg h, if_neg h]
def hp_ld (o arg n x y : Int32) : Int32 := if o = 1 then arg else if o = 2 then n else if o = 3 then x else if o = 4 then y else 0
section
variable {f_callLimit : Int32} {f_depthLimit : Int32} {f_draft : Int32} {f_height : Int32} {f_guarded : Int32} {f_consCount : Int32} {f_outKind : Int32} {f_outValue : Int32} {f_outCalls : Int32} {f_outPeak : Int32} {f_cells : Int32} {f_top : Int32} {f_nextF : Int32} {f_nextN : Int32} {f_nextXs : Int32} {f_nextYs : Int32} {f_holePos : Int32} {f_holeMul : Int32} {f_holeAdd : Int32} {f_holeFirst : Int32} {f_holeLast : Int32} {f_running : Int32} {f_ending : Int32} {f_entered : Int32} {f_deepest : Int32} {a_ops : Nat → Int32} {a_args : Nat → Int32} {a_passed : Nat → Int32} {a_length : Nat → Int32} {a_heldCount : Nat → Int32} {a_kinds : Nat → Int32} {a_items : Nat → Int32} {a_itemCount : Nat → Int32} {a_outList : Nat → Int32} {a_head : Nat → Int32} {a_tail : Nat → Int32} {a_fn : Nat → Int32} {a_pc : Nat → Int32} {a_argN : Nat → Int32} {a_argXs : Nat → Int32} {a_argYs : Nat → Int32} {a_sp : Nat → Int32} {a_values : Nat → Int32} {a_mul : Nat → Int32} {a_add : Nat → Int32} {a_first : Nat → Int32} {a_last : Nat → Int32}
theorem xl_push {T h : Nat} {v : Int32} {Q : SX → Prop} (hT : T < 16) (hh : h < 6) (hs : a_sp T = nI h) (K : Q (f_callLimit, f_depthLimit, f_draft, f_height, f_guarded, f_consCount, f_outKind, f_outValue, f_outCalls, f_outPeak, f_cells, nI T, f_nextF, f_nextN, f_nextXs, f_nextYs, f_holePos, f_holeMul, f_holeAdd, f_holeFirst, f_holeLast, f_running, f_ending, f_entered, f_deepest, a_ops, a_args, a_passed, a_length, a_heldCount, a_kinds, a_items, a_itemCount, a_outList, a_head, a_tail, a_fn, a_pc, a_argN, a_argXs, a_argYs, upd a_sp T (nI (h + 1)), upd a_values (T * 6 + h) v, a_mul, a_add, a_first, a_last)) : wpX_push Q (f_callLimit, f_depthLimit, f_draft, f_height, f_guarded, f_consCount, f_outKind, f_outValue, f_outCalls, f_outPeak, f_cells, nI T, f_nextF, f_nextN, f_nextXs, f_nextYs, f_holePos, f_holeMul, f_holeAdd, f_holeFirst, f_holeLast, f_running, f_ending, f_entered, f_deepest, a_ops, a_args, a_passed, a_length, a_heldCount, a_kinds, a_items, a_itemCount, a_outList, a_head, a_tail, a_fn, a_pc, a_argN, a_argXs, a_argYs, a_sp, a_values, a_mul, a_add, a_first, a_last) v := by
  have e1 : (nI T).toNatClampNeg = T := nI_clamp (by omega)
  have e2 : nI T * 6 + nI h = nI (T * 6 + h) := by rw [show (6 : Int32) = nI 6 from rfl, pk_mul, nI_add]
  have e3 : (nI (T * 6 + h)).toNatClampNeg = T * 6 + h := nI_clamp (by omega)
  have i1 : vp_in (nI T) 16 := vp_in_nI hT (by decide)
  unfold wpX_push
  dsimp only
  rw [e1, hs, e2, e3, nI_1 h]
  exact And.intro i1 (And.intro (vp_in_nI (by omega) (by decide)) (nm_e (And.intro i1 (And.intro i1 (nm_e K)))))
theorem xl_pop {T h : Nat} {Q : Int32 → SX → Prop} (hT : T < 16) (hh : h < 6) (hs : a_sp T = nI (h + 1)) (K : Q (a_values (T * 6 + h)) (f_callLimit, f_depthLimit, f_draft, f_height, f_guarded, f_consCount, f_outKind, f_outValue, f_outCalls, f_outPeak, f_cells, nI T, f_nextF, f_nextN, f_nextXs, f_nextYs, f_holePos, f_holeMul, f_holeAdd, f_holeFirst, f_holeLast, f_running, f_ending, f_entered, f_deepest, a_ops, a_args, a_passed, a_length, a_heldCount, a_kinds, a_items, a_itemCount, a_outList, a_head, a_tail, a_fn, a_pc, a_argN, a_argXs, a_argYs, upd a_sp T (nI h), a_values, a_mul, a_add, a_first, a_last)) : wpX_pop Q (f_callLimit, f_depthLimit, f_draft, f_height, f_guarded, f_consCount, f_outKind, f_outValue, f_outCalls, f_outPeak, f_cells, nI T, f_nextF, f_nextN, f_nextXs, f_nextYs, f_holePos, f_holeMul, f_holeAdd, f_holeFirst, f_holeLast, f_running, f_ending, f_entered, f_deepest, a_ops, a_args, a_passed, a_length, a_heldCount, a_kinds, a_items, a_itemCount, a_outList, a_head, a_tail, a_fn, a_pc, a_argN, a_argXs, a_argYs, a_sp, a_values, a_mul, a_add, a_first, a_last) := by
  have e1 : (nI T).toNatClampNeg = T := nI_clamp (by omega)
  have e2 : nI T * 6 + nI h = nI (T * 6 + h) := by rw [show (6 : Int32) = nI 6 from rfl, pk_mul, nI_add]
  have e3 : (nI (T * 6 + h)).toNatClampNeg = T * 6 + h := nI_clamp (by omega)
  have i1 : vp_in (nI T) 16 := vp_in_nI hT (by decide)
  unfold wpX_pop
  dsimp only
  rw [e1, hs, nI_pred h]
  refine And.intro i1 (And.intro i1 (nm_e (And.intro i1 ?_)))
  rw [pk_us, e2, e3]
  exact And.intro (vp_in_nI (by omega) (by decide)) K
theorem xl_new {B : Nat} {p q : Int32} {Q : Int32 → SX → Prop} (hB : B < 225) (K : Q (nI B) (f_callLimit, f_depthLimit, f_draft, f_height, f_guarded, f_consCount, f_outKind, f_outValue, f_outCalls, f_outPeak, nI (B + 1), f_top, f_nextF, f_nextN, f_nextXs, f_nextYs, f_holePos, f_holeMul, f_holeAdd, f_holeFirst, f_holeLast, f_running, f_ending, f_entered, f_deepest, a_ops, a_args, a_passed, a_length, a_heldCount, a_kinds, a_items, a_itemCount, a_outList, upd a_head B p, upd a_tail B q, a_fn, a_pc, a_argN, a_argXs, a_argYs, a_sp, a_values, a_mul, a_add, a_first, a_last)) : wpX_newCell Q (f_callLimit, f_depthLimit, f_draft, f_height, f_guarded, f_consCount, f_outKind, f_outValue, f_outCalls, f_outPeak, nI B, f_top, f_nextF, f_nextN, f_nextXs, f_nextYs, f_holePos, f_holeMul, f_holeAdd, f_holeFirst, f_holeLast, f_running, f_ending, f_entered, f_deepest, a_ops, a_args, a_passed, a_length, a_heldCount, a_kinds, a_items, a_itemCount, a_outList, a_head, a_tail, a_fn, a_pc, a_argN, a_argXs, a_argYs, a_sp, a_values, a_mul, a_add, a_first, a_last) p q := by
  have e1 : (nI B).toNatClampNeg = B := nI_clamp (by omega)
  have i1 : vp_in (nI B) 225 := vp_in_nI hB (by decide)
  unfold wpX_newCell
  dsimp only
  rw [e1]
  exact And.intro i1 (nm_e (And.intro i1 (nm_e (nm_r (nI_1 B) K))))
theorem xl_kg {f : Nat} {Q : Int32 → Prop} (hf : f < 4) (K : Q (hp_kI (hp_kg f))) : wpX_kindGiven Q (f_callLimit, f_depthLimit, f_draft, f_height, f_guarded, f_consCount, f_outKind, f_outValue, f_outCalls, f_outPeak, f_cells, f_top, f_nextF, f_nextN, f_nextXs, f_nextYs, f_holePos, f_holeMul, f_holeAdd, f_holeFirst, f_holeLast, f_running, f_ending, f_entered, f_deepest, a_ops, a_args, a_passed, a_length, a_heldCount, a_kinds, a_items, a_itemCount, a_outList, a_head, a_tail, a_fn, a_pc, a_argN, a_argXs, a_argYs, a_sp, a_values, a_mul, a_add, a_first, a_last) (nI f) := by
  have eand : nI f &&& 1 = nI (f % 2) := pk_andN (by omega) 1 (by decide)
  unfold wpX_kindGiven
  dsimp only
  rw [eand]
  rcases Nat.mod_two_eq_zero_or_one f with z | z
  · have hk0 : hp_kg f = false := by unfold hp_kg; rw [z]; rfl
    rw [hk0] at K
    rw [z]
    exact br_t rfl K
  · have hk0 : hp_kg f = true := by unfold hp_kg; rw [z]; rfl
    rw [hk0] at K
    rw [z]
    exact br_f (by decide) K
theorem xl_adm_ok {CL DL e dp dep : Nat} {Q : Int32 → SX → Prop} (he : e < CL) (hCL : CL ≤ 64) (hd : dep ≤ DL) (hDL : DL ≤ 16) (hdp : dp ≤ 16)
    (K : Q 1 (nI CL, nI DL, f_draft, f_height, f_guarded, f_consCount, f_outKind, f_outValue, f_outCalls, f_outPeak, f_cells, f_top, f_nextF, f_nextN, f_nextXs, f_nextYs, f_holePos, f_holeMul, f_holeAdd, f_holeFirst, f_holeLast, f_running, 0, nI (e + 1), nI (hp_mx dp dep), a_ops, a_args, a_passed, a_length, a_heldCount, a_kinds, a_items, a_itemCount, a_outList, a_head, a_tail, a_fn, a_pc, a_argN, a_argXs, a_argYs, a_sp, a_values, a_mul, a_add, a_first, a_last)) : wpX_admit Q (nI CL, nI DL, f_draft, f_height, f_guarded, f_consCount, f_outKind, f_outValue, f_outCalls, f_outPeak, f_cells, f_top, f_nextF, f_nextN, f_nextXs, f_nextYs, f_holePos, f_holeMul, f_holeAdd, f_holeFirst, f_holeLast, f_running, 0, nI e, nI dp, a_ops, a_args, a_passed, a_length, a_heldCount, a_kinds, a_items, a_itemCount, a_outList, a_head, a_tail, a_fn, a_pc, a_argN, a_argXs, a_argYs, a_sp, a_values, a_mul, a_add, a_first, a_last) (nI dep) := by
  unfold wpX_admit
  dsimp only
  refine br_t (nI_lt he (by omega)) (br_t (nI_le hd (by omega)) ?_)
  unfold wX_admit_34
  refine br_t rfl (nm_r (nI_1 e) (br_c (fun z => ?_) (fun z => ?_)))
  · rw [nI_leI (by omega) (by omega)] at z
    rw [hp_mx_le z] at K
    exact K
  · rw [nI_leI (by omega) (by omega)] at z
    rw [hp_mx_gt z] at K
    exact K
theorem xl_adm_long {CL DL e dep : Nat} {Q : Int32 → SX → Prop} (he : CL ≤ e) (he2 : e ≤ 64) (K : Q 0 (nI CL, nI DL, f_draft, f_height, f_guarded, f_consCount, f_outKind, f_outValue, f_outCalls, f_outPeak, f_cells, f_top, f_nextF, f_nextN, f_nextXs, f_nextYs, f_holePos, f_holeMul, f_holeAdd, f_holeFirst, f_holeLast, 0, -7, nI e, f_deepest, a_ops, a_args, a_passed, a_length, a_heldCount, a_kinds, a_items, a_itemCount, a_outList, a_head, a_tail, a_fn, a_pc, a_argN, a_argXs, a_argYs, a_sp, a_values, a_mul, a_add, a_first, a_last)) : wpX_admit Q (nI CL, nI DL, f_draft, f_height, f_guarded, f_consCount, f_outKind, f_outValue, f_outCalls, f_outPeak, f_cells, f_top, f_nextF, f_nextN, f_nextXs, f_nextYs, f_holePos, f_holeMul, f_holeAdd, f_holeFirst, f_holeLast, f_running, 0, nI e, f_deepest, a_ops, a_args, a_passed, a_length, a_heldCount, a_kinds, a_items, a_itemCount, a_outList, a_head, a_tail, a_fn, a_pc, a_argN, a_argXs, a_argYs, a_sp, a_values, a_mul, a_add, a_first, a_last) (nI dep) := by
  unfold wpX_admit
  dsimp only
  refine br_f (nI_nlt he (by omega)) ?_
  unfold wX_admit_34
  exact br_f (by decide) K
theorem xl_adm_deep {CL DL e dep : Nat} {Q : Int32 → SX → Prop} (he : e < CL) (hCL : CL ≤ 64) (hd : DL < dep) (hdep : dep ≤ 64) (K : Q 0 (nI CL, nI DL, f_draft, f_height, f_guarded, f_consCount, f_outKind, f_outValue, f_outCalls, f_outPeak, f_cells, f_top, f_nextF, f_nextN, f_nextXs, f_nextYs, f_holePos, f_holeMul, f_holeAdd, f_holeFirst, f_holeLast, 0, -6, nI e, f_deepest, a_ops, a_args, a_passed, a_length, a_heldCount, a_kinds, a_items, a_itemCount, a_outList, a_head, a_tail, a_fn, a_pc, a_argN, a_argXs, a_argYs, a_sp, a_values, a_mul, a_add, a_first, a_last)) : wpX_admit Q (nI CL, nI DL, f_draft, f_height, f_guarded, f_consCount, f_outKind, f_outValue, f_outCalls, f_outPeak, f_cells, f_top, f_nextF, f_nextN, f_nextXs, f_nextYs, f_holePos, f_holeMul, f_holeAdd, f_holeFirst, f_holeLast, f_running, 0, nI e, f_deepest, a_ops, a_args, a_passed, a_length, a_heldCount, a_kinds, a_items, a_itemCount, a_outList, a_head, a_tail, a_fn, a_pc, a_argN, a_argXs, a_argYs, a_sp, a_values, a_mul, a_add, a_first, a_last) (nI dep) := by
  unfold wpX_admit
  dsimp only
  refine br_t (nI_lt he (by omega)) (br_f (nI_ge hd (by omega)) ?_)
  unfold wX_admit_34
  exact br_f (by decide) K
theorem xl_start {T : Nat} {Q : SX → Prop} (hT : T < 16) (K : Q (f_callLimit, f_depthLimit, f_draft, f_height, f_guarded, f_consCount, f_outKind, f_outValue, f_outCalls, f_outPeak, f_cells, nI T, f_nextF, f_nextN, f_nextXs, f_nextYs, f_holePos, f_holeMul, f_holeAdd, f_holeFirst, f_holeLast, f_running, f_ending, f_entered, f_deepest, a_ops, a_args, a_passed, a_length, a_heldCount, a_kinds, a_items, a_itemCount, a_outList, a_head, a_tail, upd a_fn T f_nextF, upd a_pc T 0, upd a_argN T f_nextN, upd a_argXs T f_nextXs, upd a_argYs T f_nextYs, upd a_sp T 0, a_values, a_mul, a_add, a_first, a_last)) : wpX_startCall Q (f_callLimit, f_depthLimit, f_draft, f_height, f_guarded, f_consCount, f_outKind, f_outValue, f_outCalls, f_outPeak, f_cells, nI T, f_nextF, f_nextN, f_nextXs, f_nextYs, f_holePos, f_holeMul, f_holeAdd, f_holeFirst, f_holeLast, f_running, f_ending, f_entered, f_deepest, a_ops, a_args, a_passed, a_length, a_heldCount, a_kinds, a_items, a_itemCount, a_outList, a_head, a_tail, a_fn, a_pc, a_argN, a_argXs, a_argYs, a_sp, a_values, a_mul, a_add, a_first, a_last) := by
  have e1 : (nI T).toNatClampNeg = T := nI_clamp (by omega)
  have i1 : vp_in (nI T) 16 := vp_in_nI hT (by decide)
  unfold wpX_startCall
  dsimp only
  rw [e1]
  exact And.intro i1 (nm_e (And.intro i1 (nm_e (And.intro i1 (nm_e (And.intro i1 (nm_e (And.intro i1 (nm_e (And.intro i1 (nm_e K)))))))))))
theorem xl_ent_ok {CL DL e dp T : Nat} {Q : SX → Prop} (h2 : f_top + 2 = nI (T + 1)) (h1 : f_top + 1 = nI T) (he : e < CL) (hCL : CL ≤ 64) (hd : T + 1 ≤ DL) (hDL : DL ≤ 16) (hdp : dp ≤ 16)
    (K : Q (nI CL, nI DL, f_draft, f_height, f_guarded, f_consCount, f_outKind, f_outValue, f_outCalls, f_outPeak, f_cells, nI T, f_nextF, f_nextN, f_nextXs, f_nextYs, f_holePos, f_holeMul, f_holeAdd, f_holeFirst, f_holeLast, f_running, 0, nI (e + 1), nI (hp_mx dp (T + 1)), a_ops, a_args, a_passed, a_length, a_heldCount, a_kinds, a_items, a_itemCount, a_outList, a_head, a_tail, upd a_fn T f_nextF, upd a_pc T 0, upd a_argN T f_nextN, upd a_argXs T f_nextXs, upd a_argYs T f_nextYs, upd a_sp T 0, a_values, upd a_mul T 1, upd a_add T 0, upd a_first T 0, upd a_last T 0)) :
    wpX_enterFrame Q (nI CL, nI DL, f_draft, f_height, f_guarded, f_consCount, f_outKind, f_outValue, f_outCalls, f_outPeak, f_cells, f_top, f_nextF, f_nextN, f_nextXs, f_nextYs, f_holePos, f_holeMul, f_holeAdd, f_holeFirst, f_holeLast, f_running, 0, nI e, nI dp, a_ops, a_args, a_passed, a_length, a_heldCount, a_kinds, a_items, a_itemCount, a_outList, a_head, a_tail, a_fn, a_pc, a_argN, a_argXs, a_argYs, a_sp, a_values, a_mul, a_add, a_first, a_last) := by
  have e1 : (nI T).toNatClampNeg = T := nI_clamp (by omega)
  have i1 : vp_in (nI T) 16 := vp_in_nI (by omega) (by decide)
  unfold wpX_enterFrame
  dsimp only
  rw [h2]
  refine xl_adm_ok he hCL hd hDL hdp ?_
  dsimp only
  refine br_f (by decide) (nm_r h1 ?_)
  rw [e1]
  refine And.intro i1 (nm_e (And.intro i1 (nm_e (And.intro i1 (nm_e (And.intro i1 (nm_e ?_)))))))
  exact xl_start (by omega) K
theorem xl_ent_long {CL DL e T : Nat} {Q : SX → Prop} (h2 : f_top + 2 = nI (T + 1)) (he : CL ≤ e) (he2 : e ≤ 64) (K : Q (nI CL, nI DL, f_draft, f_height, f_guarded, f_consCount, f_outKind, f_outValue, f_outCalls, f_outPeak, f_cells, f_top, f_nextF, f_nextN, f_nextXs, f_nextYs, f_holePos, f_holeMul, f_holeAdd, f_holeFirst, f_holeLast, 0, -7, nI e, f_deepest, a_ops, a_args, a_passed, a_length, a_heldCount, a_kinds, a_items, a_itemCount, a_outList, a_head, a_tail, a_fn, a_pc, a_argN, a_argXs, a_argYs, a_sp, a_values, a_mul, a_add, a_first, a_last)) : wpX_enterFrame Q (nI CL, nI DL, f_draft, f_height, f_guarded, f_consCount, f_outKind, f_outValue, f_outCalls, f_outPeak, f_cells, f_top, f_nextF, f_nextN, f_nextXs, f_nextYs, f_holePos, f_holeMul, f_holeAdd, f_holeFirst, f_holeLast, f_running, 0, nI e, f_deepest, a_ops, a_args, a_passed, a_length, a_heldCount, a_kinds, a_items, a_itemCount, a_outList, a_head, a_tail, a_fn, a_pc, a_argN, a_argXs, a_argYs, a_sp, a_values, a_mul, a_add, a_first, a_last) := by
  unfold wpX_enterFrame
  dsimp only
  rw [h2]
  exact xl_adm_long he he2 (br_t rfl K)
theorem xl_ent_deep {CL DL e T : Nat} {Q : SX → Prop} (h2 : f_top + 2 = nI (T + 1)) (he : e < CL) (hCL : CL ≤ 64) (hd : DL < T + 1) (hT : T ≤ 16) (K : Q (nI CL, nI DL, f_draft, f_height, f_guarded, f_consCount, f_outKind, f_outValue, f_outCalls, f_outPeak, f_cells, f_top, f_nextF, f_nextN, f_nextXs, f_nextYs, f_holePos, f_holeMul, f_holeAdd, f_holeFirst, f_holeLast, 0, -6, nI e, f_deepest, a_ops, a_args, a_passed, a_length, a_heldCount, a_kinds, a_items, a_itemCount, a_outList, a_head, a_tail, a_fn, a_pc, a_argN, a_argXs, a_argYs, a_sp, a_values, a_mul, a_add, a_first, a_last)) : wpX_enterFrame Q (nI CL, nI DL, f_draft, f_height, f_guarded, f_consCount, f_outKind, f_outValue, f_outCalls, f_outPeak, f_cells, f_top, f_nextF, f_nextN, f_nextXs, f_nextYs, f_holePos, f_holeMul, f_holeAdd, f_holeFirst, f_holeLast, f_running, 0, nI e, f_deepest, a_ops, a_args, a_passed, a_length, a_heldCount, a_kinds, a_items, a_itemCount, a_outList, a_head, a_tail, a_fn, a_pc, a_argN, a_argXs, a_argYs, a_sp, a_values, a_mul, a_add, a_first, a_last) := by
  unfold wpX_enterFrame
  dsimp only
  rw [h2]
  exact xl_adm_deep he hCL hd (by omega) (br_t rfl K)
theorem xl_load {T h : Nat} {o arg : Int32} {Q : SX → Prop} (hT : T < 16) (hh : h < 6) (hs : a_sp T = nI h)
    (K : Q (f_callLimit, f_depthLimit, f_draft, f_height, f_guarded, f_consCount, f_outKind, f_outValue, f_outCalls, f_outPeak, f_cells, nI T, f_nextF, f_nextN, f_nextXs, f_nextYs, f_holePos, f_holeMul, f_holeAdd, f_holeFirst, f_holeLast, f_running, f_ending, f_entered, f_deepest, a_ops, a_args, a_passed, a_length, a_heldCount, a_kinds, a_items, a_itemCount, a_outList, a_head, a_tail, a_fn, a_pc, a_argN, a_argXs, a_argYs, upd a_sp T (nI (h + 1)), upd a_values (T * 6 + h) (hp_ld o arg (a_argN T) (a_argXs T) (a_argYs T)), a_mul, a_add, a_first, a_last)) : wpX_load Q (f_callLimit, f_depthLimit, f_draft, f_height, f_guarded, f_consCount, f_outKind, f_outValue, f_outCalls, f_outPeak, f_cells, nI T, f_nextF, f_nextN, f_nextXs, f_nextYs, f_holePos, f_holeMul, f_holeAdd, f_holeFirst, f_holeLast, f_running, f_ending, f_entered, f_deepest, a_ops, a_args, a_passed, a_length, a_heldCount, a_kinds, a_items, a_itemCount, a_outList, a_head, a_tail, a_fn, a_pc, a_argN, a_argXs, a_argYs, a_sp, a_values, a_mul, a_add, a_first, a_last) o arg := by
  have e1 : (nI T).toNatClampNeg = T := nI_clamp (by omega)
  have i1 : vp_in (nI T) 16 := vp_in_nI hT (by decide)
  unfold wpX_load
  dsimp only
  rw [e1]
  unfold hp_ld at K
  refine br_c (fun z => ?_) (fun z => br_c (fun z2 => And.intro i1 (nm_e ?_)) (fun z2 => br_c (fun z3 => And.intro i1 (nm_e ?_)) (fun z3 => br_c (fun z4 => And.intro i1 (nm_e ?_)) (fun z4 => ?_))))
  · rw [if_pos z] at K
    unfold wX_load_63
    exact xl_push hT hh hs K
  · rw [if_neg z, if_pos z2] at K
    unfold wX_load_63
    exact xl_push hT hh hs K
  · rw [if_neg z, if_neg z2, if_pos z3] at K
    unfold wX_load_63
    exact xl_push hT hh hs K
  · rw [if_neg z, if_neg z2, if_neg z3, if_pos z4] at K
    unfold wX_load_63
    exact xl_push hT hh hs K
  · rw [if_neg z, if_neg z2, if_neg z3, if_neg z4] at K
    unfold wX_load_63
    exact xl_push hT hh hs K
def hp_un (hd tl : Nat → Int32) (o : Int32) (c : Nat) : Int32 := if o = 6 then hd c else if o = 7 then tl c else if c = 0 then 1 else 0
theorem xl_un {T h c : Nat} {o : Int32} {Q : SX → Prop} (hT : T < 16) (hh : h < 6) (hs : a_sp T = nI (h + 1)) (hc : a_values (T * 6 + h) = nI c) (hc2 : c < 225)
    (K : Q (f_callLimit, f_depthLimit, f_draft, f_height, f_guarded, f_consCount, f_outKind, f_outValue, f_outCalls, f_outPeak, f_cells, nI T, f_nextF, f_nextN, f_nextXs, f_nextYs, f_holePos, f_holeMul, f_holeAdd, f_holeFirst, f_holeLast, f_running, f_ending, f_entered, f_deepest, a_ops, a_args, a_passed, a_length, a_heldCount, a_kinds, a_items, a_itemCount, a_outList, a_head, a_tail, a_fn, a_pc, a_argN, a_argXs, a_argYs, upd a_sp T (nI (h + 1)), upd a_values (T * 6 + h) (hp_un a_head a_tail o c), a_mul, a_add, a_first, a_last)) : wpX_unary Q (f_callLimit, f_depthLimit, f_draft, f_height, f_guarded, f_consCount, f_outKind, f_outValue, f_outCalls, f_outPeak, f_cells, nI T, f_nextF, f_nextN, f_nextXs, f_nextYs, f_holePos, f_holeMul, f_holeAdd, f_holeFirst, f_holeLast, f_running, f_ending, f_entered, f_deepest, a_ops, a_args, a_passed, a_length, a_heldCount, a_kinds, a_items, a_itemCount, a_outList, a_head, a_tail, a_fn, a_pc, a_argN, a_argXs, a_argYs, a_sp, a_values, a_mul, a_add, a_first, a_last) o := by
  have ec : (nI c).toNatClampNeg = c := nI_clamp (by omega)
  have ic : vp_in (nI c) 225 := vp_in_nI hc2 (by decide)
  unfold wpX_unary
  dsimp only
  refine xl_pop hT hh hs ?_
  rw [hc]
  dsimp only
  rw [ec]
  unfold hp_un at K
  refine br_c (fun z => And.intro ic ?_) (fun z => br_c (fun z2 => And.intro ic ?_) (fun z2 => br_c (fun z3 => ?_) (fun z3 => ?_)))
  · rw [if_pos z] at K
    refine xl_push hT hh pk_us ?_
    rw [pk_uu]
    exact K
  · rw [if_neg z, if_pos z2] at K
    refine xl_push hT hh pk_us ?_
    rw [pk_uu]
    exact K
  · have z3' : nI c = nI 0 := z3
    rw [nI_eq (by omega) (by omega)] at z3'
    rw [if_neg z, if_neg z2, if_pos z3'] at K
    unfold wX_unary_53
    refine xl_push hT hh pk_us ?_
    rw [pk_uu]
    exact K
  · have z3' : ¬ nI c = nI 0 := z3
    rw [nI_eq (by omega) (by omega)] at z3'
    rw [if_neg z, if_neg z2, if_neg z3'] at K
    unfold wX_unary_53
    refine xl_push hT hh pk_us ?_
    rw [pk_uu]
    exact K
theorem xl_cons {T h B : Nat} {Q : SX → Prop} (hT : T < 16) (hh : h + 1 < 6) (hs : a_sp T = nI (h + 2)) (hp : f_holePos < nI h) (hB : B < 225)
    (K : Q (f_callLimit, f_depthLimit, f_draft, f_height, f_guarded, f_consCount, f_outKind, f_outValue, f_outCalls, f_outPeak, nI (B + 1), nI T, f_nextF, f_nextN, f_nextXs, f_nextYs, f_holePos, f_holeMul, f_holeAdd, f_holeFirst, f_holeLast, f_running, f_ending, f_entered, f_deepest, a_ops, a_args, a_passed, a_length, a_heldCount, a_kinds, a_items, a_itemCount, a_outList, upd a_head B (a_values (T * 6 + h)), upd a_tail B (a_values (T * 6 + (h + 1))), a_fn, a_pc, a_argN, a_argXs, a_argYs, upd a_sp T (nI (h + 1)), upd a_values (T * 6 + h) (nI B), a_mul, a_add, a_first, a_last)) : wpX_binary Q (f_callLimit, f_depthLimit, f_draft, f_height, f_guarded, f_consCount, f_outKind, f_outValue, f_outCalls, f_outPeak, nI B, nI T, f_nextF, f_nextN, f_nextXs, f_nextYs, f_holePos, f_holeMul, f_holeAdd, f_holeFirst, f_holeLast, f_running, f_ending, f_entered, f_deepest, a_ops, a_args, a_passed, a_length, a_heldCount, a_kinds, a_items, a_itemCount, a_outList, a_head, a_tail, a_fn, a_pc, a_argN, a_argXs, a_argYs, a_sp, a_values, a_mul, a_add, a_first, a_last) 9 := by
  have e1 : (nI T).toNatClampNeg = T := nI_clamp (by omega)
  have i1 : vp_in (nI T) 16 := vp_in_nI hT (by decide)
  unfold wpX_binary
  dsimp only
  refine xl_pop hT hh hs ?_
  dsimp only
  refine xl_pop hT (by omega) pk_us ?_
  dsimp only
  rw [pk_uu, e1, pk_us]
  refine And.intro i1 (br_t hp (br_t rfl ?_))
  refine xl_new hB ?_
  unfold wX_binary_111
  refine xl_push hT (by omega) pk_us ?_
  rw [pk_uu]
  exact K
theorem xl_cmp {o a b : Int32} (h9 : 9 < o) (h13 : o ≤ 13) {Q : Int32 → Prop} (K : Q (hp_ar o a b)) : wpX_compute Q (f_callLimit, f_depthLimit, f_draft, f_height, f_guarded, f_consCount, f_outKind, f_outValue, f_outCalls, f_outPeak, f_cells, f_top, f_nextF, f_nextN, f_nextXs, f_nextYs, f_holePos, f_holeMul, f_holeAdd, f_holeFirst, f_holeLast, f_running, f_ending, f_entered, f_deepest, a_ops, a_args, a_passed, a_length, a_heldCount, a_kinds, a_items, a_itemCount, a_outList, a_head, a_tail, a_fn, a_pc, a_argN, a_argXs, a_argYs, a_sp, a_values, a_mul, a_add, a_first, a_last) o a b := by
  unfold wpX_compute
  dsimp only
  unfold hp_ar at K
  refine br_c (fun z => ?_) (fun z => br_c (fun z2 => ?_) (fun z2 => br_c (fun z3 => ?_) (fun z3 => br_c (fun z4 => ?_) (fun z4 => ?_))))
  · rw [if_pos z] at K; exact K
  · rw [if_neg z, if_pos z2] at K; exact K
  · rw [if_neg z, if_neg z2, if_pos z3] at K; exact K
  · rw [if_neg z, if_neg z2, if_neg z3, if_neg (Int32.not_lt.mpr z4)] at K; exact K
  · rw [if_neg z, if_neg z2, if_neg z3, if_pos (Int32.not_le.mp z4)] at K; exact K
theorem xl_ar {T h : Nat} {o : Int32} {Q : SX → Prop} (h9 : 9 < o) (h13 : o ≤ 13) (hT : T < 16) (hh : h + 1 < 6) (hs : a_sp T = nI (h + 2)) (hp : f_holePos < nI h)
    (K : Q (f_callLimit, f_depthLimit, f_draft, f_height, f_guarded, f_consCount, f_outKind, f_outValue, f_outCalls, f_outPeak, f_cells, nI T, f_nextF, f_nextN, f_nextXs, f_nextYs, f_holePos, f_holeMul, f_holeAdd, f_holeFirst, f_holeLast, f_running, f_ending, f_entered, f_deepest, a_ops, a_args, a_passed, a_length, a_heldCount, a_kinds, a_items, a_itemCount, a_outList, a_head, a_tail, a_fn, a_pc, a_argN, a_argXs, a_argYs, upd a_sp T (nI (h + 1)), upd a_values (T * 6 + h) (hp_ar o (a_values (T * 6 + h)) (a_values (T * 6 + (h + 1)))), a_mul, a_add, a_first, a_last)) : wpX_binary Q (f_callLimit, f_depthLimit, f_draft, f_height, f_guarded, f_consCount, f_outKind, f_outValue, f_outCalls, f_outPeak, f_cells, nI T, f_nextF, f_nextN, f_nextXs, f_nextYs, f_holePos, f_holeMul, f_holeAdd, f_holeFirst, f_holeLast, f_running, f_ending, f_entered, f_deepest, a_ops, a_args, a_passed, a_length, a_heldCount, a_kinds, a_items, a_itemCount, a_outList, a_head, a_tail, a_fn, a_pc, a_argN, a_argXs, a_argYs, a_sp, a_values, a_mul, a_add, a_first, a_last) o := by
  have e1 : (nI T).toNatClampNeg = T := nI_clamp (by omega)
  have i1 : vp_in (nI T) 16 := vp_in_nI hT (by decide)
  have n9 : ¬ o = 9 := fun z => by rw [z] at h9; exact absurd h9 (by decide)
  unfold wpX_binary
  dsimp only
  refine xl_pop hT hh hs ?_
  dsimp only
  refine xl_pop hT (by omega) pk_us ?_
  dsimp only
  rw [pk_uu, e1, pk_us]
  refine And.intro i1 (br_t hp (br_f n9 ?_))
  refine xl_cmp h9 h13 ?_
  unfold wX_binary_111
  refine xl_push hT (by omega) pk_us ?_
  rw [pk_uu]
  exact K
end
end
section
section
variable {f_callLimit : Int32} {f_depthLimit : Int32} {f_draft : Int32} {f_height : Int32} {f_guarded : Int32} {f_consCount : Int32} {f_outKind : Int32} {f_outValue : Int32} {f_outCalls : Int32} {f_outPeak : Int32} {f_cells : Int32} {f_top : Int32} {f_nextF : Int32} {f_nextN : Int32} {f_nextXs : Int32} {f_nextYs : Int32} {f_holePos : Int32} {f_holeMul : Int32} {f_holeAdd : Int32} {f_holeFirst : Int32} {f_holeLast : Int32} {f_running : Int32} {f_ending : Int32} {f_entered : Int32} {f_deepest : Int32} {a_ops : Nat → Int32} {a_args : Nat → Int32} {a_passed : Nat → Int32} {a_length : Nat → Int32} {a_heldCount : Nat → Int32} {a_kinds : Nat → Int32} {a_items : Nat → Int32} {a_itemCount : Nat → Int32} {a_outList : Nat → Int32} {a_head : Nat → Int32} {a_tail : Nat → Int32} {a_fn : Nat → Int32} {a_pc : Nat → Int32} {a_argN : Nat → Int32} {a_argXs : Nat → Int32} {a_argYs : Nat → Int32} {a_sp : Nat → Int32} {a_values : Nat → Int32} {a_mul : Nat → Int32} {a_add : Nat → Int32} {a_first : Nat → Int32} {a_last : Nat → Int32}
/-- binary with the missing value: left operand (p = h) or right operand (p = h + 1); what defer must give -/
theorem xl_hbin {T h p : Nat} {o : Int32} {Q : SX → Prop} (hT : T < 16) (hh : h + 1 < 6) (hs : a_sp T = nI (h + 2)) (hp : p = h ∨ p = h + 1)
    (K : ∀ Q' : SX → Prop, (∀ (f_callLimit' : Int32) (f_depthLimit' : Int32) (f_draft' : Int32) (f_height' : Int32) (f_guarded' : Int32) (f_consCount' : Int32) (f_outKind' : Int32) (f_outValue' : Int32) (f_outCalls' : Int32) (f_outPeak' : Int32) (f_cells' : Int32) (f_top' : Int32) (f_nextF' : Int32) (f_nextN' : Int32) (f_nextXs' : Int32) (f_nextYs' : Int32) (f_holePos' : Int32) (f_holeMul' : Int32) (f_holeAdd' : Int32) (f_holeFirst' : Int32) (f_holeLast' : Int32) (f_running' : Int32) (f_ending' : Int32) (f_entered' : Int32) (f_deepest' : Int32) (a_ops' : Nat → Int32) (a_args' : Nat → Int32) (a_passed' : Nat → Int32) (a_length' : Nat → Int32) (a_heldCount' : Nat → Int32) (a_kinds' : Nat → Int32) (a_items' : Nat → Int32) (a_itemCount' : Nat → Int32) (a_outList' : Nat → Int32) (a_head' : Nat → Int32) (a_tail' : Nat → Int32) (a_fn' : Nat → Int32) (a_pc' : Nat → Int32) (a_argN' : Nat → Int32) (a_argXs' : Nat → Int32) (a_argYs' : Nat → Int32) (a_sp' : Nat → Int32) (a_values' : Nat → Int32) (a_mul' : Nat → Int32) (a_add' : Nat → Int32) (a_first' : Nat → Int32) (a_last' : Nat → Int32), a_sp' T = nI h → Q (f_callLimit', f_depthLimit', f_draft', f_height', f_guarded', f_consCount', f_outKind', f_outValue', f_outCalls', f_outPeak', f_cells', nI T, f_nextF', f_nextN', f_nextXs', f_nextYs', nI h, f_holeMul', f_holeAdd', f_holeFirst', f_holeLast', f_running', f_ending', f_entered', f_deepest', a_ops', a_args', a_passed', a_length', a_heldCount', a_kinds', a_items', a_itemCount', a_outList', a_head', a_tail', a_fn', a_pc', a_argN', a_argXs', a_argYs', upd a_sp' T (nI (h + 1)), upd a_values' (T * 6 + h) 0, a_mul', a_add', a_first', a_last') → Q' (f_callLimit', f_depthLimit', f_draft', f_height', f_guarded', f_consCount', f_outKind', f_outValue', f_outCalls', f_outPeak', f_cells', nI T, f_nextF', f_nextN', f_nextXs', f_nextYs', f_holePos', f_holeMul', f_holeAdd', f_holeFirst', f_holeLast', f_running', f_ending', f_entered', f_deepest', a_ops', a_args', a_passed', a_length', a_heldCount', a_kinds', a_items', a_itemCount', a_outList', a_head', a_tail', a_fn', a_pc', a_argN', a_argXs', a_argYs', a_sp', a_values', a_mul', a_add', a_first', a_last')) →
      wpX_defer Q' (f_callLimit, f_depthLimit, f_draft, f_height, f_guarded, f_consCount, f_outKind, f_outValue, f_outCalls, f_outPeak, f_cells, nI T, f_nextF, f_nextN, f_nextXs, f_nextYs, nI p, f_holeMul, f_holeAdd, f_holeFirst, f_holeLast, f_running, f_ending, f_entered, f_deepest, a_ops, a_args, a_passed, a_length, a_heldCount, a_kinds, a_items, a_itemCount, a_outList, a_head, a_tail, a_fn, a_pc, a_argN, a_argXs, a_argYs, upd a_sp T (nI h), a_values, a_mul, a_add, a_first, a_last) o (if p = h then 1 else 0) (if p = h then a_values (T * 6 + (h + 1)) else a_values (T * 6 + h))) : wpX_binary Q (f_callLimit, f_depthLimit, f_draft, f_height, f_guarded, f_consCount, f_outKind, f_outValue, f_outCalls, f_outPeak, f_cells, nI T, f_nextF, f_nextN, f_nextXs, f_nextYs, nI p, f_holeMul, f_holeAdd, f_holeFirst, f_holeLast, f_running, f_ending, f_entered, f_deepest, a_ops, a_args, a_passed, a_length, a_heldCount, a_kinds, a_items, a_itemCount, a_outList, a_head, a_tail, a_fn, a_pc, a_argN, a_argXs, a_argYs, a_sp, a_values, a_mul, a_add, a_first, a_last) o := by
  have e1 : (nI T).toNatClampNeg = T := nI_clamp (by omega)
  have i1 : vp_in (nI T) 16 := vp_in_nI hT (by decide)
  unfold wpX_binary
  dsimp only
  refine xl_pop hT hh hs ?_
  dsimp only
  refine xl_pop hT (by omega) pk_us ?_
  dsimp only
  rw [pk_uu, e1, pk_us]
  refine And.intro i1 (br_f (nI_nlt (by omega) (by omega)) (And.intro i1 ?_))
  have fin : ∀ (f_callLimit' : Int32) (f_depthLimit' : Int32) (f_draft' : Int32) (f_height' : Int32) (f_guarded' : Int32) (f_consCount' : Int32) (f_outKind' : Int32) (f_outValue' : Int32) (f_outCalls' : Int32) (f_outPeak' : Int32) (f_cells' : Int32) (f_top' : Int32) (f_nextF' : Int32) (f_nextN' : Int32) (f_nextXs' : Int32) (f_nextYs' : Int32) (f_holePos' : Int32) (f_holeMul' : Int32) (f_holeAdd' : Int32) (f_holeFirst' : Int32) (f_holeLast' : Int32) (f_running' : Int32) (f_ending' : Int32) (f_entered' : Int32) (f_deepest' : Int32) (a_ops' : Nat → Int32) (a_args' : Nat → Int32) (a_passed' : Nat → Int32) (a_length' : Nat → Int32) (a_heldCount' : Nat → Int32) (a_kinds' : Nat → Int32) (a_items' : Nat → Int32) (a_itemCount' : Nat → Int32) (a_outList' : Nat → Int32) (a_head' : Nat → Int32) (a_tail' : Nat → Int32) (a_fn' : Nat → Int32) (a_pc' : Nat → Int32) (a_argN' : Nat → Int32) (a_argXs' : Nat → Int32) (a_argYs' : Nat → Int32) (a_sp' : Nat → Int32) (a_values' : Nat → Int32) (a_mul' : Nat → Int32) (a_add' : Nat → Int32) (a_first' : Nat → Int32) (a_last' : Nat → Int32), a_sp' T = nI h → Q (f_callLimit', f_depthLimit', f_draft', f_height', f_guarded', f_consCount', f_outKind', f_outValue', f_outCalls', f_outPeak', f_cells', nI T, f_nextF', f_nextN', f_nextXs', f_nextYs', nI h, f_holeMul', f_holeAdd', f_holeFirst', f_holeLast', f_running', f_ending', f_entered', f_deepest', a_ops', a_args', a_passed', a_length', a_heldCount', a_kinds', a_items', a_itemCount', a_outList', a_head', a_tail', a_fn', a_pc', a_argN', a_argXs', a_argYs', upd a_sp' T (nI (h + 1)), upd a_values' (T * 6 + h) 0, a_mul', a_add', a_first', a_last') → vp_in (nI T) 16 ∧ ∀ y, y = a_sp' (nI T).toNatClampNeg → wX_binary_111 Q 0 f_callLimit' f_depthLimit' f_draft' f_height' f_guarded' f_consCount' f_outKind' f_outValue' f_outCalls' f_outPeak' f_cells' (nI T) f_nextF' f_nextN' f_nextXs' f_nextYs' y f_holeMul' f_holeAdd' f_holeFirst' f_holeLast' f_running' f_ending' f_entered' f_deepest' a_ops' a_args' a_passed' a_length' a_heldCount' a_kinds' a_items' a_itemCount' a_outList' a_head' a_tail' a_fn' a_pc' a_argN' a_argXs' a_argYs' a_sp' a_values' a_mul' a_add' a_first' a_last' := by
    intro f_callLimit' f_depthLimit' f_draft' f_height' f_guarded' f_consCount' f_outKind' f_outValue' f_outCalls' f_outPeak' f_cells' f_top' f_nextF' f_nextN' f_nextXs' f_nextYs' f_holePos' f_holeMul' f_holeAdd' f_holeFirst' f_holeLast' f_running' f_ending' f_entered' f_deepest' a_ops' a_args' a_passed' a_length' a_heldCount' a_kinds' a_items' a_itemCount' a_outList' a_head' a_tail' a_fn' a_pc' a_argN' a_argXs' a_argYs' a_sp' a_values' a_mul' a_add' a_first' a_last' z1 z2
    rw [e1]
    refine And.intro i1 (nm_r z1 ?_)
    unfold wX_binary_111
    exact xl_push hT (by omega) z1 z2
  by_cases c : p = h
  · rw [if_pos c, if_pos c] at K
    refine br_t (by rw [c]) ?_
    refine br_f (by decide) ?_
    unfold wX_binary_66
    exact K _ (fun f_callLimit' f_depthLimit' f_draft' f_height' f_guarded' f_consCount' f_outKind' f_outValue' f_outCalls' f_outPeak' f_cells' f_top' f_nextF' f_nextN' f_nextXs' f_nextYs' f_holePos' f_holeMul' f_holeAdd' f_holeFirst' f_holeLast' f_running' f_ending' f_entered' f_deepest' a_ops' a_args' a_passed' a_length' a_heldCount' a_kinds' a_items' a_itemCount' a_outList' a_head' a_tail' a_fn' a_pc' a_argN' a_argXs' a_argYs' a_sp' a_values' a_mul' a_add' a_first' a_last' z1 z2 => fin f_callLimit' f_depthLimit' f_draft' f_height' f_guarded' f_consCount' f_outKind' f_outValue' f_outCalls' f_outPeak' f_cells' f_top' f_nextF' f_nextN' f_nextXs' f_nextYs' f_holePos' f_holeMul' f_holeAdd' f_holeFirst' f_holeLast' f_running' f_ending' f_entered' f_deepest' a_ops' a_args' a_passed' a_length' a_heldCount' a_kinds' a_items' a_itemCount' a_outList' a_head' a_tail' a_fn' a_pc' a_argN' a_argXs' a_argYs' a_sp' a_values' a_mul' a_add' a_first' a_last' z1 z2)
  · rw [if_neg c, if_neg c] at K
    refine br_f (by rw [nI_eq (by omega) (by omega)]; exact c) ?_
    refine br_t rfl ?_
    unfold wX_binary_66
    exact K _ (fun f_callLimit' f_depthLimit' f_draft' f_height' f_guarded' f_consCount' f_outKind' f_outValue' f_outCalls' f_outPeak' f_cells' f_top' f_nextF' f_nextN' f_nextXs' f_nextYs' f_holePos' f_holeMul' f_holeAdd' f_holeFirst' f_holeLast' f_running' f_ending' f_entered' f_deepest' a_ops' a_args' a_passed' a_length' a_heldCount' a_kinds' a_items' a_itemCount' a_outList' a_head' a_tail' a_fn' a_pc' a_argN' a_argXs' a_argYs' a_sp' a_values' a_mul' a_add' a_first' a_last' z1 z2 => fin f_callLimit' f_depthLimit' f_draft' f_height' f_guarded' f_consCount' f_outKind' f_outValue' f_outCalls' f_outPeak' f_cells' f_top' f_nextF' f_nextN' f_nextXs' f_nextYs' f_holePos' f_holeMul' f_holeAdd' f_holeFirst' f_holeLast' f_running' f_ending' f_entered' f_deepest' a_ops' a_args' a_passed' a_length' a_heldCount' a_kinds' a_items' a_itemCount' a_outList' a_head' a_tail' a_fn' a_pc' a_argN' a_argXs' a_argYs' a_sp' a_values' a_mul' a_add' a_first' a_last' z1 z2)
theorem xl_call {T h g : Nat} {at' : Nat} {Q : SX → Prop} (hT : T < 16) (hh : h + 2 < 6) (hs : a_sp T = nI (h + 3)) (ha : at' < 192) (hg : a_args at' = nI g)
    (Kp : ¬ a_passed at' = 0 → Q (f_callLimit, f_depthLimit, f_draft, f_height, f_guarded, f_consCount, f_outKind, f_outValue, f_outCalls, f_outPeak, f_cells, nI T, nI g, a_values (T * 6 + h), a_values (T * 6 + (h + 1)), a_values (T * 6 + (h + 2)), nI h, 1, 0, 0, 0, f_running, f_ending, f_entered, f_deepest, a_ops, a_args, a_passed, a_length, a_heldCount, a_kinds, a_items, a_itemCount, a_outList, a_head, a_tail, a_fn, a_pc, a_argN, a_argXs, a_argYs, upd a_sp T (nI (h + 1)), upd a_values (T * 6 + h) 0, a_mul, a_add, a_first, a_last))
    (Kh : a_passed at' = 0 → ∀ Q' : SX → Prop, (∀ (f_callLimit' : Int32) (f_depthLimit' : Int32) (f_draft' : Int32) (f_height' : Int32) (f_guarded' : Int32) (f_consCount' : Int32) (f_outKind' : Int32) (f_outValue' : Int32) (f_outCalls' : Int32) (f_outPeak' : Int32) (f_cells' : Int32) (f_top' : Int32) (f_nextF' : Int32) (f_nextN' : Int32) (f_nextXs' : Int32) (f_nextYs' : Int32) (f_holePos' : Int32) (f_holeMul' : Int32) (f_holeAdd' : Int32) (f_holeFirst' : Int32) (f_holeLast' : Int32) (f_running' : Int32) (f_ending' : Int32) (f_entered' : Int32) (f_deepest' : Int32) (a_ops' : Nat → Int32) (a_args' : Nat → Int32) (a_passed' : Nat → Int32) (a_length' : Nat → Int32) (a_heldCount' : Nat → Int32) (a_kinds' : Nat → Int32) (a_items' : Nat → Int32) (a_itemCount' : Nat → Int32) (a_outList' : Nat → Int32) (a_head' : Nat → Int32) (a_tail' : Nat → Int32) (a_fn' : Nat → Int32) (a_pc' : Nat → Int32) (a_argN' : Nat → Int32) (a_argXs' : Nat → Int32) (a_argYs' : Nat → Int32) (a_sp' : Nat → Int32) (a_values' : Nat → Int32) (a_mul' : Nat → Int32) (a_add' : Nat → Int32) (a_first' : Nat → Int32) (a_last' : Nat → Int32), Q (f_callLimit', f_depthLimit', f_draft', f_height', f_guarded', f_consCount', f_outKind', f_outValue', f_outCalls', f_outPeak', f_cells', f_top', f_nextF', f_nextN', f_nextXs', f_nextYs', f_holePos', f_holeMul', f_holeAdd', f_holeFirst', f_holeLast', f_running', f_ending', f_entered', f_deepest', a_ops', a_args', a_passed', a_length', a_heldCount', a_kinds', a_items', a_itemCount', a_outList', a_head', a_tail', a_fn', a_pc', a_argN', a_argXs', a_argYs', a_sp', a_values', a_mul', a_add', a_first', a_last') → Q' (f_callLimit', f_depthLimit', f_draft', f_height', f_guarded', f_consCount', f_outKind', f_outValue', f_outCalls', f_outPeak', f_cells', f_top', f_nextF', f_nextN', f_nextXs', f_nextYs', f_holePos', f_holeMul', f_holeAdd', f_holeFirst', f_holeLast', f_running', f_ending', f_entered', f_deepest', a_ops', a_args', a_passed', a_length', a_heldCount', a_kinds', a_items', a_itemCount', a_outList', a_head', a_tail', a_fn', a_pc', a_argN', a_argXs', a_argYs', a_sp', a_values', a_mul', a_add', a_first', a_last')) → wpX_enterFrame Q' (f_callLimit, f_depthLimit, f_draft, f_height, f_guarded, f_consCount, f_outKind, f_outValue, f_outCalls, f_outPeak, f_cells, nI T, nI g, a_values (T * 6 + h), a_values (T * 6 + (h + 1)), a_values (T * 6 + (h + 2)), f_holePos, f_holeMul, f_holeAdd, f_holeFirst, f_holeLast, f_running, f_ending, f_entered, f_deepest, a_ops, a_args, a_passed, a_length, a_heldCount, a_kinds, a_items, a_itemCount, a_outList, a_head, a_tail, a_fn, a_pc, a_argN, a_argXs, a_argYs, upd a_sp T (nI h), a_values, a_mul, a_add, a_first, a_last)) :
    wpX_call Q (f_callLimit, f_depthLimit, f_draft, f_height, f_guarded, f_consCount, f_outKind, f_outValue, f_outCalls, f_outPeak, f_cells, nI T, f_nextF, f_nextN, f_nextXs, f_nextYs, f_holePos, f_holeMul, f_holeAdd, f_holeFirst, f_holeLast, f_running, f_ending, f_entered, f_deepest, a_ops, a_args, a_passed, a_length, a_heldCount, a_kinds, a_items, a_itemCount, a_outList, a_head, a_tail, a_fn, a_pc, a_argN, a_argXs, a_argYs, a_sp, a_values, a_mul, a_add, a_first, a_last) (nI at') := by
  have e1 : (nI T).toNatClampNeg = T := nI_clamp (by omega)
  have e2 : (nI at').toNatClampNeg = at' := nI_clamp (by omega)
  have i1 : vp_in (nI T) 16 := vp_in_nI hT (by decide)
  have i2 : vp_in (nI at') 192 := vp_in_nI ha (by decide)
  unfold wpX_call
  dsimp only
  rw [e2]
  refine And.intro i2 (nm_r hg ?_)
  refine xl_pop hT hh hs ?_
  dsimp only
  refine xl_pop hT (by omega) pk_us ?_
  dsimp only
  rw [pk_uu]
  refine xl_pop hT (by omega) pk_us ?_
  dsimp only
  rw [pk_uu]
  refine And.intro i2 (br_c (fun z => ?_) (fun z => ?_))
  · exact Kh z _ (fun f_callLimit' f_depthLimit' f_draft' f_height' f_guarded' f_consCount' f_outKind' f_outValue' f_outCalls' f_outPeak' f_cells' f_top' f_nextF' f_nextN' f_nextXs' f_nextYs' f_holePos' f_holeMul' f_holeAdd' f_holeFirst' f_holeLast' f_running' f_ending' f_entered' f_deepest' a_ops' a_args' a_passed' a_length' a_heldCount' a_kinds' a_items' a_itemCount' a_outList' a_head' a_tail' a_fn' a_pc' a_argN' a_argXs' a_argYs' a_sp' a_values' a_mul' a_add' a_first' a_last' q => q)
  · rw [e1, pk_us]
    refine And.intro i1 (nm_e ?_)
    refine xl_push hT (by omega) pk_us ?_
    rw [pk_uu]
    exact Kp z
theorem xl_g20 {T f n r : Nat} {Q : SX → Prop} (hf : f < 4) (hn : n ≤ 48) (hl : a_length f = nI n) (hrn : r < n) (ho : a_ops (f * 48 + r) = 16) (hT : T < 16) (K : Q (f_callLimit, f_depthLimit, f_draft, f_height, f_guarded, f_consCount, f_outKind, f_outValue, f_outCalls, f_outPeak, f_cells, nI T, f_nextF, f_nextN, f_nextXs, f_nextYs, f_holePos, f_holeMul, f_holeAdd, f_holeFirst, f_holeLast, f_running, f_ending, f_entered, f_deepest, a_ops, a_args, a_passed, a_length, a_heldCount, a_kinds, a_items, a_itemCount, a_outList, a_head, a_tail, a_fn, upd a_pc T (nI (r + 1)), a_argN, a_argXs, a_argYs, a_sp, a_values, a_mul, a_add, a_first, a_last)) :
    ∀ d i k, i + d = r → d < k → (∀ j, i ≤ j → j < r → a_ops (f * 48 + j) ≠ 16) → wX_guard_20 Q (nI f) f_callLimit f_depthLimit f_draft f_height f_guarded f_consCount f_outKind f_outValue f_outCalls f_outPeak f_cells (nI T) f_nextF f_nextN f_nextXs f_nextYs f_holePos f_holeMul f_holeAdd f_holeFirst f_holeLast f_running f_ending f_entered f_deepest a_ops a_args a_passed a_length a_heldCount a_kinds a_items a_itemCount a_outList a_head a_tail a_fn a_pc a_argN a_argXs a_argYs a_sp a_values a_mul a_add a_first a_last k (nI i) := by
  have e1 : (nI T).toNatClampNeg = T := nI_clamp (by omega)
  have ef : (nI f).toNatClampNeg = f := nI_clamp (by omega)
  have i1 : vp_in (nI T) 16 := vp_in_nI hT (by decide)
  have i4 : vp_in (nI f) 4 := vp_in_nI hf (by decide)
  intro d
  induction d with
  | zero =>
    intro i k hi hk hj
    obtain ⟨k, rfl⟩ : ∃ k', k = k' + 1 := ⟨k - 1, by omega⟩
    have : i = r := by omega
    subst this
    have e3 : nI f * 48 + nI i = nI (f * 48 + i) := by rw [show (48 : Int32) = nI 48 from rfl, pk_mul, nI_add]
    have e5 : (nI (f * 48 + i)).toNatClampNeg = f * 48 + i := nI_clamp (by omega)
    rw [wX_guard_20]
    dsimp only
    rw [e3, e5, ef, hl]
    refine And.intro i4 (br_f (nI_ge hrn (by omega)) (And.intro (vp_in_nI (by omega) (by decide)) (br_t ho ?_)))
    unfold wX_guard_52
    rw [e1, nI_1 i]
    exact And.intro i1 (nm_e K)
  | succ d ih =>
    intro i k hi hk hj
    obtain ⟨k, rfl⟩ : ∃ k', k = k' + 1 := ⟨k - 1, by omega⟩
    have e3 : nI f * 48 + nI i = nI (f * 48 + i) := by rw [show (48 : Int32) = nI 48 from rfl, pk_mul, nI_add]
    have e5 : (nI (f * 48 + i)).toNatClampNeg = f * 48 + i := nI_clamp (by omega)
    rw [wX_guard_20]
    dsimp only
    rw [e3, e5, ef, hl]
    exact And.intro i4 (br_f (nI_ge (by omega) (by omega)) (And.intro (vp_in_nI (by omega) (by decide)) (br_f (hj i (Nat.le_refl _) (by omega)) (nm_r (nI_1 i) (ih (i + 1) k (by omega) (by omega) (fun j a b => hj j (by omega) b))))))
theorem xl_guard {T f n r p : Nat} {Q : SX → Prop} (hf : f < 4) (hn : n ≤ 48) (hl : a_length f = nI n) (hT : T < 16) (hs : a_sp T = nI 1) (hpc : a_pc T = nI (p + 1)) (hp : p < r) (hrn : r < n) (ho : a_ops (f * 48 + r) = 16) (hm : ∀ j, p < j → j < r → a_ops (f * 48 + j) ≠ 16)
    (K1 : a_values (T * 6) ≠ 0 → Q (f_callLimit, f_depthLimit, f_draft, f_height, f_guarded, f_consCount, f_outKind, f_outValue, f_outCalls, f_outPeak, f_cells, nI T, f_nextF, f_nextN, f_nextXs, f_nextYs, f_holePos, f_holeMul, f_holeAdd, f_holeFirst, f_holeLast, f_running, f_ending, f_entered, f_deepest, a_ops, a_args, a_passed, a_length, a_heldCount, a_kinds, a_items, a_itemCount, a_outList, a_head, a_tail, a_fn, a_pc, a_argN, a_argXs, a_argYs, upd a_sp T 0, a_values, a_mul, a_add, a_first, a_last)) (K0 : a_values (T * 6) = 0 → Q (f_callLimit, f_depthLimit, f_draft, f_height, f_guarded, f_consCount, f_outKind, f_outValue, f_outCalls, f_outPeak, f_cells, nI T, f_nextF, f_nextN, f_nextXs, f_nextYs, f_holePos, f_holeMul, f_holeAdd, f_holeFirst, f_holeLast, f_running, f_ending, f_entered, f_deepest, a_ops, a_args, a_passed, a_length, a_heldCount, a_kinds, a_items, a_itemCount, a_outList, a_head, a_tail, a_fn, upd a_pc T (nI (r + 1)), a_argN, a_argXs, a_argYs, upd a_sp T 0, a_values, a_mul, a_add, a_first, a_last)) : wpX_guard Q (f_callLimit, f_depthLimit, f_draft, f_height, f_guarded, f_consCount, f_outKind, f_outValue, f_outCalls, f_outPeak, f_cells, nI T, f_nextF, f_nextN, f_nextXs, f_nextYs, f_holePos, f_holeMul, f_holeAdd, f_holeFirst, f_holeLast, f_running, f_ending, f_entered, f_deepest, a_ops, a_args, a_passed, a_length, a_heldCount, a_kinds, a_items, a_itemCount, a_outList, a_head, a_tail, a_fn, a_pc, a_argN, a_argXs, a_argYs, a_sp, a_values, a_mul, a_add, a_first, a_last) (nI f) := by
  have e1 : (nI T).toNatClampNeg = T := nI_clamp (by omega)
  have i1 : vp_in (nI T) 16 := vp_in_nI hT (by decide)
  unfold wpX_guard
  dsimp only
  refine xl_pop (h := 0) hT (by decide) hs ?_
  dsimp only
  refine br_c (fun z => And.intro i1 (nm_r (e' := nI (p + 1)) (by rw [e1]; exact hpc) ⟨r + 1, ?_⟩)) (fun z => K1 z)
  exact xl_g20 hf hn hl hrn ho hT (K0 z) (r - (p + 1)) (p + 1) (r + 1) (by omega) (by omega) (fun j a b => hm j (by omega) b)
theorem xl_comp0 {T : Nat} {Q : SX → Prop} (hT : T < 16) (K : Q (f_callLimit, f_depthLimit, f_draft, f_height, f_guarded, f_consCount, f_outKind, f_outValue, f_outCalls, f_outPeak, f_cells, nI T, f_nextF, f_nextN, f_nextXs, f_nextYs, f_holePos, f_holeMul, f_holeAdd, f_holeFirst, 0, f_running, f_ending, f_entered, f_deepest, a_ops, a_args, a_passed, a_length, a_heldCount, a_kinds, a_items, a_itemCount, a_outList, a_head, a_tail, a_fn, a_pc, a_argN, a_argXs, a_argYs, a_sp, a_values, upd a_mul T (a_mul T * f_holeMul), upd a_add T (a_add T + a_mul T * f_holeAdd), a_first, a_last)) : wpX_compose Q (f_callLimit, f_depthLimit, f_draft, f_height, f_guarded, f_consCount, f_outKind, f_outValue, f_outCalls, f_outPeak, f_cells, nI T, f_nextF, f_nextN, f_nextXs, f_nextYs, f_holePos, f_holeMul, f_holeAdd, f_holeFirst, 0, f_running, f_ending, f_entered, f_deepest, a_ops, a_args, a_passed, a_length, a_heldCount, a_kinds, a_items, a_itemCount, a_outList, a_head, a_tail, a_fn, a_pc, a_argN, a_argXs, a_argYs, a_sp, a_values, a_mul, a_add, a_first, a_last) := by
  have e1 : (nI T).toNatClampNeg = T := nI_clamp (by omega)
  have i1 : vp_in (nI T) 16 := vp_in_nI hT (by decide)
  unfold wpX_compose
  dsimp only
  rw [e1]
  exact And.intro i1 (And.intro i1 (And.intro i1 (nm_e (And.intro i1 (And.intro i1 (nm_e (br_t rfl K)))))))
theorem xl_comp1 {T l : Nat} {Q : SX → Prop} (hT : T < 16) (hl0 : 0 < l) (hl : l < 225) (h0 : a_last T = 0) (K : Q (f_callLimit, f_depthLimit, f_draft, f_height, f_guarded, f_consCount, f_outKind, f_outValue, f_outCalls, f_outPeak, f_cells, nI T, f_nextF, f_nextN, f_nextXs, f_nextYs, f_holePos, f_holeMul, f_holeAdd, f_holeFirst, nI l, f_running, f_ending, f_entered, f_deepest, a_ops, a_args, a_passed, a_length, a_heldCount, a_kinds, a_items, a_itemCount, a_outList, a_head, a_tail, a_fn, a_pc, a_argN, a_argXs, a_argYs, a_sp, a_values, upd a_mul T (a_mul T * f_holeMul), upd a_add T (a_add T + a_mul T * f_holeAdd), upd a_first T f_holeFirst, upd a_last T (nI l))) : wpX_compose Q (f_callLimit, f_depthLimit, f_draft, f_height, f_guarded, f_consCount, f_outKind, f_outValue, f_outCalls, f_outPeak, f_cells, nI T, f_nextF, f_nextN, f_nextXs, f_nextYs, f_holePos, f_holeMul, f_holeAdd, f_holeFirst, nI l, f_running, f_ending, f_entered, f_deepest, a_ops, a_args, a_passed, a_length, a_heldCount, a_kinds, a_items, a_itemCount, a_outList, a_head, a_tail, a_fn, a_pc, a_argN, a_argXs, a_argYs, a_sp, a_values, a_mul, a_add, a_first, a_last) := by
  have e1 : (nI T).toNatClampNeg = T := nI_clamp (by omega)
  have i1 : vp_in (nI T) 16 := vp_in_nI hT (by decide)
  unfold wpX_compose
  dsimp only
  rw [e1]
  refine And.intro i1 (And.intro i1 (And.intro i1 (nm_e (And.intro i1 (And.intro i1 (nm_e (br_f (nI_ne0 hl0 (by omega)) (And.intro i1 (br_t h0 (And.intro i1 (nm_e ?_)))))))))))
  unfold wX_compose_96
  rw [e1]
  exact And.intro i1 (nm_e K)
theorem xl_comp2 {T l L : Nat} {Q : SX → Prop} (hT : T < 16) (hl0 : 0 < l) (hl : l < 225) (hL0 : 0 < L) (hL : L < 225) (h0 : a_last T = nI L) (K : Q (f_callLimit, f_depthLimit, f_draft, f_height, f_guarded, f_consCount, f_outKind, f_outValue, f_outCalls, f_outPeak, f_cells, nI T, f_nextF, f_nextN, f_nextXs, f_nextYs, f_holePos, f_holeMul, f_holeAdd, f_holeFirst, nI l, f_running, f_ending, f_entered, f_deepest, a_ops, a_args, a_passed, a_length, a_heldCount, a_kinds, a_items, a_itemCount, a_outList, a_head, upd a_tail L f_holeFirst, a_fn, a_pc, a_argN, a_argXs, a_argYs, a_sp, a_values, upd a_mul T (a_mul T * f_holeMul), upd a_add T (a_add T + a_mul T * f_holeAdd), a_first, upd a_last T (nI l))) : wpX_compose Q (f_callLimit, f_depthLimit, f_draft, f_height, f_guarded, f_consCount, f_outKind, f_outValue, f_outCalls, f_outPeak, f_cells, nI T, f_nextF, f_nextN, f_nextXs, f_nextYs, f_holePos, f_holeMul, f_holeAdd, f_holeFirst, nI l, f_running, f_ending, f_entered, f_deepest, a_ops, a_args, a_passed, a_length, a_heldCount, a_kinds, a_items, a_itemCount, a_outList, a_head, a_tail, a_fn, a_pc, a_argN, a_argXs, a_argYs, a_sp, a_values, a_mul, a_add, a_first, a_last) := by
  have e1 : (nI T).toNatClampNeg = T := nI_clamp (by omega)
  have eL : (nI L).toNatClampNeg = L := nI_clamp (by omega)
  have i1 : vp_in (nI T) 16 := vp_in_nI hT (by decide)
  have iL : vp_in (nI L) 225 := vp_in_nI hL (by decide)
  unfold wpX_compose
  dsimp only
  rw [e1, h0, eL]
  refine And.intro i1 (And.intro i1 (And.intro i1 (nm_e (And.intro i1 (And.intro i1 (nm_e (br_f (nI_ne0 hl0 (by omega)) (And.intro i1 (br_f (nI_ne0 hL0 (by omega)) (And.intro i1 (And.intro iL (nm_e ?_))))))))))))
  unfold wX_compose_96
  rw [e1]
  exact And.intro i1 (nm_e K)
/-- finish up to the handing down -/
theorem xl_fin {T f L : Nat} {x : Int32} {Q : SX → Prop} (hT : T < 16) (hf : f < 4) (hfn : a_fn T = nI f) (hL : L < 225) (hlast : a_last T = nI L)
    (Ki : hp_kg f = false → wX_finish_83 Q (hp_kI (hp_kg f)) (a_mul T * x + a_add T) f_callLimit f_depthLimit f_draft f_height f_guarded f_consCount f_outKind f_outValue f_outCalls f_outPeak f_cells (nI T) f_nextF f_nextN f_nextXs f_nextYs f_holePos f_holeMul f_holeAdd f_holeFirst f_holeLast f_running f_ending f_entered f_deepest a_ops a_args a_passed a_length a_heldCount a_kinds a_items a_itemCount a_outList a_head a_tail a_fn a_pc a_argN a_argXs a_argYs a_sp a_values a_mul a_add a_first a_last)
    (K0 : hp_kg f = true → L = 0 → wX_finish_83 Q (hp_kI (hp_kg f)) x f_callLimit f_depthLimit f_draft f_height f_guarded f_consCount f_outKind f_outValue f_outCalls f_outPeak f_cells (nI T) f_nextF f_nextN f_nextXs f_nextYs f_holePos f_holeMul f_holeAdd f_holeFirst f_holeLast f_running f_ending f_entered f_deepest a_ops a_args a_passed a_length a_heldCount a_kinds a_items a_itemCount a_outList a_head a_tail a_fn a_pc a_argN a_argXs a_argYs a_sp a_values a_mul a_add a_first a_last)
    (K1 : hp_kg f = true → L ≠ 0 → wX_finish_83 Q (hp_kI (hp_kg f)) (a_first T) f_callLimit f_depthLimit f_draft f_height f_guarded f_consCount f_outKind f_outValue f_outCalls f_outPeak f_cells (nI T) f_nextF f_nextN f_nextXs f_nextYs f_holePos f_holeMul f_holeAdd f_holeFirst f_holeLast f_running f_ending f_entered f_deepest a_ops a_args a_passed a_length a_heldCount a_kinds a_items a_itemCount a_outList a_head (upd a_tail L x) a_fn a_pc a_argN a_argXs a_argYs a_sp a_values a_mul a_add a_first a_last) : wpX_finish Q (f_callLimit, f_depthLimit, f_draft, f_height, f_guarded, f_consCount, f_outKind, f_outValue, f_outCalls, f_outPeak, f_cells, nI T, f_nextF, f_nextN, f_nextXs, f_nextYs, f_holePos, f_holeMul, f_holeAdd, f_holeFirst, f_holeLast, f_running, f_ending, f_entered, f_deepest, a_ops, a_args, a_passed, a_length, a_heldCount, a_kinds, a_items, a_itemCount, a_outList, a_head, a_tail, a_fn, a_pc, a_argN, a_argXs, a_argYs, a_sp, a_values, a_mul, a_add, a_first, a_last) x := by
  have e1 : (nI T).toNatClampNeg = T := nI_clamp (by omega)
  have eL : (nI L).toNatClampNeg = L := nI_clamp (by omega)
  have i1 : vp_in (nI T) 16 := vp_in_nI hT (by decide)
  have iL : vp_in (nI L) 225 := vp_in_nI hL (by decide)
  unfold wpX_finish
  dsimp only
  rw [e1, hfn, hlast, eL]
  refine And.intro i1 (xl_kg hf ?_)
  cases hk : hp_kg f with
  | false =>
    rw [hk] at Ki
    exact br_t rfl (And.intro i1 (And.intro i1 (nm_e (Ki rfl))))
  | true =>
    rw [hk] at K0 K1
    refine br_f (by decide) (And.intro i1 (br_c (fun z => ?_) (fun z => ?_)))
    · have z' : nI L = nI 0 := z
      rw [nI_eq (by omega) (by omega)] at z'
      exact K0 rfl z'
    · have z' : ¬ nI L = nI 0 := z
      rw [nI_eq (by omega) (by omega)] at z'
      exact And.intro i1 (And.intro iL (nm_e (And.intro i1 (nm_e (K1 rfl z')))))
/-- the handing down to the frame below -/
theorem xl_f83 {T h : Nat} {k x : Int32} {Q : SX → Prop} (hT : T < 16) (hh : h < 6) (hs : a_sp T = nI h) (K : Q (f_callLimit, f_depthLimit, f_draft, f_height, f_guarded, f_consCount, f_outKind, f_outValue, f_outCalls, f_outPeak, f_cells, nI T, f_nextF, f_nextN, f_nextXs, f_nextYs, f_holePos, f_holeMul, f_holeAdd, f_holeFirst, f_holeLast, f_running, f_ending, f_entered, f_deepest, a_ops, a_args, a_passed, a_length, a_heldCount, a_kinds, a_items, a_itemCount, a_outList, a_head, a_tail, a_fn, a_pc, a_argN, a_argXs, a_argYs, upd a_sp T (nI (h + 1)), upd a_values (T * 6 + h) x, a_mul, a_add, a_first, a_last)) : wX_finish_83 Q k x f_callLimit f_depthLimit f_draft f_height f_guarded f_consCount f_outKind f_outValue f_outCalls f_outPeak f_cells (nI (T + 1)) f_nextF f_nextN f_nextXs f_nextYs f_holePos f_holeMul f_holeAdd f_holeFirst f_holeLast f_running f_ending f_entered f_deepest a_ops a_args a_passed a_length a_heldCount a_kinds a_items a_itemCount a_outList a_head a_tail a_fn a_pc a_argN a_argXs a_argYs a_sp a_values a_mul a_add a_first a_last := by
  unfold wX_finish_83
  refine nm_r (nI_pred T) (br_f (nI_pos (by omega)) ?_)
  exact xl_push hT hh hs K
end
def xL (post : Int32 → SX → Prop) (s : Nat) (u : SX) : Prop := match u with
  | (f_callLimit, f_depthLimit, f_draft, f_height, f_guarded, f_consCount, f_outKind, f_outValue, f_outCalls, f_outPeak, f_cells, f_top, f_nextF, f_nextN, f_nextXs, f_nextYs, f_holePos, f_holeMul, f_holeAdd, f_holeFirst, f_holeLast, f_running, f_ending, f_entered, f_deepest, a_ops, a_args, a_passed, a_length, a_heldCount, a_kinds, a_items, a_itemCount, a_outList, a_head, a_tail, a_fn, a_pc, a_argN, a_argXs, a_argYs, a_sp, a_values, a_mul, a_add, a_first, a_last) => ∀ k, k + s = 4097 → wX_run_58 post k (nI s) f_callLimit f_depthLimit f_draft f_height f_guarded f_consCount f_outKind f_outValue f_outCalls f_outPeak f_cells f_top f_nextF f_nextN f_nextXs f_nextYs f_holePos f_holeMul f_holeAdd f_holeFirst f_holeLast f_running f_ending f_entered f_deepest a_ops a_args a_passed a_length a_heldCount a_kinds a_items a_itemCount a_outList a_head a_tail a_fn a_pc a_argN a_argXs a_argYs a_sp a_values a_mul a_add a_first a_last
section
variable {f_callLimit : Int32} {f_depthLimit : Int32} {f_draft : Int32} {f_height : Int32} {f_guarded : Int32} {f_consCount : Int32} {f_outKind : Int32} {f_outValue : Int32} {f_outCalls : Int32} {f_outPeak : Int32} {f_cells : Int32} {f_top : Int32} {f_nextF : Int32} {f_nextN : Int32} {f_nextXs : Int32} {f_nextYs : Int32} {f_holePos : Int32} {f_holeMul : Int32} {f_holeAdd : Int32} {f_holeFirst : Int32} {f_holeLast : Int32} {f_running : Int32} {f_ending : Int32} {f_entered : Int32} {f_deepest : Int32} {a_ops : Nat → Int32} {a_args : Nat → Int32} {a_passed : Nat → Int32} {a_length : Nat → Int32} {a_heldCount : Nat → Int32} {a_kinds : Nat → Int32} {a_items : Nat → Int32} {a_itemCount : Nat → Int32} {a_outList : Nat → Int32} {a_head : Nat → Int32} {a_tail : Nat → Int32} {a_fn : Nat → Int32} {a_pc : Nat → Int32} {a_argN : Nat → Int32} {a_argXs : Nat → Int32} {a_argYs : Nat → Int32} {a_sp : Nat → Int32} {a_values : Nat → Int32} {a_mul : Nat → Int32} {a_add : Nat → Int32} {a_first : Nat → Int32} {a_last : Nat → Int32} {post : Int32 → SX → Prop} {s T f pc n : Nat} {o : Int32}
theorem xd_go (hs : s < 4096) (K : ∀ Q : SX → Prop, (∀ u, xL post (s + 1) u → Q u) → wpX_step Q (f_callLimit, f_depthLimit, f_draft, f_height, f_guarded, f_consCount, f_outKind, f_outValue, f_outCalls, f_outPeak, f_cells, f_top, f_nextF, f_nextN, f_nextXs, f_nextYs, f_holePos, f_holeMul, f_holeAdd, f_holeFirst, f_holeLast, 1, f_ending, f_entered, f_deepest, a_ops, a_args, a_passed, a_length, a_heldCount, a_kinds, a_items, a_itemCount, a_outList, a_head, a_tail, a_fn, a_pc, a_argN, a_argXs, a_argYs, a_sp, a_values, a_mul, a_add, a_first, a_last)) : xL post s (f_callLimit, f_depthLimit, f_draft, f_height, f_guarded, f_consCount, f_outKind, f_outValue, f_outCalls, f_outPeak, f_cells, f_top, f_nextF, f_nextN, f_nextXs, f_nextYs, f_holePos, f_holeMul, f_holeAdd, f_holeFirst, f_holeLast, 1, f_ending, f_entered, f_deepest, a_ops, a_args, a_passed, a_length, a_heldCount, a_kinds, a_items, a_itemCount, a_outList, a_head, a_tail, a_fn, a_pc, a_argN, a_argXs, a_argYs, a_sp, a_values, a_mul, a_add, a_first, a_last) := by
  intro k hk
  obtain ⟨k, rfl⟩ : ∃ k', k = k' + 1 := ⟨k - 1, by omega⟩
  rw [wX_run_58]
  refine br_f (nI_ge (b := 4096) hs (by decide)) (br_f (by decide) (K _ ?_))
  rintro ⟨f_callLimit, f_depthLimit, f_draft, f_height, f_guarded, f_consCount, f_outKind, f_outValue, f_outCalls, f_outPeak, f_cells, f_top, f_nextF, f_nextN, f_nextXs, f_nextYs, f_holePos, f_holeMul, f_holeAdd, f_holeFirst, f_holeLast, f_running, f_ending, f_entered, f_deepest, a_ops, a_args, a_passed, a_length, a_heldCount, a_kinds, a_items, a_itemCount, a_outList, a_head, a_tail, a_fn, a_pc, a_argN, a_argXs, a_argYs, a_sp, a_values, a_mul, a_add, a_first, a_last⟩ h
  exact nm_r (nI_1 s) (h k (by omega))
theorem xd_stop (hs : s ≤ 4096) (K : post f_ending (f_callLimit, f_depthLimit, f_draft, f_height, f_guarded, f_consCount, f_outKind, f_outValue, f_outCalls, f_outPeak, f_cells, f_top, f_nextF, f_nextN, f_nextXs, f_nextYs, f_holePos, f_holeMul, f_holeAdd, f_holeFirst, f_holeLast, 0, f_ending, f_entered, f_deepest, a_ops, a_args, a_passed, a_length, a_heldCount, a_kinds, a_items, a_itemCount, a_outList, a_head, a_tail, a_fn, a_pc, a_argN, a_argXs, a_argYs, a_sp, a_values, a_mul, a_add, a_first, a_last)) : xL post s (f_callLimit, f_depthLimit, f_draft, f_height, f_guarded, f_consCount, f_outKind, f_outValue, f_outCalls, f_outPeak, f_cells, f_top, f_nextF, f_nextN, f_nextXs, f_nextYs, f_holePos, f_holeMul, f_holeAdd, f_holeFirst, f_holeLast, 0, f_ending, f_entered, f_deepest, a_ops, a_args, a_passed, a_length, a_heldCount, a_kinds, a_items, a_itemCount, a_outList, a_head, a_tail, a_fn, a_pc, a_argN, a_argXs, a_argYs, a_sp, a_values, a_mul, a_add, a_first, a_last) := by
  intro k hk
  obtain ⟨k, rfl⟩ : ∃ k', k = k' + 1 := ⟨k - 1, by omega⟩
  rw [wX_run_58]
  exact br_c (fun _ => K) (fun _ => br_t rfl K)
theorem xd_emp {Q : SX → Prop} (hT : T < 16) (hf : f < 4) (hfn : a_fn T = nI f) (hpc : a_pc T = nI 0) (hl : a_length f = nI 0) (K : ∀ Q' : SX → Prop, (∀ u, Q u → Q' u) → wpX_finish Q' (f_callLimit, f_depthLimit, f_draft, f_height, f_guarded, f_consCount, f_outKind, f_outValue, f_outCalls, f_outPeak, f_cells, nI T, f_nextF, f_nextN, f_nextXs, f_nextYs, f_holePos, f_holeMul, f_holeAdd, f_holeFirst, f_holeLast, f_running, f_ending, f_entered, f_deepest, a_ops, a_args, a_passed, a_length, a_heldCount, a_kinds, a_items, a_itemCount, a_outList, a_head, a_tail, a_fn, a_pc, a_argN, a_argXs, a_argYs, a_sp, a_values, a_mul, a_add, a_first, a_last) 0) : wpX_step Q (f_callLimit, f_depthLimit, f_draft, f_height, f_guarded, f_consCount, f_outKind, f_outValue, f_outCalls, f_outPeak, f_cells, nI T, f_nextF, f_nextN, f_nextXs, f_nextYs, f_holePos, f_holeMul, f_holeAdd, f_holeFirst, f_holeLast, f_running, f_ending, f_entered, f_deepest, a_ops, a_args, a_passed, a_length, a_heldCount, a_kinds, a_items, a_itemCount, a_outList, a_head, a_tail, a_fn, a_pc, a_argN, a_argXs, a_argYs, a_sp, a_values, a_mul, a_add, a_first, a_last) := by
  have e1 : (nI T).toNatClampNeg = T := nI_clamp (by omega)
  have ef : (nI f).toNatClampNeg = f := nI_clamp (by omega)
  have i1 : vp_in (nI T) 16 := vp_in_nI hT (by decide)
  have i4 : vp_in (nI f) 4 := vp_in_nI hf (by decide)
  unfold wpX_step
  dsimp only
  rw [e1, hfn, hpc]
  refine And.intro i1 (nm_e ?_)
  rw [ef, hl]
  refine And.intro i1 (And.intro i4 (br_f (by decide) (K _ ?_)))
  rintro ⟨f_callLimit, f_depthLimit, f_draft, f_height, f_guarded, f_consCount, f_outKind, f_outValue, f_outCalls, f_outPeak, f_cells, f_top, f_nextF, f_nextN, f_nextXs, f_nextYs, f_holePos, f_holeMul, f_holeAdd, f_holeFirst, f_holeLast, f_running, f_ending, f_entered, f_deepest, a_ops, a_args, a_passed, a_length, a_heldCount, a_kinds, a_items, a_itemCount, a_outList, a_head, a_tail, a_fn, a_pc, a_argN, a_argXs, a_argYs, a_sp, a_values, a_mul, a_add, a_first, a_last⟩ h
  exact h
/-- the dispatch of a step: K meets the branch of its word -/
theorem xd_dis {Q : SX → Prop} (hT : T < 16) (hf : f < 4) (hp : pc < n) (hn : n ≤ 48) (hfn : a_fn T = nI f) (hpc : a_pc T = nI pc) (hl : a_length f = nI n) (ho : a_ops (f * 48 + pc) = o)
    (K1 : ¬ 5 < o → ∀ Q' : SX → Prop, (∀ u, Q u → Q' u) → wpX_load Q' (f_callLimit, f_depthLimit, f_draft, f_height, f_guarded, f_consCount, f_outKind, f_outValue, f_outCalls, f_outPeak, f_cells, nI T, f_nextF, f_nextN, f_nextXs, f_nextYs, f_holePos, f_holeMul, f_holeAdd, f_holeFirst, f_holeLast, f_running, f_ending, f_entered, f_deepest, a_ops, a_args, a_passed, a_length, a_heldCount, a_kinds, a_items, a_itemCount, a_outList, a_head, a_tail, a_fn, upd a_pc T (nI (pc + 1)), a_argN, a_argXs, a_argYs, a_sp, a_values, a_mul, a_add, a_first, a_last) o (a_args (f * 48 + pc)))
    (K2 : 5 < o → ¬ 8 < o → ∀ Q' : SX → Prop, (∀ u, Q u → Q' u) → wpX_unary Q' (f_callLimit, f_depthLimit, f_draft, f_height, f_guarded, f_consCount, f_outKind, f_outValue, f_outCalls, f_outPeak, f_cells, nI T, f_nextF, f_nextN, f_nextXs, f_nextYs, f_holePos, f_holeMul, f_holeAdd, f_holeFirst, f_holeLast, f_running, f_ending, f_entered, f_deepest, a_ops, a_args, a_passed, a_length, a_heldCount, a_kinds, a_items, a_itemCount, a_outList, a_head, a_tail, a_fn, upd a_pc T (nI (pc + 1)), a_argN, a_argXs, a_argYs, a_sp, a_values, a_mul, a_add, a_first, a_last) o)
    (K3 : 8 < o → ¬ 13 < o → ∀ Q' : SX → Prop, (∀ u, Q u → Q' u) → wpX_binary Q' (f_callLimit, f_depthLimit, f_draft, f_height, f_guarded, f_consCount, f_outKind, f_outValue, f_outCalls, f_outPeak, f_cells, nI T, f_nextF, f_nextN, f_nextXs, f_nextYs, f_holePos, f_holeMul, f_holeAdd, f_holeFirst, f_holeLast, f_running, f_ending, f_entered, f_deepest, a_ops, a_args, a_passed, a_length, a_heldCount, a_kinds, a_items, a_itemCount, a_outList, a_head, a_tail, a_fn, upd a_pc T (nI (pc + 1)), a_argN, a_argXs, a_argYs, a_sp, a_values, a_mul, a_add, a_first, a_last) o)
    (K4 : o = 14 → ∀ Q' : SX → Prop, (∀ u, Q u → Q' u) → wpX_call Q' (f_callLimit, f_depthLimit, f_draft, f_height, f_guarded, f_consCount, f_outKind, f_outValue, f_outCalls, f_outPeak, f_cells, nI T, f_nextF, f_nextN, f_nextXs, f_nextYs, f_holePos, f_holeMul, f_holeAdd, f_holeFirst, f_holeLast, f_running, f_ending, f_entered, f_deepest, a_ops, a_args, a_passed, a_length, a_heldCount, a_kinds, a_items, a_itemCount, a_outList, a_head, a_tail, a_fn, upd a_pc T (nI (pc + 1)), a_argN, a_argXs, a_argYs, a_sp, a_values, a_mul, a_add, a_first, a_last) (nI (f * 48 + pc)))
    (K5 : o = 15 → ∀ Q' : SX → Prop, (∀ u, Q u → Q' u) → wpX_guard Q' (f_callLimit, f_depthLimit, f_draft, f_height, f_guarded, f_consCount, f_outKind, f_outValue, f_outCalls, f_outPeak, f_cells, nI T, f_nextF, f_nextN, f_nextXs, f_nextYs, f_holePos, f_holeMul, f_holeAdd, f_holeFirst, f_holeLast, f_running, f_ending, f_entered, f_deepest, a_ops, a_args, a_passed, a_length, a_heldCount, a_kinds, a_items, a_itemCount, a_outList, a_head, a_tail, a_fn, upd a_pc T (nI (pc + 1)), a_argN, a_argXs, a_argYs, a_sp, a_values, a_mul, a_add, a_first, a_last) (nI f))
    (K6 : 13 < o → ¬ o = 14 → ¬ o = 15 → ∀ Q' : SX → Prop, (∀ u, Q u → Q' u) → wpX_end Q' (f_callLimit, f_depthLimit, f_draft, f_height, f_guarded, f_consCount, f_outKind, f_outValue, f_outCalls, f_outPeak, f_cells, nI T, f_nextF, f_nextN, f_nextXs, f_nextYs, f_holePos, f_holeMul, f_holeAdd, f_holeFirst, f_holeLast, f_running, f_ending, f_entered, f_deepest, a_ops, a_args, a_passed, a_length, a_heldCount, a_kinds, a_items, a_itemCount, a_outList, a_head, a_tail, a_fn, upd a_pc T (nI (pc + 1)), a_argN, a_argXs, a_argYs, a_sp, a_values, a_mul, a_add, a_first, a_last)) : wpX_step Q (f_callLimit, f_depthLimit, f_draft, f_height, f_guarded, f_consCount, f_outKind, f_outValue, f_outCalls, f_outPeak, f_cells, nI T, f_nextF, f_nextN, f_nextXs, f_nextYs, f_holePos, f_holeMul, f_holeAdd, f_holeFirst, f_holeLast, f_running, f_ending, f_entered, f_deepest, a_ops, a_args, a_passed, a_length, a_heldCount, a_kinds, a_items, a_itemCount, a_outList, a_head, a_tail, a_fn, a_pc, a_argN, a_argXs, a_argYs, a_sp, a_values, a_mul, a_add, a_first, a_last) := by
  have e1 : (nI T).toNatClampNeg = T := nI_clamp (by omega)
  have ef : (nI f).toNatClampNeg = f := nI_clamp (by omega)
  have i1 : vp_in (nI T) 16 := vp_in_nI hT (by decide)
  have i4 : vp_in (nI f) 4 := vp_in_nI hf (by decide)
  have e3 : nI f * 48 + nI pc = nI (f * 48 + pc) := by rw [show (48 : Int32) = nI 48 from rfl, pk_mul, nI_add]
  have e5 : (nI (f * 48 + pc)).toNatClampNeg = f * 48 + pc := nI_clamp (by omega)
  have i2 : vp_in (nI (f * 48 + pc)) 192 := vp_in_nI (by omega) (by decide)
  unfold wpX_step
  dsimp only
  rw [e1, hfn, hpc, nI_1 pc]
  refine And.intro i1 (nm_e ?_)
  rw [ef, hl, e3]
  refine And.intro i1 (And.intro i4 (br_t (nI_lt hp (by omega)) (And.intro i1 (nm_e ?_))))
  rw [e5, ho]
  refine And.intro i2 (nm_e (And.intro i1 (And.intro i1 (nm_e (br_c (fun c5 => br_c (fun c8 => br_c (fun c13 => br_c (fun c14 => K4 c14 _ ?_) (fun c14 => br_c (fun c15 => K5 c15 _ ?_) (fun c15 => K6 c13 c14 c15 _ ?_))) (fun c13 => K3 c8 c13 _ ?_)) (fun c8 => K2 c5 c8 _ ?_)) (fun c5 => And.intro i2 (K1 c5 _ ?_)))))))
  all_goals
    rintro ⟨f_callLimit, f_depthLimit, f_draft, f_height, f_guarded, f_consCount, f_outKind, f_outValue, f_outCalls, f_outPeak, f_cells, f_top, f_nextF, f_nextN, f_nextXs, f_nextYs, f_holePos, f_holeMul, f_holeAdd, f_holeFirst, f_holeLast, f_running, f_ending, f_entered, f_deepest, a_ops, a_args, a_passed, a_length, a_heldCount, a_kinds, a_items, a_itemCount, a_outList, a_head, a_tail, a_fn, a_pc, a_argN, a_argXs, a_argYs, a_sp, a_values, a_mul, a_add, a_first, a_last⟩ h
    exact h
end
end
section
/-- cell c holds the list l; every cell on the way obeys V -/
def hp_lr (hd tl : Nat → Int32) (V : Nat → Prop) : Nat → List Int32 → Prop
  | c, [] => c = 0
  | c, x :: l => V c ∧ hd c = x ∧ ∃ c', tl c = nI c' ∧ hp_lr hd tl V c' l
def hp_V (A : Nat → Prop) (L B : Nat) (x : Nat) : Prop := 0 < x ∧ x < B ∧ ¬ A x ∧ x ≠ L
/-- an unfinished chain from c to its last cell L, whose tail is not looked at -/
def hp_sg (hd tl : Nat → Int32) (W : Nat → Prop) (L : Nat) : Nat → List Int32 → Prop
  | c, [] => c = 0 ∧ L = 0
  | c, [x] => W c ∧ c = L ∧ hd c = x
  | c, x :: y :: l => W c ∧ c ≠ L ∧ hd c = x ∧ ∃ c', tl c = nI c' ∧ hp_sg hd tl W L c' (y :: l)
def hp_W (lo B : Nat) (x : Nat) : Prop := lo ≤ x ∧ x < B
def hp_hx (B : Nat) (hd tl hd' tl' : Nat → Int32) : Prop := ∀ x, x < B → hd' x = hd x ∧ tl' x = tl x
theorem lr_mo {hd tl hd' tl' : Nat → Int32} {V V' : Nat → Prop} (h : ∀ x, V x → V' x ∧ hd' x = hd x ∧ tl' x = tl x) : ∀ {l : List Int32} {c : Nat}, hp_lr hd tl V c l → hp_lr hd' tl' V' c l
  | [], _, hl => hl
  | _ :: _, c, ⟨h1, h2, c', h3, h4⟩ => ⟨(h c h1).1, (h c h1).2.1.trans h2, c', (h c h1).2.2.trans h3, lr_mo h h4⟩
theorem lr_hx {hd tl hd' tl' : Nat → Int32} {A : Nat → Prop} {L B B' : Nat} (h : hp_hx B hd tl hd' tl') (hB : B ≤ B') {l : List Int32} {c : Nat} (hl : hp_lr hd tl (hp_V A L B) c l) : hp_lr hd' tl' (hp_V A L B') c l :=
  lr_mo (fun x hx => ⟨⟨hx.1, Nat.lt_of_lt_of_le hx.2.1 hB, hx.2.2.1, hx.2.2.2⟩, (h x hx.2.1).1, (h x hx.2.1).2⟩) hl
theorem lr_lt {hd tl : Nat → Int32} {A : Nat → Prop} {L B : Nat} (hB : 0 < B) : ∀ {l : List Int32} {c : Nat}, hp_lr hd tl (hp_V A L B) c l → c < B
  | [], _, hl => by have : _ = 0 := hl; omega
  | _ :: _, _, hl => hl.1.2.1
theorem lr_ne {hd tl : Nat → Int32} {A : Nat → Prop} {L B : Nat} {l : List Int32} {c : Nat} (hl : hp_lr hd tl (hp_V A L B) c l) : c = 0 ↔ l = [] := by
  cases l with
  | nil => exact ⟨fun _ => rfl, fun _ => hl⟩
  | cons x r =>
    have : 0 < c := hl.1.1
    exact ⟨fun z => by omega, fun z => nomatch z⟩
theorem sg_mo {hd tl hd' tl' : Nat → Int32} {W W' : Nat → Prop} {L : Nat} (h : ∀ x, W x → W' x ∧ hd' x = hd x ∧ (x ≠ L → tl' x = tl x)) : ∀ {l : List Int32} {c : Nat}, hp_sg hd tl W L c l → hp_sg hd' tl' W' L c l
  | [], _, hl => hl
  | [_], c, ⟨h1, h2, h3⟩ => ⟨(h c h1).1, h2, (h c h1).2.1.trans h3⟩
  | _ :: y :: l, c, ⟨h1, h2, h3, c', h4, h5⟩ => ⟨(h c h1).1, h2, (h c h1).2.1.trans h3, c', ((h c h1).2.2 h2).trans h4, sg_mo h (l := y :: l) h5⟩
theorem sg_L {hd tl : Nat → Int32} {W : Nat → Prop} {L : Nat} : ∀ {l : List Int32} {c : Nat}, hp_sg hd tl W L c l → l ≠ [] → W L ∧ W c
  | [], _, _, h => absurd rfl h
  | [_], c, ⟨h1, h2, _⟩, _ => by subst h2; exact ⟨h1, h1⟩
  | _ :: y :: l, c, ⟨h1, _, _, c', _, h5⟩, _ => ⟨(sg_L (l := y :: l) h5 (by simp)).1, h1⟩
theorem sg_0 {hd tl : Nat → Int32} {lo B L c : Nat} {l : List Int32} (hlo : 0 < lo) (h : hp_sg hd tl (hp_W lo B) L c l) : L = 0 ↔ l = [] := by
  cases l with
  | nil => exact ⟨fun _ => rfl, fun _ => h.2⟩
  | cons x r =>
    have : lo ≤ L := (sg_L h (by simp)).1.1
    exact ⟨fun z => by omega, fun z => nomatch z⟩
theorem sg_b {hd tl : Nat → Int32} {lo B L c : Nat} {l : List Int32} (hB : 0 < B) (h : hp_sg hd tl (hp_W lo B) L c l) : L < B ∧ c < B := by
  cases l with
  | nil => obtain ⟨h1, h2⟩ := h; omega
  | cons x r =>
    have := sg_L h (by simp)
    exact ⟨this.1.2, this.2.2⟩
theorem sg_hx {hd tl hd' tl' : Nat → Int32} {lo B B' L c : Nat} {l : List Int32} (h : hp_hx B hd tl hd' tl') (hB : B ≤ B') (hs : hp_sg hd tl (hp_W lo B) L c l) : hp_sg hd' tl' (hp_W lo B') L c l :=
  sg_mo (fun x hx => ⟨⟨hx.1, Nat.lt_of_lt_of_le hx.2 hB⟩, (h x hx.2).1, fun _ => (h x hx.2).2⟩) hs
/-- one more cell in front -/
theorem sg_pu {hd tl : Nat → Int32} {lo B L c : Nat} {l : List Int32} {x : Int32} (hlo : lo ≤ B) (h0 : 0 < lo) (h : hp_sg hd tl (hp_W lo B) L c l) :
    hp_sg (upd hd B x) (upd tl B (nI c)) (hp_W lo (B + 1)) (if L = 0 then B else L) B (x :: l) := by
  cases l with
  | nil =>
    obtain ⟨_, h2⟩ := h
    rw [if_pos h2]
    exact ⟨⟨hlo, Nat.lt_succ_self B⟩, rfl, pk_us⟩
  | cons y r =>
    have hL := sg_L h (by simp)
    have : lo ≤ L := hL.1.1
    have hLB : L < B := hL.1.2
    rw [if_neg (by omega)]
    refine ⟨⟨hlo, Nat.lt_succ_self B⟩, by omega, pk_us, c, pk_us, ?_⟩
    exact sg_mo (fun z hz => ⟨⟨hz.1, Nat.lt_succ_of_lt hz.2⟩, pk_un (Nat.ne_of_lt hz.2), fun _ => pk_un (Nat.ne_of_lt hz.2)⟩) h
theorem sg_cat {hd tl : Nat → Int32} {W W2 W' : Nat → Prop} {L L2 c2 : Nat} {l2 : List Int32} (h2 : hp_sg hd tl W2 L2 c2 l2) (hn2 : l2 ≠ []) (w1 : ∀ x, W x → x ≠ L2 ∧ W' x) (w2 : ∀ x, W2 x → x ≠ L ∧ W' x) :
    ∀ {l : List Int32} {c : Nat}, hp_sg hd tl W L c l → l ≠ [] → hp_sg hd (upd tl L (nI c2)) W' L2 c (l ++ l2)
  | [], _, _, h => absurd rfl h
  | [x], c, ⟨h1, e, h3⟩, _ => by
    subst e
    cases l2 with
    | nil => exact absurd rfl hn2
    | cons y r => exact ⟨(w1 c h1).2, (w1 c h1).1, h3, c2, pk_us, sg_mo (fun z hz => ⟨(w2 z hz).2, rfl, fun _ => pk_un (w2 z hz).1⟩) h2⟩
  | x :: y :: l, c, ⟨h1, e, h3, c', h4, h5⟩, _ => ⟨(w1 c h1).2, (w1 c h1).1, h3, c', by rw [pk_un e]; exact h4, sg_cat h2 hn2 w1 w2 (l := y :: l) h5 (by simp)⟩
theorem sg_fin {hd tl : Nat → Int32} {W V V' : Nat → Prop} {L v : Nat} {w : List Int32} (hw : hp_lr hd tl V v w) (v1 : ∀ x, V x → x ≠ L ∧ V' x) (w1 : ∀ x, W x → V' x) :
    ∀ {l : List Int32} {c : Nat}, hp_sg hd tl W L c l → l ≠ [] → hp_lr hd (upd tl L (nI v)) V' c (l ++ w)
  | [], _, _, h => absurd rfl h
  | [x], c, ⟨h1, e, h3⟩, _ => by
    subst e
    exact ⟨w1 c h1, h3, v, pk_us, lr_mo (fun z hz => ⟨(v1 z hz).2, rfl, pk_un (v1 z hz).1⟩) hw⟩
  | x :: y :: l, c, ⟨h1, e, h3, c', h4, h5⟩, _ => ⟨w1 c h1, h3, c', by rw [pk_un e]; exact h4, sg_fin hw v1 w1 (l := y :: l) h5 (by simp)⟩
def hp_vr (R : Nat → List Int32 → Prop) (k : Bool) (x : Int32) (v : List Int32) : Prop := match k with
  | true => ∃ c, x = nI c ∧ R c v
  | false => v = [x]
def hp_xs (vals : Nat → Int32) (R : Nat → List Int32 → Prop) (b : Nat) : List Bool → List (List Int32) → Prop
  | [], [] => True
  | k :: ks, v :: vs => hp_vr R k (vals (b + vs.length)) v ∧ hp_xs vals R b ks vs
  | _, _ => False
theorem vr_mo {R R' : Nat → List Int32 → Prop} (h : ∀ c l, R c l → R' c l) {k : Bool} {x : Int32} {v : List Int32} (hv : hp_vr R k x v) : hp_vr R' k x v := by
  cases k with
  | true => obtain ⟨c, h1, h2⟩ := hv; exact ⟨c, h1, h c v h2⟩
  | false => exact hv
theorem xs_mo {vals vals' : Nat → Int32} {R R' : Nat → List Int32 → Prop} {b : Nat} (h : ∀ c l, R c l → R' c l) : ∀ {ks : List Bool} {vs : List (List Int32)}, (∀ j, j < b + vs.length → vals' j = vals j) → hp_xs vals R b ks vs → hp_xs vals' R' b ks vs
  | [], [], _, _ => trivial
  | k :: ks, v :: vs, hj, ⟨h1, h2⟩ => by
    rw [List.length_cons] at hj
    refine ⟨?_, xs_mo h (fun j hj' => hj j (by omega)) h2⟩
    rw [hj _ (by omega)]
    exact vr_mo h h1
  | [], _ :: _, _, hh => hh
  | _ :: _, [], _, hh => hh
theorem xs_len {vals : Nat → Int32} {R : Nat → List Int32 → Prop} {b : Nat} : ∀ {ks : List Bool} {vs : List (List Int32)}, hp_xs vals R b ks vs → ks.length = vs.length
  | [], [], _ => rfl
  | _ :: ks, _ :: vs, h => congrArg (· + 1) (xs_len (ks := ks) (vs := vs) h.2)
theorem xs_ty {vals : Nat → Int32} {R : Nat → List Int32 → Prop} {b : Nat} : ∀ {ks : List Bool} {vs : List (List Int32)}, hp_xs vals R b ks vs → hp_ty ks vs
  | [], [], _ => trivial
  | k :: ks, v :: vs, h => ⟨fun z => by subst z; rw [show v = [_] from h.1]; rfl, xs_ty (ks := ks) (vs := vs) h.2⟩
theorem xs_c {vals : Nat → Int32} {R : Nat → List Int32 → Prop} {b : Nat} {k : Bool} {ks : List Bool} {st : List (List Int32)} (h : hp_xs vals R b (k :: ks) st) : ∃ v vs, st = v :: vs ∧ hp_vr R k (vals (b + vs.length)) v ∧ hp_xs vals R b ks vs := by
  cases st with
  | nil => exact False.elim h
  | cons v vs => exact ⟨v, vs, rfl, h.1, h.2⟩
theorem xs_n {vals : Nat → Int32} {R : Nat → List Int32 → Prop} {b : Nat} {st : List (List Int32)} (h : hp_xs vals R b [] st) : st = [] := by
  cases st with
  | nil => rfl
  | cons v vs => exact False.elim h
theorem xs_pu {vals : Nat → Int32} {R R' : Nat → List Int32 → Prop} {b : Nat} {k : Bool} {ks : List Bool} {v : List Int32} {vs : List (List Int32)} {x : Int32} {j : Nat} (hj : j = b + vs.length) (hm : ∀ c l, R c l → R' c l) (h1 : hp_vr R' k x v) (h2 : hp_xs vals R b ks vs) : hp_xs (upd vals j x) R' b (k :: ks) (v :: vs) := by
  subst hj
  refine ⟨?_, xs_mo hm (fun i hi => pk_un (Nat.ne_of_lt hi)) h2⟩
  rw [pk_us]
  exact h1
def hp_ho (k : Bool) (m a : Int32) (ch w : List Int32) : List Int32 := match k with
  | true => ch ++ w
  | false => [m * w.headD 0 + a]
theorem ho_co {k : Bool} {m a m2 a2 : Int32} {ch ch2 w : List Int32} : hp_ho k m a ch (hp_ho k m2 a2 ch2 w) = hp_ho k (m * m2) (a + m * a2) (ch ++ ch2) w := by
  cases k with
  | true => exact (List.append_assoc _ _ _).symm
  | false =>
    show [m * (m2 * w.headD 0 + a2) + a] = [m * m2 * w.headD 0 + (a + m * a2)]
    exact congrArg (fun z => [z]) (by grind)
theorem ho_1 {k : Bool} {w : List Int32} (h : k = false → w.length = 1) : hp_ho k 1 0 [] w = w := by
  cases k with
  | true => rfl
  | false =>
    obtain ⟨x, rfl⟩ := hp_l1 (h rfl)
    show [1 * x + 0] = [x]
    exact congrArg (fun z => [z]) (by grind)
end
section
abbrev DX : Type := Int32 × Int32 × Int32 × Int32 × Int32 × Int32 × Int32 × Int32 × Int32 × Int32 × Int32 × Int32 × Int32 × Int32 × Int32 × (Nat → Int32) × (Nat → Int32) × (Nat → Int32) × (Nat → Int32) × (Nat → Int32) × (Nat → Int32) × (Nat → Int32) × (Nat → Int32) × (Nat → Int32) × (Nat → Int32) × (Nat → Int32) × (Nat → Int32) × (Nat → Int32)
def xM (f_callLimit : Int32) (f_depthLimit : Int32) (f_draft : Int32) (f_height : Int32) (f_guarded : Int32) (f_consCount : Int32) (f_outKind : Int32) (f_outValue : Int32) (f_outCalls : Int32) (f_outPeak : Int32) (a_ops : Nat → Int32) (a_args : Nat → Int32) (a_passed : Nat → Int32) (a_length : Nat → Int32) (a_heldCount : Nat → Int32) (a_kinds : Nat → Int32) (a_items : Nat → Int32) (a_itemCount : Nat → Int32) (a_outList : Nat → Int32) (d : DX) : SX := match d with
  | (f_cells, f_top, f_nextF, f_nextN, f_nextXs, f_nextYs, f_holePos, f_holeMul, f_holeAdd, f_holeFirst, f_holeLast, f_running, f_ending, f_entered, f_deepest, a_head, a_tail, a_fn, a_pc, a_argN, a_argXs, a_argYs, a_sp, a_values, a_mul, a_add, a_first, a_last) => (f_callLimit, f_depthLimit, f_draft, f_height, f_guarded, f_consCount, f_outKind, f_outValue, f_outCalls, f_outPeak, f_cells, f_top, f_nextF, f_nextN, f_nextXs, f_nextYs, f_holePos, f_holeMul, f_holeAdd, f_holeFirst, f_holeLast, f_running, f_ending, f_entered, f_deepest, a_ops, a_args, a_passed, a_length, a_heldCount, a_kinds, a_items, a_itemCount, a_outList, a_head, a_tail, a_fn, a_pc, a_argN, a_argXs, a_argYs, a_sp, a_values, a_mul, a_add, a_first, a_last)
def x_hp (d : DX) : Int32 := match d with
  | (f_cells, f_top, f_nextF, f_nextN, f_nextXs, f_nextYs, f_holePos, f_holeMul, f_holeAdd, f_holeFirst, f_holeLast, f_running, f_ending, f_entered, f_deepest, a_head, a_tail, a_fn, a_pc, a_argN, a_argXs, a_argYs, a_sp, a_values, a_mul, a_add, a_first, a_last) => f_holePos
def xF (T f pc : Nat) (nv : Int32) (xs ys : List Int32) (e dp B : Nat) (V : Nat → Prop) (d : DX) : Prop := match d with
  | (f_cells, f_top, f_nextF, f_nextN, f_nextXs, f_nextYs, f_holePos, f_holeMul, f_holeAdd, f_holeFirst, f_holeLast, f_running, f_ending, f_entered, f_deepest, a_head, a_tail, a_fn, a_pc, a_argN, a_argXs, a_argYs, a_sp, a_values, a_mul, a_add, a_first, a_last) => f_top = nI T ∧ a_fn T = nI f ∧ a_pc T = nI pc ∧ a_argN T = nv ∧ (∃ c, a_argXs T = nI c ∧ hp_lr a_head a_tail V c xs) ∧ (∃ c, a_argYs T = nI c ∧ hp_lr a_head a_tail V c ys) ∧
    f_running = 1 ∧ f_ending = 0 ∧ f_entered = nI e ∧ f_deepest = nI dp ∧ f_cells = nI B ∧ a_head 0 = 0 ∧ a_tail 0 = 0
def xS (T q : Nat) (ks : List Bool) (ab : List (List Int32)) (V : Nat → Prop) (d : DX) : Prop := match d with
  | (f_cells, f_top, f_nextF, f_nextN, f_nextXs, f_nextYs, f_holePos, f_holeMul, f_holeAdd, f_holeFirst, f_holeLast, f_running, f_ending, f_entered, f_deepest, a_head, a_tail, a_fn, a_pc, a_argN, a_argXs, a_argYs, a_sp, a_values, a_mul, a_add, a_first, a_last) => a_sp T = nI (q + ab.length) ∧ hp_xs a_values (hp_lr a_head a_tail V) (T * 6 + q) ks ab
/-- the part of the stack below a missing value -/
def xU (T : Nat) (ks : List Bool) (bl : List (List Int32)) (V : Nat → Prop) (d : DX) : Prop := match d with
  | (f_cells, f_top, f_nextF, f_nextN, f_nextXs, f_nextYs, f_holePos, f_holeMul, f_holeAdd, f_holeFirst, f_holeLast, f_running, f_ending, f_entered, f_deepest, a_head, a_tail, a_fn, a_pc, a_argN, a_argXs, a_argYs, a_sp, a_values, a_mul, a_add, a_first, a_last) => hp_xs a_values (hp_lr a_head a_tail V) (T * 6) ks bl
/-- work put off in the frame -/
def xP (T : Nat) (m a : Int32) (ch : List Int32) (lo B p L : Nat) (d : DX) : Prop := match d with
  | (f_cells, f_top, f_nextF, f_nextN, f_nextXs, f_nextYs, f_holePos, f_holeMul, f_holeAdd, f_holeFirst, f_holeLast, f_running, f_ending, f_entered, f_deepest, a_head, a_tail, a_fn, a_pc, a_argN, a_argXs, a_argYs, a_sp, a_values, a_mul, a_add, a_first, a_last) => a_mul T = m ∧ a_add T = a ∧ a_first T = nI p ∧ a_last T = nI L ∧ hp_sg a_head a_tail (hp_W lo B) L p ch
/-- work put off in the clause -/
def xH (h : Nat) (m a : Int32) (ch : List Int32) (lo B : Nat) (d : DX) : Prop := match d with
  | (f_cells, f_top, f_nextF, f_nextN, f_nextXs, f_nextYs, f_holePos, f_holeMul, f_holeAdd, f_holeFirst, f_holeLast, f_running, f_ending, f_entered, f_deepest, a_head, a_tail, a_fn, a_pc, a_argN, a_argXs, a_argYs, a_sp, a_values, a_mul, a_add, a_first, a_last) => f_holePos = nI h ∧ f_holeMul = m ∧ f_holeAdd = a ∧ ∃ p l, f_holeFirst = nI p ∧ f_holeLast = nI l ∧ hp_sg a_head a_tail (hp_W lo B) l p ch
/-- the call about to be entered -/
def xN (g : Nat) (nv : Int32) (xs ys : List Int32) (V : Nat → Prop) (d : DX) : Prop := match d with
  | (f_cells, f_top, f_nextF, f_nextN, f_nextXs, f_nextYs, f_holePos, f_holeMul, f_holeAdd, f_holeFirst, f_holeLast, f_running, f_ending, f_entered, f_deepest, a_head, a_tail, a_fn, a_pc, a_argN, a_argXs, a_argYs, a_sp, a_values, a_mul, a_add, a_first, a_last) => f_nextF = nI g ∧ f_nextN = nv ∧ (∃ c, f_nextXs = nI c ∧ hp_lr a_head a_tail V c xs) ∧ (∃ c, f_nextYs = nI c ∧ hp_lr a_head a_tail V c ys)
/-- what a word that leaves the missing value alone keeps -/
def xW (T q B : Nat) (d d' : DX) : Prop := match d, d' with
  | (f_cells, f_top, f_nextF, f_nextN, f_nextXs, f_nextYs, f_holePos, f_holeMul, f_holeAdd, f_holeFirst, f_holeLast, f_running, f_ending, f_entered, f_deepest, a_head, a_tail, a_fn, a_pc, a_argN, a_argXs, a_argYs, a_sp, a_values, a_mul, a_add, a_first, a_last), (f_cells', f_top', f_nextF', f_nextN', f_nextXs', f_nextYs', f_holePos', f_holeMul', f_holeAdd', f_holeFirst', f_holeLast', f_running', f_ending', f_entered', f_deepest', a_head', a_tail', a_fn', a_pc', a_argN', a_argXs', a_argYs', a_sp', a_values', a_mul', a_add', a_first', a_last') => f_nextF' = f_nextF ∧ f_nextN' = f_nextN ∧ f_nextXs' = f_nextXs ∧ f_nextYs' = f_nextYs ∧ f_holePos' = f_holePos ∧ f_holeMul' = f_holeMul ∧ f_holeAdd' = f_holeAdd ∧ f_holeFirst' = f_holeFirst ∧ f_holeLast' = f_holeLast ∧
    a_fn' = a_fn ∧ a_argN' = a_argN ∧ a_argXs' = a_argXs ∧ a_argYs' = a_argYs ∧ a_mul' = a_mul ∧ a_add' = a_add ∧ a_first' = a_first ∧ a_last' = a_last ∧
    (∀ j, j ≠ T → a_pc' j = a_pc j ∧ a_sp' j = a_sp j) ∧ (∀ j, j < T * 6 + q → a_values' j = a_values j) ∧ hp_hx B a_head a_tail a_head' a_tail'
/-- what an activation of frame T with last cell L keeps -/
def xR (T B L : Nat) (d d' : DX) : Prop := match d, d' with
  | (f_cells, f_top, f_nextF, f_nextN, f_nextXs, f_nextYs, f_holePos, f_holeMul, f_holeAdd, f_holeFirst, f_holeLast, f_running, f_ending, f_entered, f_deepest, a_head, a_tail, a_fn, a_pc, a_argN, a_argXs, a_argYs, a_sp, a_values, a_mul, a_add, a_first, a_last), (f_cells', f_top', f_nextF', f_nextN', f_nextXs', f_nextYs', f_holePos', f_holeMul', f_holeAdd', f_holeFirst', f_holeLast', f_running', f_ending', f_entered', f_deepest', a_head', a_tail', a_fn', a_pc', a_argN', a_argXs', a_argYs', a_sp', a_values', a_mul', a_add', a_first', a_last') => (∀ j, j < T → a_fn' j = a_fn j ∧ a_pc' j = a_pc j ∧ a_argN' j = a_argN j ∧ a_argXs' j = a_argXs j ∧ a_argYs' j = a_argYs j ∧ a_sp' j = a_sp j ∧ a_mul' j = a_mul j ∧ a_add' j = a_add j ∧ a_first' j = a_first j ∧ a_last' j = a_last j) ∧
    (∀ j, j < T * 6 → a_values' j = a_values j) ∧ (∀ x, x < B → a_head' x = a_head x ∧ (x ≠ L → a_tail' x = a_tail x))
theorem xR_rf {T B L : Nat} {d : DX} : xR T B L d d := by
  obtain ⟨f_cells, f_top, f_nextF, f_nextN, f_nextXs, f_nextYs, f_holePos, f_holeMul, f_holeAdd, f_holeFirst, f_holeLast, f_running, f_ending, f_entered, f_deepest, a_head, a_tail, a_fn, a_pc, a_argN, a_argXs, a_argYs, a_sp, a_values, a_mul, a_add, a_first, a_last⟩ := d
  exact ⟨fun j _ => ⟨rfl, rfl, rfl, rfl, rfl, rfl, rfl, rfl, rfl, rfl⟩, fun _ _ => rfl, fun _ _ => ⟨rfl, fun _ => rfl⟩⟩
theorem xR_tr {T B L B' L' : Nat} {d d' d2 : DX} (h1 : xR T B L d d') (h2 : xR T B' L' d' d2) (hB : B ≤ B') (hL : L' = L ∨ B ≤ L') : xR T B L d d2 := by
  obtain ⟨f_cells, f_top, f_nextF, f_nextN, f_nextXs, f_nextYs, f_holePos, f_holeMul, f_holeAdd, f_holeFirst, f_holeLast, f_running, f_ending, f_entered, f_deepest, a_head, a_tail, a_fn, a_pc, a_argN, a_argXs, a_argYs, a_sp, a_values, a_mul, a_add, a_first, a_last⟩ := d
  obtain ⟨f_cells', f_top', f_nextF', f_nextN', f_nextXs', f_nextYs', f_holePos', f_holeMul', f_holeAdd', f_holeFirst', f_holeLast', f_running', f_ending', f_entered', f_deepest', a_head', a_tail', a_fn', a_pc', a_argN', a_argXs', a_argYs', a_sp', a_values', a_mul', a_add', a_first', a_last'⟩ := d'
  obtain ⟨f_cells'', f_top'', f_nextF'', f_nextN'', f_nextXs'', f_nextYs'', f_holePos'', f_holeMul'', f_holeAdd'', f_holeFirst'', f_holeLast'', f_running'', f_ending'', f_entered'', f_deepest'', a_head'', a_tail'', a_fn'', a_pc'', a_argN'', a_argXs'', a_argYs'', a_sp'', a_values'', a_mul'', a_add'', a_first'', a_last''⟩ := d2
  obtain ⟨a1, a2, a3⟩ := h1
  obtain ⟨b1, b2, b3⟩ := h2
  refine ⟨fun j hj => ?_, fun j hj => (b2 j hj).trans (a2 j hj), fun x hx => ⟨(b3 x (by omega)).1.trans (a3 x hx).1, fun hl => ?_⟩⟩
  · obtain ⟨c1, c2, c3, c4, c5, c6, c7, c8, c9, c10⟩ := a1 j hj
    obtain ⟨e1, e2, e3, e4, e5, e6, e7, e8, e9, e10⟩ := b1 j hj
    exact ⟨e1.trans c1, e2.trans c2, e3.trans c3, e4.trans c4, e5.trans c5, e6.trans c6, e7.trans c7, e8.trans c8, e9.trans c9, e10.trans c10⟩
  · by_cases hx2 : x = L'
    · rcases hL with z | z
      · exact absurd (hx2.trans z) hl
      · omega
    · exact ((b3 x (by omega)).2 hx2).trans ((a3 x hx).2 hl)
theorem xW_R {T q B L : Nat} {d d' : DX} (h : xW T q B d d') : xR T B L d d' := by
  obtain ⟨f_cells, f_top, f_nextF, f_nextN, f_nextXs, f_nextYs, f_holePos, f_holeMul, f_holeAdd, f_holeFirst, f_holeLast, f_running, f_ending, f_entered, f_deepest, a_head, a_tail, a_fn, a_pc, a_argN, a_argXs, a_argYs, a_sp, a_values, a_mul, a_add, a_first, a_last⟩ := d
  obtain ⟨f_cells', f_top', f_nextF', f_nextN', f_nextXs', f_nextYs', f_holePos', f_holeMul', f_holeAdd', f_holeFirst', f_holeLast', f_running', f_ending', f_entered', f_deepest', a_head', a_tail', a_fn', a_pc', a_argN', a_argXs', a_argYs', a_sp', a_values', a_mul', a_add', a_first', a_last'⟩ := d'
  obtain ⟨rfl, rfl, rfl, rfl, rfl, rfl, rfl, rfl, rfl, rfl, rfl, rfl, rfl, rfl, rfl, rfl, rfl, h1, h2, h3⟩ := h
  exact ⟨fun j hj => ⟨rfl, (h1 j (by omega)).1, rfl, rfl, rfl, (h1 j (by omega)).2, rfl, rfl, rfl, rfl⟩, fun j hj => h2 j (by omega), fun x hx => ⟨(h3 x hx).1, fun _ => (h3 x hx).2⟩⟩
theorem xW_P {T q B B' : Nat} {d d' : DX} {m a : Int32} {ch : List Int32} {lo p L : Nat} (h : xW T q B d d') (hB : B ≤ B') (hP : xP T m a ch lo B p L d) : xP T m a ch lo B' p L d' := by
  obtain ⟨f_cells, f_top, f_nextF, f_nextN, f_nextXs, f_nextYs, f_holePos, f_holeMul, f_holeAdd, f_holeFirst, f_holeLast, f_running, f_ending, f_entered, f_deepest, a_head, a_tail, a_fn, a_pc, a_argN, a_argXs, a_argYs, a_sp, a_values, a_mul, a_add, a_first, a_last⟩ := d
  obtain ⟨f_cells', f_top', f_nextF', f_nextN', f_nextXs', f_nextYs', f_holePos', f_holeMul', f_holeAdd', f_holeFirst', f_holeLast', f_running', f_ending', f_entered', f_deepest', a_head', a_tail', a_fn', a_pc', a_argN', a_argXs', a_argYs', a_sp', a_values', a_mul', a_add', a_first', a_last'⟩ := d'
  obtain ⟨rfl, rfl, rfl, rfl, rfl, rfl, rfl, rfl, rfl, rfl, rfl, rfl, rfl, rfl, rfl, rfl, rfl, h1, h2, h3⟩ := h
  obtain ⟨p1, p2, p3, p4, p5⟩ := hP
  exact ⟨p1, p2, p3, p4, sg_hx h3 hB p5⟩
theorem xW_H {T q B B' : Nat} {d d' : DX} {h m a : _} {ch : List Int32} {lo : Nat} (w : xW T q B d d') (hB : B ≤ B') (hH : xH h m a ch lo B d) : xH h m a ch lo B' d' := by
  obtain ⟨f_cells, f_top, f_nextF, f_nextN, f_nextXs, f_nextYs, f_holePos, f_holeMul, f_holeAdd, f_holeFirst, f_holeLast, f_running, f_ending, f_entered, f_deepest, a_head, a_tail, a_fn, a_pc, a_argN, a_argXs, a_argYs, a_sp, a_values, a_mul, a_add, a_first, a_last⟩ := d
  obtain ⟨f_cells', f_top', f_nextF', f_nextN', f_nextXs', f_nextYs', f_holePos', f_holeMul', f_holeAdd', f_holeFirst', f_holeLast', f_running', f_ending', f_entered', f_deepest', a_head', a_tail', a_fn', a_pc', a_argN', a_argXs', a_argYs', a_sp', a_values', a_mul', a_add', a_first', a_last'⟩ := d'
  obtain ⟨rfl, rfl, rfl, rfl, rfl, rfl, rfl, rfl, rfl, rfl, rfl, rfl, rfl, rfl, rfl, rfl, rfl, h1, h2, h3⟩ := w
  obtain ⟨p1, p2, p3, p, l, p4, p5, p6⟩ := hH
  exact ⟨p1, p2, p3, p, l, p4, p5, sg_hx h3 hB p6⟩
theorem xW_N {T q B B0 : Nat} {d d' : DX} {g : Nat} {nv : Int32} {xs ys : List Int32} {A : Nat → Prop} {L : Nat} (w : xW T q B d d') (hB : B0 ≤ B) (hN : xN g nv xs ys (hp_V A L B0) d) : xN g nv xs ys (hp_V A L B0) d' := by
  obtain ⟨f_cells, f_top, f_nextF, f_nextN, f_nextXs, f_nextYs, f_holePos, f_holeMul, f_holeAdd, f_holeFirst, f_holeLast, f_running, f_ending, f_entered, f_deepest, a_head, a_tail, a_fn, a_pc, a_argN, a_argXs, a_argYs, a_sp, a_values, a_mul, a_add, a_first, a_last⟩ := d
  obtain ⟨f_cells', f_top', f_nextF', f_nextN', f_nextXs', f_nextYs', f_holePos', f_holeMul', f_holeAdd', f_holeFirst', f_holeLast', f_running', f_ending', f_entered', f_deepest', a_head', a_tail', a_fn', a_pc', a_argN', a_argXs', a_argYs', a_sp', a_values', a_mul', a_add', a_first', a_last'⟩ := d'
  obtain ⟨rfl, rfl, rfl, rfl, rfl, rfl, rfl, rfl, rfl, rfl, rfl, rfl, rfl, rfl, rfl, rfl, rfl, h1, h2, h3⟩ := w
  obtain ⟨p1, p2, ⟨c1, p3, p4⟩, ⟨c2, p5, p6⟩⟩ := hN
  have h3' : hp_hx B0 a_head a_tail a_head' a_tail' := fun x hx => h3 x (by omega)
  exact ⟨p1, p2, ⟨c1, p3, lr_hx h3' (Nat.le_refl _) p4⟩, ⟨c2, p5, lr_hx h3' (Nat.le_refl _) p6⟩⟩
theorem xW_U {T q B B' : Nat} {d d' : DX} {ks : List Bool} {bl : List (List Int32)} {A : Nat → Prop} {L : Nat} (w : xW T q B d d') (hq : bl.length ≤ q) (hB : B ≤ B') (hU : xU T ks bl (hp_V A L B) d) : xU T ks bl (hp_V A L B') d' := by
  obtain ⟨f_cells, f_top, f_nextF, f_nextN, f_nextXs, f_nextYs, f_holePos, f_holeMul, f_holeAdd, f_holeFirst, f_holeLast, f_running, f_ending, f_entered, f_deepest, a_head, a_tail, a_fn, a_pc, a_argN, a_argXs, a_argYs, a_sp, a_values, a_mul, a_add, a_first, a_last⟩ := d
  obtain ⟨f_cells', f_top', f_nextF', f_nextN', f_nextXs', f_nextYs', f_holePos', f_holeMul', f_holeAdd', f_holeFirst', f_holeLast', f_running', f_ending', f_entered', f_deepest', a_head', a_tail', a_fn', a_pc', a_argN', a_argXs', a_argYs', a_sp', a_values', a_mul', a_add', a_first', a_last'⟩ := d'
  obtain ⟨rfl, rfl, rfl, rfl, rfl, rfl, rfl, rfl, rfl, rfl, rfl, rfl, rfl, rfl, rfl, rfl, rfl, h1, h2, h3⟩ := w
  exact xs_mo (fun c l hl => lr_hx h3 hB hl) (fun j hj => h2 j (by omega)) hU
theorem xW_hp {T q B : Nat} {d d' : DX} (w : xW T q B d d') : x_hp d' = x_hp d := by
  obtain ⟨f_cells, f_top, f_nextF, f_nextN, f_nextXs, f_nextYs, f_holePos, f_holeMul, f_holeAdd, f_holeFirst, f_holeLast, f_running, f_ending, f_entered, f_deepest, a_head, a_tail, a_fn, a_pc, a_argN, a_argXs, a_argYs, a_sp, a_values, a_mul, a_add, a_first, a_last⟩ := d
  obtain ⟨f_cells', f_top', f_nextF', f_nextN', f_nextXs', f_nextYs', f_holePos', f_holeMul', f_holeAdd', f_holeFirst', f_holeLast', f_running', f_ending', f_entered', f_deepest', a_head', a_tail', a_fn', a_pc', a_argN', a_argXs', a_argYs', a_sp', a_values', a_mul', a_add', a_first', a_last'⟩ := d'
  exact w.2.2.2.2.1
end
section
theorem hp_lt {x : Int32} {a b : Nat} (h : x < nI a) (hab : a ≤ b) (hb : b < 2 ^ 31) : x < nI b := by
  rw [Int32.lt_iff_toInt_lt, nI_toInt (by omega)] at *
  omega
theorem hp_5 {o : Int32} (h1 : 1 ≤ o) (h5 : ¬ 5 < o) : o = 1 ∨ o = 2 ∨ o = 3 ∨ o = 4 ∨ o = 5 := by
  have h5' : o ≤ 5 := Int32.not_lt.mp h5
  rcases hp_16 h1 (Int32.le_trans h5' (by decide)) with h | h | h | h | h | h | h | h | h | h | h | h | h | h | h | h
  · exact Or.inl h
  · exact Or.inr (Or.inl h)
  · exact Or.inr (Or.inr (Or.inl h))
  · exact Or.inr (Or.inr (Or.inr (Or.inl h)))
  · exact Or.inr (Or.inr (Or.inr (Or.inr h)))
  all_goals
    subst h
    exact absurd h5' (by decide)
theorem hp_8 {o : Int32} (h5 : 5 < o) (h8 : ¬ 8 < o) : o = 6 ∨ o = 7 ∨ o = 8 := by
  have h8' : o ≤ 8 := Int32.not_lt.mp h8
  rcases hp_16 (Int32.le_trans (by decide) (Int32.le_of_lt h5)) (Int32.le_trans h8' (by decide)) with h | h | h | h | h | h | h | h | h | h | h | h | h | h | h | h
  all_goals first
    | exact Or.inl h
    | exact Or.inr (Or.inl h)
    | exact Or.inr (Or.inr h)
    | (subst h; exact absurd h8' (by decide))
    | (subst h; exact absurd h5 (by decide))
theorem hp_13 {o : Int32} (h8 : 8 < o) (h13 : ¬ 13 < o) : o = 9 ∨ (9 < o ∧ o ≤ 13 ∧ (o = 10 ∨ o = 11 ∨ o = 12 ∨ o = 13)) := by
  have h13' : o ≤ 13 := Int32.not_lt.mp h13
  rcases hp_16 (Int32.le_trans (by decide) (Int32.le_of_lt h8)) (Int32.le_trans h13' (by decide)) with h | h | h | h | h | h | h | h | h | h | h | h | h | h | h | h
  all_goals first
    | exact Or.inl h
    | (subst h; exact absurd h13' (by decide))
    | (subst h; exact absurd h8 (by decide))
    | (subst h; exact Or.inr (by decide))
section
variable {f_callLimit : Int32} {f_depthLimit : Int32} {f_draft : Int32} {f_height : Int32} {f_guarded : Int32} {f_consCount : Int32} {f_outKind : Int32} {f_outValue : Int32} {f_outCalls : Int32} {f_outPeak : Int32} {a_ops : Nat → Int32} {a_args : Nat → Int32} {a_passed : Nat → Int32} {a_length : Nat → Int32} {a_heldCount : Nat → Int32} {a_kinds : Nat → Int32} {a_items : Nat → Int32} {a_itemCount : Nat → Int32} {a_outList : Nat → Int32} {post : Int32 → SX → Prop} {CL DL : Nat}
theorem xs_word {s T f pc n q e dp B : Nat} {nv : Int32} {xs ys : List Int32} {o a : Int32} {ks : List Bool} {ab : List (List Int32)} {A : Nat → Prop} {L : Nat} {f' : Nat} {g : Bool} {d : DX}
    (hF : xF T f pc nv xs ys e dp B (hp_V A L B) d) (hS : xS T q ks ab (hp_V A L B) d) (hq : x_hp d < nI q)
    (hs : s < 4096) (hT : T < 16) (hf : f < 4) (hp : pc < n) (hn : n ≤ 48) (hl : a_length f = nI n) (ho : a_ops (f * 48 + pc) = o) (ha : a_args (f * 48 + pc) = a) (h1 : 1 ≤ o) (h13 : o ≤ 13) (hfit : hp_fit o f' ks g)
    (h6 : q + (hp_ta o a ks).length ≤ 6) (hk6 : q + ks.length ≤ 6) (hB0 : 0 < B) (hB : o = 9 → B < 225) (hB2 : B ≤ 225) (hA : ∀ x, A x → x < B) (hL : L < B)
    (K : ∀ d' B', (o ≠ 9 → B' = B) → (o = 9 → B' = B + 1) → xF T f (pc + 1) nv xs ys e dp B' (hp_V A L B') d' → xS T q (hp_ta o a ks) (hp_ap o a nv xs ys ab) (hp_V A L B') d' → xW T q B d d' → xL post (s + 1) (xM (nI CL) (nI DL) f_draft f_height f_guarded f_consCount f_outKind f_outValue f_outCalls f_outPeak a_ops a_args a_passed a_length a_heldCount a_kinds a_items a_itemCount a_outList d')) : xL post s (xM (nI CL) (nI DL) f_draft f_height f_guarded f_consCount f_outKind f_outValue f_outCalls f_outPeak a_ops a_args a_passed a_length a_heldCount a_kinds a_items a_itemCount a_outList d) := by
  obtain ⟨f_cells, f_top, f_nextF, f_nextN, f_nextXs, f_nextYs, f_holePos, f_holeMul, f_holeAdd, f_holeFirst, f_holeLast, f_running, f_ending, f_entered, f_deepest, a_head, a_tail, a_fn, a_pc, a_argN, a_argXs, a_argYs, a_sp, a_values, a_mul, a_add, a_first, a_last⟩ := d
  obtain ⟨rfl, hfn, hpc, hN, ⟨cx, hcx, hlx⟩, ⟨cy, hcy, hly⟩, rfl, rfl, rfl, rfl, rfl, hh0, ht0⟩ := hF
  obtain ⟨hsp, hxs⟩ := hS
  have hlen := xs_len hxs
  have hq' : f_holePos < nI q := hq
  have fin : ∀ (k : Bool) (v : List Int32) (ks' : List Bool) (vs : List (List Int32)) (x : Int32) (B' : Nat) (hd' tl' : Nat → Int32), hp_ta o a ks = k :: ks' → hp_ap o a nv xs ys ab = v :: vs → hp_xs a_values (hp_lr a_head a_tail (hp_V A L B)) (T * 6 + q) ks' vs →
      hp_hx B a_head a_tail hd' tl' → B ≤ B' → (o ≠ 9 → B' = B) → (o = 9 → B' = B + 1) → hd' 0 = 0 → tl' 0 = 0 → hp_vr (hp_lr hd' tl' (hp_V A L B')) k x v →
      xL post (s + 1) (nI CL, nI DL, f_draft, f_height, f_guarded, f_consCount, f_outKind, f_outValue, f_outCalls, f_outPeak, nI B', nI T, f_nextF, f_nextN, f_nextXs, f_nextYs, f_holePos, f_holeMul, f_holeAdd, f_holeFirst, f_holeLast, 1, 0, nI e, nI dp, a_ops, a_args, a_passed, a_length, a_heldCount, a_kinds, a_items, a_itemCount, a_outList, hd', tl', a_fn, upd a_pc T (nI (pc + 1)), a_argN, a_argXs, a_argYs, upd a_sp T (nI (q + vs.length + 1)), upd a_values (T * 6 + (q + vs.length)) x, a_mul, a_add, a_first, a_last) := by
    intro k v ks' vs x B' hd' tl' e1 e2 hx hhx hBB b1 b2 z1 z2 hv
    have hmo : ∀ c l, hp_lr a_head a_tail (hp_V A L B) c l → hp_lr hd' tl' (hp_V A L B') c l := fun c l hl => lr_hx hhx hBB hl
    refine K (nI B', nI T, f_nextF, f_nextN, f_nextXs, f_nextYs, f_holePos, f_holeMul, f_holeAdd, f_holeFirst, f_holeLast, 1, 0, nI e, nI dp, hd', tl', a_fn, upd a_pc T (nI (pc + 1)), a_argN, a_argXs, a_argYs, upd a_sp T (nI (q + vs.length + 1)), upd a_values (T * 6 + (q + vs.length)) x, a_mul, a_add, a_first, a_last) B' b1 b2 ?_ ?_ ?_
    · exact ⟨rfl, hfn, pk_us, hN, ⟨cx, hcx, hmo _ _ hlx⟩, ⟨cy, hcy, hmo _ _ hly⟩, rfl, rfl, rfl, rfl, rfl, z1, z2⟩
    · rw [e1, e2]
      exact ⟨pk_us, xs_pu (by omega) hmo hv hx⟩
    · exact ⟨rfl, rfl, rfl, rfl, rfl, rfl, rfl, rfl, rfl, rfl, rfl, rfl, rfl, rfl, rfl, rfl, rfl, fun j hj => ⟨pk_un hj, pk_un hj⟩, fun j hj => pk_un (by omega), hhx⟩
  refine xd_go hs ?_
  intro Q hQ
  refine xd_dis hT hf hp hn hfn hpc hl ho ?_ ?_ ?_ ?_ ?_ ?_
  · intro h5 Q' hQ'
    rw [ha]
    have n9 : o ≠ 9 := fun z => by subst z; exact absurd h5 (by decide)
    have hta : (hp_ta o a ks).length = ks.length + 1 := by rcases hp_5 h1 h5 with rfl | rfl | rfl | rfl | rfl <;> rfl
    refine xl_load hT (h := q + ab.length) (by omega) hsp (hQ' _ (hQ _ ?_))
    rcases hp_5 h1 h5 with rfl | rfl | rfl | rfl | rfl
    · exact fin false [a] ks ab _ B a_head a_tail rfl rfl hxs (fun _ _ => ⟨rfl, rfl⟩) (Nat.le_refl _) (fun _ => rfl) (fun z => absurd z n9) hh0 ht0 rfl
    · exact fin false [nv] ks ab _ B a_head a_tail rfl rfl hxs (fun _ _ => ⟨rfl, rfl⟩) (Nat.le_refl _) (fun _ => rfl) (fun z => absurd z n9) hh0 ht0 (by show [nv] = [a_argN T]; rw [hN])
    · exact fin true xs ks ab _ B a_head a_tail rfl rfl hxs (fun _ _ => ⟨rfl, rfl⟩) (Nat.le_refl _) (fun _ => rfl) (fun z => absurd z n9) hh0 ht0 ⟨cx, hcx, hlx⟩
    · exact fin true ys ks ab _ B a_head a_tail rfl rfl hxs (fun _ _ => ⟨rfl, rfl⟩) (Nat.le_refl _) (fun _ => rfl) (fun z => absurd z n9) hh0 ht0 ⟨cy, hcy, hly⟩
    · exact fin true [] ks ab _ B a_head a_tail rfl rfl hxs (fun _ _ => ⟨rfl, rfl⟩) (Nat.le_refl _) (fun _ => rfl) (fun z => absurd z n9) hh0 ht0 ⟨0, rfl, rfl⟩
  · intro h5 h8 Q' hQ'
    have n9 : o ≠ 9 := fun z => by subst z; exact absurd h8 (by decide)
    obtain ⟨r, rfl⟩ := hp_fu hfit h5 (Int32.not_lt.mp h8)
    obtain ⟨v, vs, rfl, ⟨c, hc, hlc⟩, hx⟩ := xs_c hxs
    simp only [List.length_cons] at hlen hk6 hsp
    have hc225 := lr_lt hB0 hlc
    rw [show T * 6 + q + vs.length = T * 6 + (q + vs.length) by omega] at hc
    refine xl_un hT (h := q + vs.length) (c := c) (by omega) hsp hc (by omega) (hQ' _ (hQ _ ?_))
    rcases hp_8 h5 h8 with rfl | rfl | rfl
    · refine fin false [v.headD 0] r vs _ B a_head a_tail rfl rfl hx (fun _ _ => ⟨rfl, rfl⟩) (Nat.le_refl _) (fun _ => rfl) (fun z => absurd z n9) hh0 ht0 ?_
      show [v.headD 0] = [a_head c]
      cases v with
      | nil =>
        have : c = 0 := hlc
        subst this
        rw [hh0]
        rfl
      | cons x l => rw [hlc.2.1]; rfl
    · refine fin true v.tail r vs _ B a_head a_tail rfl rfl hx (fun _ _ => ⟨rfl, rfl⟩) (Nat.le_refl _) (fun _ => rfl) (fun z => absurd z n9) hh0 ht0 ?_
      cases v with
      | nil =>
        have : c = 0 := hlc
        subst this
        exact ⟨0, ht0, rfl⟩
      | cons x l =>
        obtain ⟨_, _, c', h3, h4⟩ := hlc
        exact ⟨c', h3, h4⟩
    · refine fin false [if v = [] then 1 else 0] r vs _ B a_head a_tail rfl rfl hx (fun _ _ => ⟨rfl, rfl⟩) (Nat.le_refl _) (fun _ => rfl) (fun z => absurd z n9) hh0 ht0 ?_
      show [if v = [] then (1 : Int32) else 0] = [if c = 0 then 1 else 0]
      by_cases z : v = []
      · rw [if_pos z, if_pos ((lr_ne hlc).mpr z)]
      · rw [if_neg z, if_neg (fun q => z ((lr_ne hlc).mp q))]
  · intro h8 h13' Q' hQ'
    rcases hp_13 h8 h13' with rfl | ⟨h9, h13'', ho4⟩
    · obtain ⟨r, rfl⟩ := hp_fc hfit
      obtain ⟨y, vs, rfl, ⟨c, hc, hlc⟩, hx⟩ := xs_c hxs
      obtain ⟨x, vs, rfl, hxv, hx'⟩ := xs_c hx
      have hxv' : x = [a_values (T * 6 + q + vs.length)] := hxv
      simp only [List.length_cons] at hlen hk6 hsp hc
      rw [show T * 6 + q + (vs.length + 1) = T * 6 + (q + vs.length + 1) by omega] at hc
      rw [show T * 6 + q + vs.length = T * 6 + (q + vs.length) by omega] at hxv'
      refine xl_cons hT (h := q + vs.length) (by omega) hsp (hp_lt hq' (by omega) (by omega)) (hB rfl) (hQ' _ (hQ _ ?_))
      rw [hc]
      refine fin true (x.headD 0 :: y) r vs _ (B + 1) _ _ rfl rfl hx' (fun j hj => ⟨pk_un (Nat.ne_of_lt hj), pk_un (Nat.ne_of_lt hj)⟩) (Nat.le_succ _) (fun z => absurd rfl z) (fun _ => rfl) (by rw [pk_un (by omega)]; exact hh0) (by rw [pk_un (by omega)]; exact ht0) ?_
      refine ⟨B, rfl, ⟨hB0, Nat.lt_succ_self B, fun z => absurd (hA B z) (Nat.lt_irrefl B), by omega⟩, ?_, c, pk_us, ?_⟩
      · rw [pk_us, hxv']
        rfl
      · exact lr_hx (fun j hj => ⟨pk_un (Nat.ne_of_lt hj), pk_un (Nat.ne_of_lt hj)⟩) (Nat.le_succ _) hlc
    · have n9 : o ≠ 9 := fun z => by subst z; exact absurd h9 (by decide)
      obtain ⟨r, rfl⟩ := hp_fb hfit h9 h13''
      obtain ⟨y, vs, rfl, hyv, hx⟩ := xs_c hxs
      obtain ⟨x, vs, rfl, hxv, hx'⟩ := xs_c hx
      have hxv' : x = [a_values (T * 6 + q + vs.length)] := hxv
      have hyv' : y = [a_values (T * 6 + q + (vs.length + 1))] := hyv
      simp only [List.length_cons] at hlen hk6 hsp
      rw [show T * 6 + q + (vs.length + 1) = T * 6 + (q + vs.length + 1) by omega] at hyv'
      rw [show T * 6 + q + vs.length = T * 6 + (q + vs.length) by omega] at hxv'
      refine xl_ar h9 h13'' hT (h := q + vs.length) (by omega) hsp (hp_lt hq' (by omega) (by omega)) (hQ' _ (hQ _ ?_))
      rcases ho4 with rfl | rfl | rfl | rfl
      all_goals
        refine fin false _ r vs _ B a_head a_tail rfl rfl hx' (fun _ _ => ⟨rfl, rfl⟩) (Nat.le_refl _) (fun _ => rfl) (fun z => absurd z n9) hh0 ht0 ?_
        rw [hxv', hyv']
        rfl
  · intro h14; subst h14; exact absurd h13 (by decide)
  · intro h15; subst h15; exact absurd h13 (by decide)
  · intro h13' _ _; exact absurd h13' (Int32.not_lt.mpr h13)
end
end
section
/-- what every step inside frame T keeps -/
def xK (T B : Nat) (d d' : DX) : Prop := match d, d' with
  | (f_cells, f_top, f_nextF, f_nextN, f_nextXs, f_nextYs, f_holePos, f_holeMul, f_holeAdd, f_holeFirst, f_holeLast, f_running, f_ending, f_entered, f_deepest, a_head, a_tail, a_fn, a_pc, a_argN, a_argXs, a_argYs, a_sp, a_values, a_mul, a_add, a_first, a_last), (f_cells', f_top', f_nextF', f_nextN', f_nextXs', f_nextYs', f_holePos', f_holeMul', f_holeAdd', f_holeFirst', f_holeLast', f_running', f_ending', f_entered', f_deepest', a_head', a_tail', a_fn', a_pc', a_argN', a_argXs', a_argYs', a_sp', a_values', a_mul', a_add', a_first', a_last') => a_fn' = a_fn ∧ a_argN' = a_argN ∧ a_argXs' = a_argXs ∧ a_argYs' = a_argYs ∧ a_mul' = a_mul ∧ a_add' = a_add ∧ a_first' = a_first ∧ a_last' = a_last ∧
    (∀ j, j ≠ T → a_pc' j = a_pc j ∧ a_sp' j = a_sp j) ∧ (∀ j, j < T * 6 → a_values' j = a_values j) ∧ hp_hx B a_head a_tail a_head' a_tail'
def x_nx (d : DX) : Int32 × Int32 × Int32 × Int32 := match d with
  | (f_cells, f_top, f_nextF, f_nextN, f_nextXs, f_nextYs, f_holePos, f_holeMul, f_holeAdd, f_holeFirst, f_holeLast, f_running, f_ending, f_entered, f_deepest, a_head, a_tail, a_fn, a_pc, a_argN, a_argXs, a_argYs, a_sp, a_values, a_mul, a_add, a_first, a_last) => (f_nextF, f_nextN, f_nextXs, f_nextYs)
def xZ (d : DX) : Prop := match d with
  | (f_cells, f_top, f_nextF, f_nextN, f_nextXs, f_nextYs, f_holePos, f_holeMul, f_holeAdd, f_holeFirst, f_holeLast, f_running, f_ending, f_entered, f_deepest, a_head, a_tail, a_fn, a_pc, a_argN, a_argXs, a_argYs, a_sp, a_values, a_mul, a_add, a_first, a_last) => a_head 0 = 0 ∧ a_tail 0 = 0
theorem xW_K {T q B : Nat} {d d' : DX} (h : xW T q B d d') : xK T B d d' ∧ x_nx d' = x_nx d := by
  obtain ⟨f_cells, f_top, f_nextF, f_nextN, f_nextXs, f_nextYs, f_holePos, f_holeMul, f_holeAdd, f_holeFirst, f_holeLast, f_running, f_ending, f_entered, f_deepest, a_head, a_tail, a_fn, a_pc, a_argN, a_argXs, a_argYs, a_sp, a_values, a_mul, a_add, a_first, a_last⟩ := d
  obtain ⟨f_cells', f_top', f_nextF', f_nextN', f_nextXs', f_nextYs', f_holePos', f_holeMul', f_holeAdd', f_holeFirst', f_holeLast', f_running', f_ending', f_entered', f_deepest', a_head', a_tail', a_fn', a_pc', a_argN', a_argXs', a_argYs', a_sp', a_values', a_mul', a_add', a_first', a_last'⟩ := d'
  obtain ⟨rfl, rfl, rfl, rfl, rfl, rfl, rfl, rfl, rfl, rfl, rfl, rfl, rfl, rfl, rfl, rfl, rfl, h1, h2, h3⟩ := h
  exact ⟨⟨rfl, rfl, rfl, rfl, rfl, rfl, rfl, rfl, h1, fun j hj => h2 j (by omega), h3⟩, rfl⟩
theorem xK_R {T B B0 L : Nat} {d d' : DX} (h : xK T B d d') (hB : B0 ≤ B) : xR T B0 L d d' := by
  obtain ⟨f_cells, f_top, f_nextF, f_nextN, f_nextXs, f_nextYs, f_holePos, f_holeMul, f_holeAdd, f_holeFirst, f_holeLast, f_running, f_ending, f_entered, f_deepest, a_head, a_tail, a_fn, a_pc, a_argN, a_argXs, a_argYs, a_sp, a_values, a_mul, a_add, a_first, a_last⟩ := d
  obtain ⟨f_cells', f_top', f_nextF', f_nextN', f_nextXs', f_nextYs', f_holePos', f_holeMul', f_holeAdd', f_holeFirst', f_holeLast', f_running', f_ending', f_entered', f_deepest', a_head', a_tail', a_fn', a_pc', a_argN', a_argXs', a_argYs', a_sp', a_values', a_mul', a_add', a_first', a_last'⟩ := d'
  obtain ⟨rfl, rfl, rfl, rfl, rfl, rfl, rfl, rfl, h1, h2, h3⟩ := h
  exact ⟨fun j hj => ⟨rfl, (h1 j (by omega)).1, rfl, rfl, rfl, (h1 j (by omega)).2, rfl, rfl, rfl, rfl⟩, h2, fun x hx => ⟨(h3 x (by omega)).1, fun _ => (h3 x (by omega)).2⟩⟩
theorem xK_P {T B B0 B' : Nat} {d d' : DX} {m a : Int32} {ch : List Int32} {lo p L : Nat} (h : xK T B d d') (hB : B0 ≤ B) (hB' : B0 ≤ B') (hP : xP T m a ch lo B0 p L d) : xP T m a ch lo B' p L d' := by
  obtain ⟨f_cells, f_top, f_nextF, f_nextN, f_nextXs, f_nextYs, f_holePos, f_holeMul, f_holeAdd, f_holeFirst, f_holeLast, f_running, f_ending, f_entered, f_deepest, a_head, a_tail, a_fn, a_pc, a_argN, a_argXs, a_argYs, a_sp, a_values, a_mul, a_add, a_first, a_last⟩ := d
  obtain ⟨f_cells', f_top', f_nextF', f_nextN', f_nextXs', f_nextYs', f_holePos', f_holeMul', f_holeAdd', f_holeFirst', f_holeLast', f_running', f_ending', f_entered', f_deepest', a_head', a_tail', a_fn', a_pc', a_argN', a_argXs', a_argYs', a_sp', a_values', a_mul', a_add', a_first', a_last'⟩ := d'
  obtain ⟨rfl, rfl, rfl, rfl, rfl, rfl, rfl, rfl, h1, h2, h3⟩ := h
  obtain ⟨p1, p2, p3, p4, p5⟩ := hP
  exact ⟨p1, p2, p3, p4, sg_hx (B := B0) (fun x hx => h3 x (by omega)) hB' p5⟩
theorem xK_N {T B B0 : Nat} {d d' : DX} {g : Nat} {nv : Int32} {xs ys : List Int32} {A : Nat → Prop} {L : Nat} (h : xK T B d d') (hx : x_nx d' = x_nx d) (hB : B0 ≤ B) (hN : xN g nv xs ys (hp_V A L B0) d) : xN g nv xs ys (hp_V A L B0) d' := by
  obtain ⟨f_cells, f_top, f_nextF, f_nextN, f_nextXs, f_nextYs, f_holePos, f_holeMul, f_holeAdd, f_holeFirst, f_holeLast, f_running, f_ending, f_entered, f_deepest, a_head, a_tail, a_fn, a_pc, a_argN, a_argXs, a_argYs, a_sp, a_values, a_mul, a_add, a_first, a_last⟩ := d
  obtain ⟨f_cells', f_top', f_nextF', f_nextN', f_nextXs', f_nextYs', f_holePos', f_holeMul', f_holeAdd', f_holeFirst', f_holeLast', f_running', f_ending', f_entered', f_deepest', a_head', a_tail', a_fn', a_pc', a_argN', a_argXs', a_argYs', a_sp', a_values', a_mul', a_add', a_first', a_last'⟩ := d'
  obtain ⟨rfl, rfl, rfl, rfl, rfl, rfl, rfl, rfl, h1, h2, h3⟩ := h
  have e1 : f_nextF' = f_nextF := congrArg (fun z => z.1) hx
  have e2 : f_nextN' = f_nextN := congrArg (fun z => z.2.1) hx
  have e3 : f_nextXs' = f_nextXs := congrArg (fun z => z.2.2.1) hx
  have e4 : f_nextYs' = f_nextYs := congrArg (fun z => z.2.2.2) hx
  subst e1 e2 e3 e4
  obtain ⟨p1, p2, ⟨c1, p3, p4⟩, ⟨c2, p5, p6⟩⟩ := hN
  have h3' : hp_hx B0 a_head a_tail a_head' a_tail' := fun x hx => h3 x (by omega)
  exact ⟨p1, p2, ⟨c1, p3, lr_hx h3' (Nat.le_refl _) p4⟩, ⟨c2, p5, lr_hx h3' (Nat.le_refl _) p6⟩⟩
section
variable {f_callLimit : Int32} {f_depthLimit : Int32} {f_draft : Int32} {f_height : Int32} {f_guarded : Int32} {f_consCount : Int32} {f_outKind : Int32} {f_outValue : Int32} {f_outCalls : Int32} {f_outPeak : Int32} {a_ops : Nat → Int32} {a_args : Nat → Int32} {a_passed : Nat → Int32} {a_length : Nat → Int32} {a_heldCount : Nat → Int32} {a_kinds : Nat → Int32} {a_items : Nat → Int32} {a_itemCount : Nat → Int32} {a_outList : Nat → Int32} {post : Int32 → SX → Prop} {CL DL : Nat}
/-- a put off word: the missing value is its right operand -/
theorem xs_defR {s T f pc n h e dp B lo : Nat} {nv : Int32} {xs ys : List Int32} {o arg : Int32} {kb : List Bool} {bl : List (List Int32)} {x m a : Int32} {ch : List Int32} {A : Nat → Prop} {L : Nat} {d : DX}
    (hF : xF T f pc nv xs ys e dp B (hp_V A L B) d) (hS : xS T (h + 2) [] [] (hp_V A L B) d) (hU : xU T (false :: kb) ([x] :: bl) (hp_V A L B) d) (hH : xH (h + 1) m a ch lo B d) (hbl : bl.length = h)
    (hs : s < 4096) (hT : T < 16) (hf : f < 4) (hp : pc < n) (hn : n ≤ 48) (hl : a_length f = nI n) (ho : a_ops (f * 48 + pc) = o) (ho4 : o = 9 ∨ o = 10 ∨ o = 11 ∨ o = 12) (hh : h + 1 < 6) (hlo : 0 < lo) (hloB : lo ≤ B) (hB : o = 9 → B < 225)
    (K : ∀ d' B' m' a' ch', (o ≠ 9 → B' = B) → (o = 9 → B' = B + 1) → (∀ k w, (o = 9 → k = true) → (o ≠ 9 → k = false) → hp_ap o arg nv xs ys (hp_ho k m a ch w :: [x] :: bl) = hp_ho k m' a' ch' w :: bl) →
      xF T f (pc + 1) nv xs ys e dp B' (hp_V A L B') d' → xS T (h + 1) [] [] (hp_V A L B') d' → xU T kb bl (hp_V A L B') d' → xH h m' a' ch' lo B' d' → xK T B d d' → x_nx d' = x_nx d → xL post (s + 1) (xM (nI CL) (nI DL) f_draft f_height f_guarded f_consCount f_outKind f_outValue f_outCalls f_outPeak a_ops a_args a_passed a_length a_heldCount a_kinds a_items a_itemCount a_outList d')) : xL post s (xM (nI CL) (nI DL) f_draft f_height f_guarded f_consCount f_outKind f_outValue f_outCalls f_outPeak a_ops a_args a_passed a_length a_heldCount a_kinds a_items a_itemCount a_outList d) := by
  obtain ⟨f_cells, f_top, f_nextF, f_nextN, f_nextXs, f_nextYs, f_holePos, f_holeMul, f_holeAdd, f_holeFirst, f_holeLast, f_running, f_ending, f_entered, f_deepest, a_head, a_tail, a_fn, a_pc, a_argN, a_argXs, a_argYs, a_sp, a_values, a_mul, a_add, a_first, a_last⟩ := d
  obtain ⟨rfl, hfn, hpc, hN, ⟨cx, hcx, hlx⟩, ⟨cy, hcy, hly⟩, rfl, rfl, rfl, rfl, rfl, hh0, ht0⟩ := hF
  have hsp : a_sp T = nI (h + 2) := hS.1
  obtain ⟨hx, hU⟩ := hU
  have hx' : [x] = [a_values (T * 6 + bl.length)] := hx
  rw [hbl] at hx'
  have hx2 : x = a_values (T * 6 + h) := by injection hx'
  obtain ⟨rfl, rfl, rfl, p, l, rfl, rfl, hsg⟩ := hH
  have fin : ∀ (m' a' : Int32) (ch' : List Int32) (B' p' l' : Nat) (hd' tl' : Nat → Int32), hp_hx B a_head a_tail hd' tl' → B ≤ B' → (o ≠ 9 → B' = B) → (o = 9 → B' = B + 1) → hd' 0 = 0 → tl' 0 = 0 →
      (∀ k w, (o = 9 → k = true) → (o ≠ 9 → k = false) → hp_ap o arg nv xs ys (hp_ho k f_holeMul f_holeAdd ch w :: [x] :: bl) = hp_ho k m' a' ch' w :: bl) → hp_sg hd' tl' (hp_W lo B') l' p' ch' →
      xL post (s + 1) (nI CL, nI DL, f_draft, f_height, f_guarded, f_consCount, f_outKind, f_outValue, f_outCalls, f_outPeak, nI B', nI T, f_nextF, f_nextN, f_nextXs, f_nextYs, nI h, m', a', nI p', nI l', 1, 0, nI e, nI dp, a_ops, a_args, a_passed, a_length, a_heldCount, a_kinds, a_items, a_itemCount, a_outList, hd', tl', a_fn, upd a_pc T (nI (pc + 1)), a_argN, a_argXs, a_argYs, upd (upd a_sp T (nI h)) T (nI (h + 1)), upd a_values (T * 6 + h) 0, a_mul, a_add, a_first, a_last) := by
    intro m' a' ch' B' p' l' hd' tl' hhx hBB b1 b2 z1 z2 hap hsg'
    have hmo : ∀ c l, hp_lr a_head a_tail (hp_V A L B) c l → hp_lr hd' tl' (hp_V A L B') c l := fun c l hl => lr_hx hhx hBB hl
    refine K (nI B', nI T, f_nextF, f_nextN, f_nextXs, f_nextYs, nI h, m', a', nI p', nI l', 1, 0, nI e, nI dp, hd', tl', a_fn, upd a_pc T (nI (pc + 1)), a_argN, a_argXs, a_argYs, upd (upd a_sp T (nI h)) T (nI (h + 1)), upd a_values (T * 6 + h) 0, a_mul, a_add, a_first, a_last) B' m' a' ch' b1 b2 hap ?_ ?_ ?_ ?_ ?_ rfl
    · exact ⟨rfl, hfn, pk_us, hN, ⟨cx, hcx, hmo _ _ hlx⟩, ⟨cy, hcy, hmo _ _ hly⟩, rfl, rfl, rfl, rfl, rfl, z1, z2⟩
    · exact ⟨pk_us, trivial⟩
    · exact xs_mo hmo (fun j hj => pk_un (by omega)) hU
    · exact ⟨rfl, rfl, rfl, p', l', rfl, rfl, hsg'⟩
    · exact ⟨rfl, rfl, rfl, rfl, rfl, rfl, rfl, rfl, fun j hj => ⟨pk_un hj, by rw [pk_uu]; exact pk_un hj⟩, fun j hj => pk_un (by omega), hhx⟩
  refine xd_go hs ?_
  intro Q hQ
  have g8 : 8 < o := by rcases ho4 with rfl | rfl | rfl | rfl <;> decide
  have g13 : ¬ 13 < o := by rcases ho4 with rfl | rfl | rfl | rfl <;> decide
  refine xd_dis hT hf hp hn hfn hpc hl ho (fun z => ?_) (fun _ z => ?_) ?_ (fun z => ?_) (fun z => ?_) (fun z => ?_)
  · exact absurd (Int32.lt_trans (by decide) g8) z
  · exact absurd g8 z
  · intro _ _ Q' hQ'
    refine xl_hbin hT hh hsp (Or.inr rfl) ?_
    intro Q2 hQ2
    rw [if_neg (by omega), if_neg (by omega)]
    unfold wpX_defer
    dsimp only
    rcases ho4 with rfl | rfl | rfl | rfl
    · refine br_t rfl ?_
      refine xl_new (hB rfl) ?_
      have hfin := fin f_holeMul f_holeAdd (a_values (T * 6 + h) :: ch) (B + 1) B (if l = 0 then B else l) _ _ (fun j hj => ⟨pk_un (Nat.ne_of_lt hj), pk_un (Nat.ne_of_lt hj)⟩) (Nat.le_succ _) (fun z => absurd rfl z) (fun _ => rfl) (by rw [pk_un (by omega)]; exact hh0) (by rw [pk_un (by omega)]; exact ht0) (fun k w k1 k2 => by rw [k1 rfl, hx2]; rfl) (sg_pu hloB hlo hsg)
      have hl225 := (sg_b (by omega) hsg).1
      have hB225 := hB rfl
      refine br_c (fun z => ?_) (fun z => ?_)
      · have z' : nI l = nI 0 := z
        rw [nI_eq (by omega) (by omega)] at z'
        rw [if_pos z'] at hfin
        exact hQ2 _ _ _ _ _ _ _ _ _ _ _ 0 _ _ _ _ _ _ _ _ _ _ _ _ _ _ _ _ _ _ _ _ _ _ _ _ _ _ _ _ _ _ _ _ _ _ _ pk_us (hQ' _ (hQ _ hfin))
      · have z' : ¬ nI l = nI 0 := z
        rw [nI_eq (by omega) (by omega)] at z'
        rw [if_neg z'] at hfin
        exact hQ2 _ _ _ _ _ _ _ _ _ _ _ 0 _ _ _ _ _ _ _ _ _ _ _ _ _ _ _ _ _ _ _ _ _ _ _ _ _ _ _ _ _ _ _ _ _ _ _ pk_us (hQ' _ (hQ _ hfin))
    · refine br_f (by decide) (br_t rfl (nm_e ?_))
      exact hQ2 _ _ _ _ _ _ _ _ _ _ _ 0 _ _ _ _ _ _ _ _ _ _ _ _ _ _ _ _ _ _ _ _ _ _ _ _ _ _ _ _ _ _ _ _ _ _ _ pk_us (hQ' _ (hQ _ (fin _ _ ch B p l _ _ (fun _ _ => ⟨rfl, rfl⟩) (Nat.le_refl _) (fun _ => rfl) (fun z => absurd z (by decide)) hh0 ht0 (fun k w k1 k2 => by
        rw [k2 (by decide), ← hx2]
        show [x + (f_holeMul * w.headD 0 + f_holeAdd)] :: bl = [f_holeMul * w.headD 0 + (f_holeAdd + x)] :: bl
        exact congrArg (fun z => [z] :: bl) (by grind)) hsg)))
    · refine br_f (by decide) (br_f (by decide) (br_f (by decide) (br_t rfl (nm_e (nm_e ?_)))))
      exact hQ2 _ _ _ _ _ _ _ _ _ _ _ 0 _ _ _ _ _ _ _ _ _ _ _ _ _ _ _ _ _ _ _ _ _ _ _ _ _ _ _ _ _ _ _ _ _ _ _ pk_us (hQ' _ (hQ _ (fin _ _ ch B p l _ _ (fun _ _ => ⟨rfl, rfl⟩) (Nat.le_refl _) (fun _ => rfl) (fun z => absurd z (by decide)) hh0 ht0 (fun k w k1 k2 => by
        rw [k2 (by decide), ← hx2]
        show [x - (f_holeMul * w.headD 0 + f_holeAdd)] :: bl = [-f_holeMul * w.headD 0 + (x - f_holeAdd)] :: bl
        exact congrArg (fun z => [z] :: bl) (by grind)) hsg)))
    · refine br_f (by decide) (br_f (by decide) (br_t rfl (nm_e (nm_e ?_))))
      exact hQ2 _ _ _ _ _ _ _ _ _ _ _ 0 _ _ _ _ _ _ _ _ _ _ _ _ _ _ _ _ _ _ _ _ _ _ _ _ _ _ _ _ _ _ _ _ _ _ _ pk_us (hQ' _ (hQ _ (fin _ _ ch B p l _ _ (fun _ _ => ⟨rfl, rfl⟩) (Nat.le_refl _) (fun _ => rfl) (fun z => absurd z (by decide)) hh0 ht0 (fun k w k1 k2 => by
        rw [k2 (by decide), ← hx2]
        show [x * (f_holeMul * w.headD 0 + f_holeAdd)] :: bl = [f_holeMul * x * w.headD 0 + f_holeAdd * x] :: bl
        exact congrArg (fun z => [z] :: bl) (by grind)) hsg)))
  · rcases ho4 with rfl | rfl | rfl | rfl <;> exact absurd z (by decide)
  · rcases ho4 with rfl | rfl | rfl | rfl <;> exact absurd z (by decide)
  · exact absurd z g13
/-- a put off word: the missing value is its left operand -/
theorem xs_defL {s T f pc n h e dp B lo : Nat} {nv : Int32} {xs ys : List Int32} {o arg : Int32} {kb : List Bool} {bl : List (List Int32)} {y m a : Int32} {ch : List Int32} {A : Nat → Prop} {L : Nat} {d : DX}
    (hF : xF T f pc nv xs ys e dp B (hp_V A L B) d) (hS : xS T (h + 1) [false] [[y]] (hp_V A L B) d) (hU : xU T kb bl (hp_V A L B) d) (hH : xH h m a ch lo B d) (hbl : bl.length = h)
    (hs : s < 4096) (hT : T < 16) (hf : f < 4) (hp : pc < n) (hn : n ≤ 48) (hl : a_length f = nI n) (ho : a_ops (f * 48 + pc) = o) (ho4 : o = 10 ∨ o = 11 ∨ o = 12) (hh : h + 1 < 6)
    (K : ∀ d' m' a', (∀ w, hp_ap o arg nv xs ys ([y] :: hp_ho false m a ch w :: bl) = hp_ho false m' a' ch w :: bl) →
      xF T f (pc + 1) nv xs ys e dp B (hp_V A L B) d' → xS T (h + 1) [] [] (hp_V A L B) d' → xU T kb bl (hp_V A L B) d' → xH h m' a' ch lo B d' → xK T B d d' → x_nx d' = x_nx d → xL post (s + 1) (xM (nI CL) (nI DL) f_draft f_height f_guarded f_consCount f_outKind f_outValue f_outCalls f_outPeak a_ops a_args a_passed a_length a_heldCount a_kinds a_items a_itemCount a_outList d')) : xL post s (xM (nI CL) (nI DL) f_draft f_height f_guarded f_consCount f_outKind f_outValue f_outCalls f_outPeak a_ops a_args a_passed a_length a_heldCount a_kinds a_items a_itemCount a_outList d) := by
  obtain ⟨f_cells, f_top, f_nextF, f_nextN, f_nextXs, f_nextYs, f_holePos, f_holeMul, f_holeAdd, f_holeFirst, f_holeLast, f_running, f_ending, f_entered, f_deepest, a_head, a_tail, a_fn, a_pc, a_argN, a_argXs, a_argYs, a_sp, a_values, a_mul, a_add, a_first, a_last⟩ := d
  obtain ⟨rfl, hfn, hpc, hN, ⟨cx, hcx, hlx⟩, ⟨cy, hcy, hly⟩, rfl, rfl, rfl, rfl, rfl, hh0, ht0⟩ := hF
  have hsp : a_sp T = nI (h + 2) := hS.1
  have hy' : [y] = [a_values (T * 6 + (h + 1))] := hS.2.1
  have hy2 : y = a_values (T * 6 + (h + 1)) := by injection hy'
  obtain ⟨rfl, rfl, rfl, p, l, rfl, rfl, hsg⟩ := hH
  have fin : ∀ (m' a' : Int32), (∀ w, hp_ap o arg nv xs ys ([y] :: hp_ho false f_holeMul f_holeAdd ch w :: bl) = hp_ho false m' a' ch w :: bl) →
      xL post (s + 1) (nI CL, nI DL, f_draft, f_height, f_guarded, f_consCount, f_outKind, f_outValue, f_outCalls, f_outPeak, nI B, nI T, f_nextF, f_nextN, f_nextXs, f_nextYs, nI h, m', a', nI p, nI l, 1, 0, nI e, nI dp, a_ops, a_args, a_passed, a_length, a_heldCount, a_kinds, a_items, a_itemCount, a_outList, a_head, a_tail, a_fn, upd a_pc T (nI (pc + 1)), a_argN, a_argXs, a_argYs, upd (upd a_sp T (nI h)) T (nI (h + 1)), upd a_values (T * 6 + h) 0, a_mul, a_add, a_first, a_last) := by
    intro m' a' hap
    refine K (nI B, nI T, f_nextF, f_nextN, f_nextXs, f_nextYs, nI h, m', a', nI p, nI l, 1, 0, nI e, nI dp, a_head, a_tail, a_fn, upd a_pc T (nI (pc + 1)), a_argN, a_argXs, a_argYs, upd (upd a_sp T (nI h)) T (nI (h + 1)), upd a_values (T * 6 + h) 0, a_mul, a_add, a_first, a_last) m' a' hap ?_ ?_ ?_ ?_ ?_ rfl
    · exact ⟨rfl, hfn, pk_us, hN, ⟨cx, hcx, hlx⟩, ⟨cy, hcy, hly⟩, rfl, rfl, rfl, rfl, rfl, hh0, ht0⟩
    · exact ⟨pk_us, trivial⟩
    · exact xs_mo (fun _ _ q => q) (fun j hj => pk_un (by omega)) hU
    · exact ⟨rfl, rfl, rfl, p, l, rfl, rfl, hsg⟩
    · exact ⟨rfl, rfl, rfl, rfl, rfl, rfl, rfl, rfl, fun j hj => ⟨pk_un hj, by rw [pk_uu]; exact pk_un hj⟩, fun j hj => pk_un (by omega), fun _ _ => ⟨rfl, rfl⟩⟩
  refine xd_go hs ?_
  intro Q hQ
  have g8 : 8 < o := by rcases ho4 with rfl | rfl | rfl <;> decide
  have g13 : ¬ 13 < o := by rcases ho4 with rfl | rfl | rfl <;> decide
  refine xd_dis hT hf hp hn hfn hpc hl ho (fun z => ?_) (fun _ z => ?_) ?_ (fun z => ?_) (fun z => ?_) (fun z => ?_)
  · exact absurd (Int32.lt_trans (by decide) g8) z
  · exact absurd g8 z
  · intro _ _ Q' hQ'
    refine xl_hbin hT hh hsp (Or.inl rfl) ?_
    intro Q2 hQ2
    rw [if_pos rfl, if_pos rfl, ← hy2]
    unfold wpX_defer
    dsimp only
    rcases ho4 with rfl | rfl | rfl
    · refine br_f (by decide) (br_t rfl (nm_e ?_))
      exact hQ2 _ _ _ _ _ _ _ _ _ _ _ 0 _ _ _ _ _ _ _ _ _ _ _ _ _ _ _ _ _ _ _ _ _ _ _ _ _ _ _ _ _ _ _ _ _ _ _ pk_us (hQ' _ (hQ _ (fin _ _ (fun w => by
        show [(f_holeMul * w.headD 0 + f_holeAdd) + y] :: bl = [f_holeMul * w.headD 0 + (f_holeAdd + y)] :: bl
        exact congrArg (fun z => [z] :: bl) (by grind)))))
    · refine br_f (by decide) (br_f (by decide) (br_f (by decide) (br_f (by decide) (nm_e ?_))))
      exact hQ2 _ _ _ _ _ _ _ _ _ _ _ 0 _ _ _ _ _ _ _ _ _ _ _ _ _ _ _ _ _ _ _ _ _ _ _ _ _ _ _ _ _ _ _ _ _ _ _ pk_us (hQ' _ (hQ _ (fin _ _ (fun w => by
        show [(f_holeMul * w.headD 0 + f_holeAdd) - y] :: bl = [f_holeMul * w.headD 0 + (f_holeAdd - y)] :: bl
        exact congrArg (fun z => [z] :: bl) (by grind)))))
    · refine br_f (by decide) (br_f (by decide) (br_t rfl (nm_e (nm_e ?_))))
      exact hQ2 _ _ _ _ _ _ _ _ _ _ _ 0 _ _ _ _ _ _ _ _ _ _ _ _ _ _ _ _ _ _ _ _ _ _ _ _ _ _ _ _ _ _ _ _ _ _ _ pk_us (hQ' _ (hQ _ (fin _ _ (fun w => by
        show [(f_holeMul * w.headD 0 + f_holeAdd) * y] :: bl = [f_holeMul * y * w.headD 0 + f_holeAdd * y] :: bl
        exact congrArg (fun z => [z] :: bl) (by grind)))))
  · rcases ho4 with rfl | rfl | rfl <;> exact absurd z (by decide)
  · rcases ho4 with rfl | rfl | rfl <;> exact absurd z (by decide)
  · exact absurd z g13
end
end
section
/-- the record of frame T -/
def xG (T f pc : Nat) (nv : Int32) (xs ys : List Int32) (ks : List Bool) (st : List (List Int32)) (V : Nat → Prop) (d : DX) : Prop := match d with
  | (f_cells, f_top, f_nextF, f_nextN, f_nextXs, f_nextYs, f_holePos, f_holeMul, f_holeAdd, f_holeFirst, f_holeLast, f_running, f_ending, f_entered, f_deepest, a_head, a_tail, a_fn, a_pc, a_argN, a_argXs, a_argYs, a_sp, a_values, a_mul, a_add, a_first, a_last) => a_fn T = nI f ∧ a_pc T = nI pc ∧ a_argN T = nv ∧ (∃ c, a_argXs T = nI c ∧ hp_lr a_head a_tail V c xs) ∧ (∃ c, a_argYs T = nI c ∧ hp_lr a_head a_tail V c ys) ∧ a_sp T = nI st.length ∧ hp_xs a_values (hp_lr a_head a_tail V) (T * 6) ks st
/-- the registers with frame T on top and no missing value -/
def xQ (T e dp B : Nat) (d : DX) : Prop := match d with
  | (f_cells, f_top, f_nextF, f_nextN, f_nextXs, f_nextYs, f_holePos, f_holeMul, f_holeAdd, f_holeFirst, f_holeLast, f_running, f_ending, f_entered, f_deepest, a_head, a_tail, a_fn, a_pc, a_argN, a_argXs, a_argYs, a_sp, a_values, a_mul, a_add, a_first, a_last) => f_top = nI T ∧ f_running = 1 ∧ f_ending = 0 ∧ f_entered = nI e ∧ f_deepest = nI dp ∧ f_cells = nI B ∧ a_head 0 = 0 ∧ a_tail 0 = 0 ∧ f_holePos = -1
def xV (A : Nat → Prop) (B : Nat) (k : Bool) (x : Int32) (v : List Int32) (d : DX) : Prop := match d with
  | (f_cells, f_top, f_nextF, f_nextN, f_nextXs, f_nextYs, f_holePos, f_holeMul, f_holeAdd, f_holeFirst, f_holeLast, f_running, f_ending, f_entered, f_deepest, a_head, a_tail, a_fn, a_pc, a_argN, a_argXs, a_argYs, a_sp, a_values, a_mul, a_add, a_first, a_last) => hp_vr (hp_lr a_head a_tail (hp_V A 0 B)) k x v
def xE (f_callLimit : Int32) (f_depthLimit : Int32) (f_draft : Int32) (f_height : Int32) (f_guarded : Int32) (f_consCount : Int32) (f_outKind : Int32) (f_outValue : Int32) (f_outCalls : Int32) (f_outPeak : Int32) (a_ops : Nat → Int32) (a_args : Nat → Int32) (a_passed : Nat → Int32) (a_length : Nat → Int32) (a_heldCount : Nat → Int32) (a_kinds : Nat → Int32) (a_items : Nat → Int32) (a_itemCount : Nat → Int32) (a_outList : Nat → Int32) (post : Int32 → SX → Prop) (s : Nat) (k x : Int32) (d : DX) : Prop := match d with
  | (f_cells, f_top, f_nextF, f_nextN, f_nextXs, f_nextYs, f_holePos, f_holeMul, f_holeAdd, f_holeFirst, f_holeLast, f_running, f_ending, f_entered, f_deepest, a_head, a_tail, a_fn, a_pc, a_argN, a_argXs, a_argYs, a_sp, a_values, a_mul, a_add, a_first, a_last) => ∀ Q : SX → Prop, (∀ u, xL post (s + 1) u → Q u) → wX_finish_83 Q k x f_callLimit f_depthLimit f_draft f_height f_guarded f_consCount f_outKind f_outValue f_outCalls f_outPeak f_cells f_top f_nextF f_nextN f_nextXs f_nextYs f_holePos f_holeMul f_holeAdd f_holeFirst f_holeLast f_running f_ending f_entered f_deepest a_ops a_args a_passed a_length a_heldCount a_kinds a_items a_itemCount a_outList a_head a_tail a_fn a_pc a_argN a_argXs a_argYs a_sp a_values a_mul a_add a_first a_last
def hp_A (A : Nat → Prop) (L : Nat) (z : Nat) : Prop := A z ∨ z = L
theorem V_in {A : Nat → Prop} {L B x : Nat} (h : hp_V A L B x) : hp_V (hp_A A L) 0 B x := ⟨h.1, h.2.1, fun z => z.elim h.2.2.1 h.2.2.2, Nat.ne_of_gt h.1⟩
theorem V_out {A : Nat → Prop} {L B x : Nat} (h : hp_V (hp_A A L) 0 B x) : hp_V A L B x := ⟨h.1, h.2.1, fun z => h.2.2.1 (Or.inl z), fun z => h.2.2.1 (Or.inr z)⟩
/-- the frames below and the old cells outlive a held call -/
theorem xG_R {T f pc B B' : Nat} {nv : Int32} {xs ys : List Int32} {ks : List Bool} {st : List (List Int32)} {A : Nat → Prop} {L : Nat} {m a : Int32} {ch : List Int32} {lo p : Nat} {d d' : DX} (hG : xG T f pc nv xs ys ks st (hp_V A L B) d) (hP : xP T m a ch lo B p L d) (hR : xR (T + 1) B 0 d d') (hz : xZ d) (hz' : xZ d') (hB : B ≤ B') (hst : st.length ≤ 6) :
    xG T f pc nv xs ys ks st (hp_V A L B') d' ∧ xP T m a ch lo B' p L d' ∧ (∀ B0 L0, B0 ≤ B → xR T B0 L0 d d') := by
  obtain ⟨f_cells, f_top, f_nextF, f_nextN, f_nextXs, f_nextYs, f_holePos, f_holeMul, f_holeAdd, f_holeFirst, f_holeLast, f_running, f_ending, f_entered, f_deepest, a_head, a_tail, a_fn, a_pc, a_argN, a_argXs, a_argYs, a_sp, a_values, a_mul, a_add, a_first, a_last⟩ := d
  obtain ⟨f_cells', f_top', f_nextF', f_nextN', f_nextXs', f_nextYs', f_holePos', f_holeMul', f_holeAdd', f_holeFirst', f_holeLast', f_running', f_ending', f_entered', f_deepest', a_head', a_tail', a_fn', a_pc', a_argN', a_argXs', a_argYs', a_sp', a_values', a_mul', a_add', a_first', a_last'⟩ := d'
  obtain ⟨r1, r2, r3⟩ := hR
  obtain ⟨g1, g2, g3, ⟨c1, g4, g5⟩, ⟨c2, g6, g7⟩, g8, g9⟩ := hG
  obtain ⟨p1, p2, p3, p4, p5⟩ := hP
  obtain ⟨t1, t2, t3, t4, t5, t6, t7, t8, t9, t10⟩ := r1 T (Nat.lt_succ_self T)
  have hz2 : a_tail 0 = 0 := hz.2
  have hz2' : a_tail' 0 = 0 := hz'.2
  have hhx : hp_hx B a_head a_tail a_head' a_tail' := by
    intro x hx
    refine ⟨(r3 x hx).1, ?_⟩
    by_cases e : x = 0
    · rw [e, hz2, hz2']
    · exact (r3 x hx).2 e
  have hmo : ∀ c l, hp_lr a_head a_tail (hp_V A L B) c l → hp_lr a_head' a_tail' (hp_V A L B') c l := fun c l hl => lr_hx hhx hB hl
  refine ⟨⟨t1.trans g1, t2.trans g2, t3.trans g3, ⟨c1, t4.trans g4, hmo _ _ g5⟩, ⟨c2, t5.trans g6, hmo _ _ g7⟩, t6.trans g8, xs_mo hmo (fun j hj => r2 j (by omega)) g9⟩,
    ⟨t7.trans p1, t8.trans p2, t9.trans p3, t10.trans p4, sg_hx hhx hB p5⟩, fun B0 L0 hB0 => ⟨fun j hj => r1 j (by omega), fun j hj => r2 j (by omega), fun x hx => ⟨(hhx x (by omega)).1, fun _ => (hhx x (by omega)).2⟩⟩⟩
section
variable {f_callLimit : Int32} {f_depthLimit : Int32} {f_draft : Int32} {f_height : Int32} {f_guarded : Int32} {f_consCount : Int32} {f_outKind : Int32} {f_outValue : Int32} {f_outCalls : Int32} {f_outPeak : Int32} {a_ops : Nat → Int32} {a_args : Nat → Int32} {a_passed : Nat → Int32} {a_length : Nat → Int32} {a_heldCount : Nat → Int32} {a_kinds : Nat → Int32} {a_items : Nat → Int32} {a_itemCount : Nat → Int32} {a_outList : Nat → Int32} {post : Int32 → SX → Prop} {CL DL : Nat}
theorem xs_callP {s T f pc n h e dp B g : Nat} {nv : Int32} {xs ys : List Int32} {kr : List Bool} {r : List (List Int32)} {n0 : Int32} {x y : List Int32} {A : Nat → Prop} {L : Nat} {d : DX}
    (hF : xF T f pc nv xs ys e dp B (hp_V A L B) d) (hS : xS T 0 (true :: true :: false :: kr) (y :: x :: [n0] :: r) (hp_V A L B) d) (hr : r.length = h) (hh : h + 3 ≤ 6)
    (hs : s < 4096) (hT : T < 16) (hf : f < 4) (hp : pc < n) (hn : n ≤ 48) (hl : a_length f = nI n) (ho : a_ops (f * 48 + pc) = 14) (hg : a_args (f * 48 + pc) = nI g) (hpas : a_passed (f * 48 + pc) = 1)
    (K : ∀ d', xF T f (pc + 1) nv xs ys e dp B (hp_V A L B) d' → xS T (h + 1) [] [] (hp_V A L B) d' → xU T kr r (hp_V A L B) d' → xH h 1 0 [] B B d' → xN g n0 x y (hp_V A L B) d' → xK T B d d' → xL post (s + 1) (xM (nI CL) (nI DL) f_draft f_height f_guarded f_consCount f_outKind f_outValue f_outCalls f_outPeak a_ops a_args a_passed a_length a_heldCount a_kinds a_items a_itemCount a_outList d')) : xL post s (xM (nI CL) (nI DL) f_draft f_height f_guarded f_consCount f_outKind f_outValue f_outCalls f_outPeak a_ops a_args a_passed a_length a_heldCount a_kinds a_items a_itemCount a_outList d) := by
  obtain ⟨f_cells, f_top, f_nextF, f_nextN, f_nextXs, f_nextYs, f_holePos, f_holeMul, f_holeAdd, f_holeFirst, f_holeLast, f_running, f_ending, f_entered, f_deepest, a_head, a_tail, a_fn, a_pc, a_argN, a_argXs, a_argYs, a_sp, a_values, a_mul, a_add, a_first, a_last⟩ := d
  obtain ⟨rfl, hfn, hpc, hN, ⟨cx, hcx, hlx⟩, ⟨cy, hcy, hly⟩, rfl, rfl, rfl, rfl, rfl, hh0, ht0⟩ := hF
  obtain ⟨hsp, ⟨c3, hc3, hl3⟩, ⟨c2, hc2, hl2⟩, hn0, hxs⟩ := hS
  have hn0' : [n0] = [a_values (T * 6 + 0 + r.length)] := hn0
  have hn1 : n0 = a_values (T * 6 + 0 + r.length) := by injection hn0'
  simp only [List.length_cons, hr, Nat.zero_add, Nat.add_zero] at hsp hc3 hc2 hn1
  refine xd_go hs ?_
  intro Q hQ
  refine xd_dis hT hf hp hn hfn hpc hl ho (fun z => absurd (by decide) z) (fun _ z => absurd (by decide) z) (fun _ z => absurd (by decide) z) ?_ (fun z => absurd z (by decide)) (fun _ z => absurd rfl z)
  intro _ Q' hQ'
  refine xl_call hT (h := h) (g := g) (by omega) hsp (by omega) hg ?_ (fun z => absurd (hpas.symm.trans z) (by decide))
  intro _
  refine hQ' _ (hQ _ ?_)
  refine K (nI B, nI T, nI g, a_values (T * 6 + h), a_values (T * 6 + (h + 1)), a_values (T * 6 + (h + 2)), nI h, 1, 0, 0, 0, 1, 0, nI e, nI dp, a_head, a_tail, a_fn, upd a_pc T (nI (pc + 1)), a_argN, a_argXs, a_argYs, upd a_sp T (nI (h + 1)), upd a_values (T * 6 + h) 0, a_mul, a_add, a_first, a_last) ?_ ?_ ?_ ?_ ?_ ?_
  · exact ⟨rfl, hfn, pk_us, hN, ⟨cx, hcx, hlx⟩, ⟨cy, hcy, hly⟩, rfl, rfl, rfl, rfl, rfl, hh0, ht0⟩
  · exact ⟨pk_us, trivial⟩
  · exact xs_mo (fun _ _ q => q) (fun j hj => pk_un (by omega)) hxs
  · exact ⟨rfl, rfl, rfl, 0, 0, rfl, rfl, rfl, rfl⟩
  · exact ⟨rfl, hn1.symm, ⟨c2, hc2, hl2⟩, ⟨c3, hc3, hl3⟩⟩
  · exact ⟨rfl, rfl, rfl, rfl, rfl, rfl, rfl, rfl, fun j hj => ⟨pk_un hj, pk_un hj⟩, fun j hj => pk_un (by omega), fun _ _ => ⟨rfl, rfl⟩⟩
theorem xs_callH {s T f pc n h e dp B g lo p L : Nat} {nv m a : Int32} {xs ys ch : List Int32} {kr : List Bool} {r : List (List Int32)} {n0 : Int32} {x y : List Int32} {A : Nat → Prop} {d : DX}
    (hF : xF T f pc nv xs ys e dp B (hp_V A L B) d) (hS : xS T 0 (true :: true :: false :: kr) (y :: x :: [n0] :: r) (hp_V A L B) d) (hP : xP T m a ch lo B p L d) (hhp : x_hp d = -1) (hr : r.length = h) (hh : h + 3 ≤ 6)
    (hs : s < 4096) (hT : T < 16) (hf : f < 4) (hp : pc < n) (hn : n ≤ 48) (hl : a_length f = nI n) (ho : a_ops (f * 48 + pc) = 14) (hg : a_args (f * 48 + pc) = nI g) (hpas : a_passed (f * 48 + pc) = 0)
    (he64 : e ≤ 64) (hCL : CL ≤ 64) (hDL : DL ≤ 16) (hdp : dp ≤ 16)
    (Kl : CL ≤ e → ∀ d', xZ d' → post (-7) (xM (nI CL) (nI DL) f_draft f_height f_guarded f_consCount f_outKind f_outValue f_outCalls f_outPeak a_ops a_args a_passed a_length a_heldCount a_kinds a_items a_itemCount a_outList d')) (Kd : e < CL → DL < T + 2 → ∀ d', xZ d' → post (-6) (xM (nI CL) (nI DL) f_draft f_height f_guarded f_consCount f_outKind f_outValue f_outCalls f_outPeak a_ops a_args a_passed a_length a_heldCount a_kinds a_items a_itemCount a_outList d'))
    (K : e < CL → ¬ DL < T + 2 → ∀ d', xF (T + 1) g 0 n0 x y (e + 1) (hp_mx dp (T + 2)) B (hp_V (hp_A A L) 0 B) d' → xS (T + 1) 0 [] [] (hp_V (hp_A A L) 0 B) d' → xP (T + 1) 1 0 [] B B 0 0 d' → x_hp d' = -1 →
      xG T f (pc + 1) nv xs ys kr r (hp_V A L B) d' → xP T m a ch lo B p L d' → xR T B L d d' → xZ d' → xL post (s + 1) (xM (nI CL) (nI DL) f_draft f_height f_guarded f_consCount f_outKind f_outValue f_outCalls f_outPeak a_ops a_args a_passed a_length a_heldCount a_kinds a_items a_itemCount a_outList d')) : xL post s (xM (nI CL) (nI DL) f_draft f_height f_guarded f_consCount f_outKind f_outValue f_outCalls f_outPeak a_ops a_args a_passed a_length a_heldCount a_kinds a_items a_itemCount a_outList d) := by
  obtain ⟨f_cells, f_top, f_nextF, f_nextN, f_nextXs, f_nextYs, f_holePos, f_holeMul, f_holeAdd, f_holeFirst, f_holeLast, f_running, f_ending, f_entered, f_deepest, a_head, a_tail, a_fn, a_pc, a_argN, a_argXs, a_argYs, a_sp, a_values, a_mul, a_add, a_first, a_last⟩ := d
  obtain ⟨rfl, hfn, hpc, hN, ⟨cx, hcx, hlx⟩, ⟨cy, hcy, hly⟩, rfl, rfl, rfl, rfl, rfl, hh0, ht0⟩ := hF
  obtain ⟨hsp, ⟨c3, hc3, hl3⟩, ⟨c2, hc2, hl2⟩, hn0, hxs⟩ := hS
  obtain ⟨p1, p2, p3, p4, p5⟩ := hP
  have hhp' : f_holePos = -1 := hhp
  have hn0' : [n0] = [a_values (T * 6 + 0 + r.length)] := hn0
  have hn1 : n0 = a_values (T * 6 + 0 + r.length) := by injection hn0'
  simp only [List.length_cons, hr, Nat.zero_add, Nat.add_zero] at hsp hc3 hc2 hn1
  have hin : ∀ {c l}, hp_lr a_head a_tail (hp_V A L B) c l → hp_lr a_head a_tail (hp_V (hp_A A L) 0 B) c l := fun q => lr_mo (fun _ hx => ⟨V_in hx, rfl, rfl⟩) q
  refine xd_go hs ?_
  intro Q hQ
  refine xd_dis hT hf hp hn hfn hpc hl ho (fun z => absurd (by decide) z) (fun _ z => absurd (by decide) z) (fun _ z => absurd (by decide) z) ?_ (fun z => absurd z (by decide)) (fun _ z => absurd rfl z)
  intro _ Q' hQ'
  refine xl_call hT (h := h) (g := g) (by omega) hsp (by omega) hg (fun z => absurd hpas z) ?_
  intro _ Q2 hQ2
  have e2 : nI T + 2 = nI (T + 1 + 1) := nI_add T 2
  by_cases c1 : CL ≤ e
  · refine xl_ent_long (T := T + 1) e2 c1 he64 (hQ2 _ _ _ _ _ _ _ _ _ _ _ _ _ _ _ _ _ _ _ _ _ _ _ _ _ _ _ _ _ _ _ _ _ _ _ _ _ _ _ _ _ _ _ _ _ _ _ (hQ' _ (hQ _ (xd_stop (by omega) ?_))))
    exact Kl c1 (nI B, nI T, nI g, a_values (T * 6 + h), a_values (T * 6 + (h + 1)), a_values (T * 6 + (h + 2)), f_holePos, f_holeMul, f_holeAdd, f_holeFirst, f_holeLast, 0, -7, nI e, nI dp, a_head, a_tail, a_fn, upd a_pc T (nI (pc + 1)), a_argN, a_argXs, a_argYs, upd a_sp T (nI h), a_values, a_mul, a_add, a_first, a_last) ⟨hh0, ht0⟩
  · have c1' : e < CL := by omega
    by_cases c4 : DL < T + 2
    · refine xl_ent_deep (T := T + 1) e2 c1' hCL c4 (by omega) (hQ2 _ _ _ _ _ _ _ _ _ _ _ _ _ _ _ _ _ _ _ _ _ _ _ _ _ _ _ _ _ _ _ _ _ _ _ _ _ _ _ _ _ _ _ _ _ _ _ (hQ' _ (hQ _ (xd_stop (by omega) ?_))))
      exact Kd c1' c4 (nI B, nI T, nI g, a_values (T * 6 + h), a_values (T * 6 + (h + 1)), a_values (T * 6 + (h + 2)), f_holePos, f_holeMul, f_holeAdd, f_holeFirst, f_holeLast, 0, -6, nI e, nI dp, a_head, a_tail, a_fn, upd a_pc T (nI (pc + 1)), a_argN, a_argXs, a_argYs, upd a_sp T (nI h), a_values, a_mul, a_add, a_first, a_last) ⟨hh0, ht0⟩
    · refine xl_ent_ok (T := T + 1) (e := e) (dp := dp) e2 (nI_1 T) c1' hCL (by omega) hDL hdp (hQ2 _ _ _ _ _ _ _ _ _ _ _ _ _ _ _ _ _ _ _ _ _ _ _ _ _ _ _ _ _ _ _ _ _ _ _ _ _ _ _ _ _ _ _ _ _ _ _ (hQ' _ (hQ _ ?_)))
      refine K c1' c4 (nI B, nI (T + 1), nI g, a_values (T * 6 + h), a_values (T * 6 + (h + 1)), a_values (T * 6 + (h + 2)), f_holePos, f_holeMul, f_holeAdd, f_holeFirst, f_holeLast, 1, 0, nI (e + 1), nI (hp_mx dp (T + 1 + 1)), a_head, a_tail, upd a_fn (T + 1) (nI g), upd (upd a_pc T (nI (pc + 1))) (T + 1) 0, upd a_argN (T + 1) (a_values (T * 6 + h)), upd a_argXs (T + 1) (a_values (T * 6 + (h + 1))), upd a_argYs (T + 1) (a_values (T * 6 + (h + 2))), upd (upd a_sp T (nI h)) (T + 1) 0, a_values, upd a_mul (T + 1) 1, upd a_add (T + 1) 0, upd a_first (T + 1) 0, upd a_last (T + 1) 0) ?_ ?_ ?_ hhp' ?_ ?_ ?_ ⟨hh0, ht0⟩
      · exact ⟨rfl, pk_us, pk_us, pk_us.trans hn1.symm, ⟨c2, pk_us.trans hc2, hin hl2⟩, ⟨c3, pk_us.trans hc3, hin hl3⟩, rfl, rfl, rfl, rfl, rfl, hh0, ht0⟩
      · exact ⟨pk_us, trivial⟩
      · exact ⟨pk_us, pk_us, pk_us, pk_us, rfl, rfl⟩
      · refine ⟨(pk_un (by omega)).trans hfn, (pk_un (by omega)).trans pk_us, (pk_un (by omega)).trans hN, ⟨cx, (pk_un (by omega)).trans hcx, hlx⟩, ⟨cy, (pk_un (by omega)).trans hcy, hly⟩, (pk_un (by omega)).trans (by rw [pk_us, hr]), ?_⟩
        exact hxs
      · exact ⟨(pk_un (by omega)).trans p1, (pk_un (by omega)).trans p2, (pk_un (by omega)).trans p3, (pk_un (by omega)).trans p4, p5⟩
      · exact ⟨fun j hj => ⟨pk_un (by omega), (pk_un (by omega)).trans (pk_un (by omega)), pk_un (by omega), pk_un (by omega), pk_un (by omega), (pk_un (by omega)).trans (pk_un (by omega)), pk_un (by omega), pk_un (by omega), pk_un (by omega), pk_un (by omega)⟩, fun _ _ => rfl, fun _ _ => ⟨rfl, fun _ => rfl⟩⟩
theorem xs_then {s T f pc n r e dp B lo p L : Nat} {nv m a v : Int32} {xs ys ch : List Int32} {A : Nat → Prop} {d : DX}
    (hF : xF T f pc nv xs ys e dp B (hp_V A L B) d) (hS : xS T 0 [false] [[v]] (hp_V A L B) d) (hP : xP T m a ch lo B p L d) (hhp : x_hp d = -1)
    (hs : s < 4096) (hT : T < 16) (hf : f < 4) (hp : pc < n) (hn : n ≤ 48) (hl : a_length f = nI n) (ho : a_ops (f * 48 + pc) = 15) (hr : pc < r) (hrn : r < n) (hor : a_ops (f * 48 + r) = 16) (hm : ∀ j, pc < j → j < r → a_ops (f * 48 + j) ≠ 16)
    (K : ∀ d' q, (v ≠ 0 → q = pc + 1) → (v = 0 → q = r + 1) → xF T f q nv xs ys e dp B (hp_V A L B) d' → xS T 0 [] [] (hp_V A L B) d' → xP T m a ch lo B p L d' → x_hp d' = -1 → xR T B L d d' → xL post (s + 1) (xM (nI CL) (nI DL) f_draft f_height f_guarded f_consCount f_outKind f_outValue f_outCalls f_outPeak a_ops a_args a_passed a_length a_heldCount a_kinds a_items a_itemCount a_outList d')) : xL post s (xM (nI CL) (nI DL) f_draft f_height f_guarded f_consCount f_outKind f_outValue f_outCalls f_outPeak a_ops a_args a_passed a_length a_heldCount a_kinds a_items a_itemCount a_outList d) := by
  obtain ⟨f_cells, f_top, f_nextF, f_nextN, f_nextXs, f_nextYs, f_holePos, f_holeMul, f_holeAdd, f_holeFirst, f_holeLast, f_running, f_ending, f_entered, f_deepest, a_head, a_tail, a_fn, a_pc, a_argN, a_argXs, a_argYs, a_sp, a_values, a_mul, a_add, a_first, a_last⟩ := d
  obtain ⟨rfl, hfn, hpc, hN, ⟨cx, hcx, hlx⟩, ⟨cy, hcy, hly⟩, rfl, rfl, rfl, rfl, rfl, hh0, ht0⟩ := hF
  obtain ⟨hsp, hv, _⟩ := hS
  have hv' : [v] = [a_values (T * 6)] := hv
  have hv2 : v = a_values (T * 6) := by injection hv'
  have hhp' : f_holePos = -1 := hhp
  obtain ⟨p1, p2, p3, p4, p5⟩ := hP
  refine xd_go hs ?_
  intro Q hQ
  refine xd_dis hT hf hp hn hfn hpc hl ho (fun z => absurd (by decide) z) (fun _ z => absurd (by decide) z) (fun _ z => absurd (by decide) z) (fun z => absurd z (by decide)) ?_ (fun _ _ z => absurd rfl z)
  intro _ Q' hQ'
  refine xl_guard hf hn hl hT hsp pk_us hr hrn hor hm (fun z => hQ' _ (hQ _ ?_)) (fun z => hQ' _ (hQ _ ?_))
  · refine K (nI B, nI T, f_nextF, f_nextN, f_nextXs, f_nextYs, f_holePos, f_holeMul, f_holeAdd, f_holeFirst, f_holeLast, 1, 0, nI e, nI dp, a_head, a_tail, a_fn, upd a_pc T (nI (pc + 1)), a_argN, a_argXs, a_argYs, upd a_sp T 0, a_values, a_mul, a_add, a_first, a_last) (pc + 1) (fun _ => rfl) (fun q => absurd (hv2.symm.trans q) z) ?_ ?_ ⟨p1, p2, p3, p4, p5⟩ hhp' ?_
    · exact ⟨rfl, hfn, pk_us, hN, ⟨cx, hcx, hlx⟩, ⟨cy, hcy, hly⟩, rfl, rfl, rfl, rfl, rfl, hh0, ht0⟩
    · exact ⟨pk_us, trivial⟩
    · exact ⟨fun j hj => ⟨rfl, pk_un (by omega), rfl, rfl, rfl, pk_un (by omega), rfl, rfl, rfl, rfl⟩, fun _ _ => rfl, fun _ _ => ⟨rfl, fun _ => rfl⟩⟩
  · refine K (nI B, nI T, f_nextF, f_nextN, f_nextXs, f_nextYs, f_holePos, f_holeMul, f_holeAdd, f_holeFirst, f_holeLast, 1, 0, nI e, nI dp, a_head, a_tail, a_fn, upd (upd a_pc T (nI (pc + 1))) T (nI (r + 1)), a_argN, a_argXs, a_argYs, upd a_sp T 0, a_values, a_mul, a_add, a_first, a_last) (r + 1) (fun q => absurd (hv2.trans z) q) (fun _ => rfl) ?_ ?_ ⟨p1, p2, p3, p4, p5⟩ hhp' ?_
    · exact ⟨rfl, hfn, pk_us, hN, ⟨cx, hcx, hlx⟩, ⟨cy, hcy, hly⟩, rfl, rfl, rfl, rfl, rfl, hh0, ht0⟩
    · exact ⟨pk_us, trivial⟩
    · exact ⟨fun j hj => ⟨rfl, (pk_un (by omega)).trans (pk_un (by omega)), rfl, rfl, rfl, pk_un (by omega), rfl, rfl, rfl, rfl⟩, fun _ _ => rfl, fun _ _ => ⟨rfl, fun _ => rfl⟩⟩
end
end
section
section
variable {f_callLimit : Int32} {f_depthLimit : Int32} {f_draft : Int32} {f_height : Int32} {f_guarded : Int32} {f_consCount : Int32} {f_outKind : Int32} {f_outValue : Int32} {f_outCalls : Int32} {f_outPeak : Int32} {a_ops : Nat → Int32} {a_args : Nat → Int32} {a_passed : Nat → Int32} {a_length : Nat → Int32} {a_heldCount : Nat → Int32} {a_kinds : Nat → Int32} {a_items : Nat → Int32} {a_itemCount : Nat → Int32} {a_outList : Nat → Int32} {post : Int32 → SX → Prop} {CL DL : Nat}
/-- END with a missing value: the call put off begins in the same frame -/
theorem xs_endH {s T f pc n e dp B B0 g lo p L : Nat} {nv m a hm ha n0 : Int32} {xs ys ch hc x y : List Int32} {A : Nat → Prop} {d : DX}
    (hF : xF T f pc nv xs ys e dp B (hp_V A L B) d) (hS : xS T 1 [] [] (hp_V A L B) d) (hH : xH 0 hm ha hc B0 B d) (hP : xP T m a ch lo B0 p L d) (hNx : xN g n0 x y (hp_V A L B0) d)
    (hs : s < 4096) (hT : T < 16) (hf : f < 4) (hp : pc < n) (hn : n ≤ 48) (hl : a_length f = nI n) (ho : a_ops (f * 48 + pc) = 16)
    (he64 : e ≤ 64) (hCL : CL ≤ 64) (hDL : DL ≤ 16) (hTD : T + 1 ≤ DL) (hdp : dp ≤ 16) (hlo0 : 0 < lo) (hlo : lo ≤ B0) (hB0 : B0 ≤ B) (hB : B ≤ 225)
    (Kl : CL ≤ e → ∀ d', xZ d' → post (-7) (xM (nI CL) (nI DL) f_draft f_height f_guarded f_consCount f_outKind f_outValue f_outCalls f_outPeak a_ops a_args a_passed a_length a_heldCount a_kinds a_items a_itemCount a_outList d'))
    (K : e < CL → ∀ d' p' L', xF T g 0 n0 x y (e + 1) (hp_mx dp (T + 1)) B (hp_V A L' B) d' → xS T 0 [] [] (hp_V A L' B) d' → xP T (m * hm) (a + m * ha) (ch ++ hc) lo B p' L' d' → x_hp d' = -1 →
      xR T B0 L d d' → (L' = L ∨ B0 ≤ L') → xL post (s + 1) (xM (nI CL) (nI DL) f_draft f_height f_guarded f_consCount f_outKind f_outValue f_outCalls f_outPeak a_ops a_args a_passed a_length a_heldCount a_kinds a_items a_itemCount a_outList d')) : xL post s (xM (nI CL) (nI DL) f_draft f_height f_guarded f_consCount f_outKind f_outValue f_outCalls f_outPeak a_ops a_args a_passed a_length a_heldCount a_kinds a_items a_itemCount a_outList d) := by
  obtain ⟨f_cells, f_top, f_nextF, f_nextN, f_nextXs, f_nextYs, f_holePos, f_holeMul, f_holeAdd, f_holeFirst, f_holeLast, f_running, f_ending, f_entered, f_deepest, a_head, a_tail, a_fn, a_pc, a_argN, a_argXs, a_argYs, a_sp, a_values, a_mul, a_add, a_first, a_last⟩ := d
  obtain ⟨rfl, hfn, hpc, hN, ⟨cx, hcx, hlx⟩, ⟨cy, hcy, hly⟩, rfl, rfl, rfl, rfl, rfl, hh0, ht0⟩ := hF
  have hsp : a_sp T = nI (0 + 1) := hS.1
  obtain ⟨rfl, rfl, rfl, hp1, hl1, rfl, rfl, hsg⟩ := hH
  obtain ⟨rfl, rfl, ⟨c2, rfl, hl2⟩, ⟨c3, rfl, hl3⟩⟩ := hNx
  obtain ⟨p1, p2, p3, p4, p5⟩ := hP
  have hb1 := sg_b (by omega) hsg
  have hb2 := sg_b (by omega) p5
  refine xd_go hs ?_
  intro Q hQ
  refine xd_dis hT hf hp hn hfn hpc hl ho (fun z => absurd (by decide) z) (fun _ z => absurd (by decide) z) (fun _ z => absurd (by decide) z) (fun z => absurd z (by decide)) (fun z => absurd z (by decide)) ?_
  intro _ _ _ Q' hQ'
  unfold wpX_end
  dsimp only
  refine xl_pop (h := 0) hT (by decide) hsp ?_
  dsimp only
  rw [nI_1 T]
  refine br_t (nI_pos' (by decide)) ?_
  by_cases c1 : CL ≤ e
  · refine xl_adm_long c1 he64 (br_t rfl (hQ' _ (hQ _ (xd_stop (by omega) ?_))))
    exact Kl c1 (nI B, nI T, nI g, f_nextN, nI c2, nI c3, -1, f_holeMul, f_holeAdd, nI hp1, nI hl1, 0, -7, nI e, nI dp, a_head, a_tail, a_fn, upd a_pc T (nI (pc + 1)), a_argN, a_argXs, a_argYs, upd a_sp T (nI 0), a_values, a_mul, a_add, a_first, a_last) ⟨hh0, ht0⟩
  · have c1' : e < CL := by omega
    refine xl_adm_ok c1' hCL hTD hDL hdp (br_f (by decide) ?_)
    have fin : ∀ (p' L' : Nat) (tl' fi' la' : Nat → Int32), hp_sg a_head tl' (hp_W lo B) L' p' (ch ++ hc) → fi' T = nI p' → la' T = nI L' → (∀ j, j < T → fi' j = a_first j ∧ la' j = a_last j) → tl' 0 = 0 → (∀ x, x < B0 → x ≠ L → tl' x = a_tail x) → (L' = L ∨ B0 ≤ L') →
        xL post (s + 1) (nI CL, nI DL, f_draft, f_height, f_guarded, f_consCount, f_outKind, f_outValue, f_outCalls, f_outPeak, nI B, nI T, nI g, f_nextN, nI c2, nI c3, -1, f_holeMul, f_holeAdd, nI hp1, nI hl1, 1, 0, nI (e + 1), nI (hp_mx dp (T + 1)), a_ops, a_args, a_passed, a_length, a_heldCount, a_kinds, a_items, a_itemCount, a_outList, a_head, tl', upd a_fn T (nI g), upd (upd a_pc T (nI (pc + 1))) T 0, upd a_argN T f_nextN, upd a_argXs T (nI c2), upd a_argYs T (nI c3), upd (upd a_sp T (nI 0)) T 0, a_values, upd a_mul T (a_mul T * f_holeMul), upd a_add T (a_add T + a_mul T * f_holeAdd), fi', la') := by
      intro p' L' tl' fi' la' q1 q2 q3 q4 q5 q6 q7
      have hmo : ∀ c l, hp_lr a_head a_tail (hp_V A L B0) c l → hp_lr a_head tl' (hp_V A L' B) c l := fun c l hl => lr_mo (fun z hz => by
        obtain ⟨z1, z2, z3, z4⟩ := hz
        exact ⟨⟨z1, by omega, z3, by rcases q7 with w | w <;> omega⟩, rfl, q6 z z2 z4⟩) hl
      refine K c1' (nI B, nI T, nI g, f_nextN, nI c2, nI c3, -1, f_holeMul, f_holeAdd, nI hp1, nI hl1, 1, 0, nI (e + 1), nI (hp_mx dp (T + 1)), a_head, tl', upd a_fn T (nI g), upd (upd a_pc T (nI (pc + 1))) T 0, upd a_argN T f_nextN, upd a_argXs T (nI c2), upd a_argYs T (nI c3), upd (upd a_sp T (nI 0)) T 0, a_values, upd a_mul T (a_mul T * f_holeMul), upd a_add T (a_add T + a_mul T * f_holeAdd), fi', la') p' L' ?_ ?_ ?_ rfl ?_ q7
      · exact ⟨rfl, pk_us, pk_us, pk_us, ⟨c2, pk_us, hmo _ _ hl2⟩, ⟨c3, pk_us, hmo _ _ hl3⟩, rfl, rfl, rfl, rfl, rfl, hh0, q5⟩
      · exact ⟨pk_us, trivial⟩
      · refine ⟨?_, ?_, q2, q3, q1⟩
        · rw [pk_us, p1]
        · rw [pk_us, p1, p2]
      · exact ⟨fun j hj => ⟨pk_un (by omega), (pk_un (by omega)).trans (pk_un (by omega)), pk_un (by omega), pk_un (by omega), pk_un (by omega), (pk_un (by omega)).trans (pk_un (by omega)), pk_un (by omega), pk_un (by omega), (q4 j hj).1, (q4 j hj).2⟩, fun _ _ => rfl, fun z hz => ⟨rfl, fun hzl => q6 z hz hzl⟩⟩
    rcases Nat.eq_zero_or_pos hl1 with h0 | h0
    · have hhc : hc = [] := (sg_0 (by omega) hsg).mp h0
      subst h0
      refine xl_comp0 hT ?_
      refine xl_start hT (hQ' _ (hQ _ ?_))
      refine fin p L a_tail a_first a_last ?_ p3 p4 (fun j _ => ⟨rfl, rfl⟩) ht0 (fun _ _ _ => rfl) (Or.inl rfl)
      rw [hhc, List.append_nil]
      exact sg_mo (fun z hz => ⟨⟨hz.1, Nat.lt_of_lt_of_le hz.2 hB0⟩, rfl, fun _ => rfl⟩) p5
    · have hhc : hc ≠ [] := fun z => by have := (sg_0 (by omega) hsg).mpr z; omega
      have hLW := sg_L hsg hhc
      have hl1B : B0 ≤ hl1 := hLW.1.1
      rcases Nat.eq_zero_or_pos L with hL0 | hL0
      · have hch : ch = [] := (sg_0 hlo0 p5).mp hL0
        have hla : a_last T = 0 := by rw [p4, hL0]; rfl
        refine xl_comp1 hT h0 (by omega) hla ?_
        refine xl_start hT (hQ' _ (hQ _ ?_))
        refine fin hp1 hl1 a_tail (upd a_first T (nI hp1)) (upd a_last T (nI hl1)) ?_ pk_us pk_us (fun j hj => ⟨pk_un (by omega), pk_un (by omega)⟩) ht0 (fun _ _ _ => rfl) (Or.inr hl1B)
        rw [hch, List.nil_append]
        exact sg_mo (fun z hz => ⟨⟨Nat.le_trans hlo hz.1, hz.2⟩, rfl, fun _ => rfl⟩) hsg
      · have hch : ch ≠ [] := fun z => by have := (sg_0 hlo0 p5).mpr z; omega
        refine xl_comp2 hT h0 (by omega) hL0 (by omega) p4 ?_
        refine xl_start hT (hQ' _ (hQ _ ?_))
        refine fin p hl1 (upd a_tail L (nI hp1)) a_first (upd a_last T (nI hl1)) ?_ p3 pk_us (fun j hj => ⟨rfl, pk_un (by omega)⟩) (by rw [pk_un (by omega)]; exact ht0) (fun z _ hz => pk_un hz) (Or.inr hl1B)
        exact sg_cat hsg hhc (fun z hz => ⟨by have := hz.2; omega, hz.1, Nat.lt_of_lt_of_le hz.2 hB0⟩) (fun z hz => ⟨by have := hz.1; omega, Nat.le_trans hlo hz.1, hz.2⟩) p5 hch
/-- finish: the work put off is done -/
theorem xs_fin {s T f e dp B lo p L : Nat} {m a x : Int32} {ch v : List Int32} {A : Nat → Prop} {d d0 : DX} {Q : SX → Prop}
    (hQr : xQ T e dp B d) (hfn : match d with | (f_cells, f_top, f_nextF, f_nextN, f_nextXs, f_nextYs, f_holePos, f_holeMul, f_holeAdd, f_holeFirst, f_holeLast, f_running, f_ending, f_entered, f_deepest, a_head, a_tail, a_fn, a_pc, a_argN, a_argXs, a_argYs, a_sp, a_values, a_mul, a_add, a_first, a_last) => a_fn T = nI f) (hv : match d with | (f_cells, f_top, f_nextF, f_nextN, f_nextXs, f_nextYs, f_holePos, f_holeMul, f_holeAdd, f_holeFirst, f_holeLast, f_running, f_ending, f_entered, f_deepest, a_head, a_tail, a_fn, a_pc, a_argN, a_argXs, a_argYs, a_sp, a_values, a_mul, a_add, a_first, a_last) => hp_vr (hp_lr a_head a_tail (hp_V A L B)) (hp_kg f) x v) (hP : xP T m a ch lo B p L d) (hR : xR T B L d0 d)
    (hT : T < 16) (hf : f < 4) (hlo0 : 0 < lo) (hlo : lo ≤ B) (hB : B ≤ 225) (hA : ∀ z, A z → z < lo) (hQ : ∀ u, xL post (s + 1) u → Q u)
    (K : ∀ d' x', xQ T e dp B d' → xV A B (hp_kg f) x' (hp_ho (hp_kg f) m a ch v) d' → xR T B L d0 d' → xE (nI CL) (nI DL) f_draft f_height f_guarded f_consCount f_outKind f_outValue f_outCalls f_outPeak a_ops a_args a_passed a_length a_heldCount a_kinds a_items a_itemCount a_outList post s (hp_kI (hp_kg f)) x' d') : wpX_finish Q (xM (nI CL) (nI DL) f_draft f_height f_guarded f_consCount f_outKind f_outValue f_outCalls f_outPeak a_ops a_args a_passed a_length a_heldCount a_kinds a_items a_itemCount a_outList d) x := by
  obtain ⟨f_cells, f_top, f_nextF, f_nextN, f_nextXs, f_nextYs, f_holePos, f_holeMul, f_holeAdd, f_holeFirst, f_holeLast, f_running, f_ending, f_entered, f_deepest, a_head, a_tail, a_fn, a_pc, a_argN, a_argXs, a_argYs, a_sp, a_values, a_mul, a_add, a_first, a_last⟩ := d
  obtain ⟨rfl, rfl, rfl, rfl, rfl, rfl, hh0, ht0, hhp⟩ := hQr
  obtain ⟨p1, p2, p3, p4, p5⟩ := hP
  have hb := sg_b (by omega) p5
  refine xl_fin hT hf hfn (L := L) (by omega) p4 (fun hk => ?_) (fun hk hL => ?_) (fun hk hL => ?_)
  · have hv' : hp_vr (hp_lr a_head a_tail (hp_V A L B)) (hp_kg f) x v := hv
    refine K (nI B, nI T, f_nextF, f_nextN, f_nextXs, f_nextYs, f_holePos, f_holeMul, f_holeAdd, f_holeFirst, f_holeLast, 1, 0, nI e, nI dp, a_head, a_tail, a_fn, a_pc, a_argN, a_argXs, a_argYs, a_sp, a_values, a_mul, a_add, a_first, a_last) (a_mul T * x + a_add T) ⟨rfl, rfl, rfl, rfl, rfl, rfl, hh0, ht0, hhp⟩ ?_ hR Q hQ
    show hp_vr _ (hp_kg f) _ _
    rw [hk] at hv' ⊢
    have hv2 : v = [x] := hv'
    rw [hv2, p1, p2]
    rfl
  · have hv' : hp_vr (hp_lr a_head a_tail (hp_V A L B)) (hp_kg f) x v := hv
    have hch : ch = [] := (sg_0 hlo0 p5).mp hL
    refine K (nI B, nI T, f_nextF, f_nextN, f_nextXs, f_nextYs, f_holePos, f_holeMul, f_holeAdd, f_holeFirst, f_holeLast, 1, 0, nI e, nI dp, a_head, a_tail, a_fn, a_pc, a_argN, a_argXs, a_argYs, a_sp, a_values, a_mul, a_add, a_first, a_last) x ⟨rfl, rfl, rfl, rfl, rfl, rfl, hh0, ht0, hhp⟩ ?_ hR Q hQ
    show hp_vr _ (hp_kg f) _ _
    rw [hk] at hv' ⊢
    rw [hL] at hv'
    rw [hch]
    exact hv'
  · have hv' : hp_vr (hp_lr a_head a_tail (hp_V A L B)) (hp_kg f) x v := hv
    have hch : ch ≠ [] := fun z => hL ((sg_0 hlo0 p5).mpr z)
    refine K (nI B, nI T, f_nextF, f_nextN, f_nextXs, f_nextYs, f_holePos, f_holeMul, f_holeAdd, f_holeFirst, f_holeLast, 1, 0, nI e, nI dp, a_head, upd a_tail L x, a_fn, a_pc, a_argN, a_argXs, a_argYs, a_sp, a_values, a_mul, a_add, a_first, a_last) (a_first T) ⟨rfl, rfl, rfl, rfl, rfl, rfl, hh0, ?_, hhp⟩ ?_ ?_ Q hQ
    · show upd a_tail L x 0 = 0
      rw [pk_un (by omega)]
      exact ht0
    · show hp_vr _ (hp_kg f) _ _
      rw [hk] at hv' ⊢
      obtain ⟨c, hc, hlc⟩ := hv'
      rw [hc]
      exact ⟨p, p3, sg_fin hlc (fun z hz => ⟨hz.2.2.2, hz.1, hz.2.1, hz.2.2.1, Nat.ne_of_gt hz.1⟩) (fun z hz => ⟨by have := hz.1; omega, hz.2, fun q => by have := hA z q; have := hz.1; omega, by have := hz.1; omega⟩) p5 hch⟩
    · obtain ⟨f_cells', f_top', f_nextF', f_nextN', f_nextXs', f_nextYs', f_holePos', f_holeMul', f_holeAdd', f_holeFirst', f_holeLast', f_running', f_ending', f_entered', f_deepest', a_head', a_tail', a_fn', a_pc', a_argN', a_argXs', a_argYs', a_sp', a_values', a_mul', a_add', a_first', a_last'⟩ := d0
      obtain ⟨r1, r2, r3⟩ := hR
      exact ⟨r1, r2, fun z hz => ⟨(r3 z hz).1, fun hzl => (pk_un hzl).trans ((r3 z hz).2 hzl)⟩⟩
theorem xs_end {s T f pc n e dp B lo p L : Nat} {nv m a : Int32} {xs ys ch v : List Int32} {A : Nat → Prop} {d : DX}
    (hF : xF T f pc nv xs ys e dp B (hp_V A L B) d) (hS : xS T 0 [hp_kg f] [v] (hp_V A L B) d) (hP : xP T m a ch lo B p L d) (hhp : x_hp d = -1)
    (hs : s < 4096) (hT : T < 16) (hf : f < 4) (hp : pc < n) (hn : n ≤ 48) (hl : a_length f = nI n) (ho : a_ops (f * 48 + pc) = 16) (hlo0 : 0 < lo) (hlo : lo ≤ B) (hB : B ≤ 225) (hA : ∀ z, A z → z < lo)
    (K : ∀ d' x', xQ T e dp B d' → xV A B (hp_kg f) x' (hp_ho (hp_kg f) m a ch v) d' → xR T B L d d' → xE (nI CL) (nI DL) f_draft f_height f_guarded f_consCount f_outKind f_outValue f_outCalls f_outPeak a_ops a_args a_passed a_length a_heldCount a_kinds a_items a_itemCount a_outList post s (hp_kI (hp_kg f)) x' d') : xL post s (xM (nI CL) (nI DL) f_draft f_height f_guarded f_consCount f_outKind f_outValue f_outCalls f_outPeak a_ops a_args a_passed a_length a_heldCount a_kinds a_items a_itemCount a_outList d) := by
  obtain ⟨f_cells, f_top, f_nextF, f_nextN, f_nextXs, f_nextYs, f_holePos, f_holeMul, f_holeAdd, f_holeFirst, f_holeLast, f_running, f_ending, f_entered, f_deepest, a_head, a_tail, a_fn, a_pc, a_argN, a_argXs, a_argYs, a_sp, a_values, a_mul, a_add, a_first, a_last⟩ := d
  obtain ⟨rfl, hfn, hpc, hN, ⟨cx, hcx, hlx⟩, ⟨cy, hcy, hly⟩, rfl, rfl, rfl, rfl, rfl, hh0, ht0⟩ := hF
  obtain ⟨hsp, hv, _⟩ := hS
  obtain ⟨p1, p2, p3, p4, p5⟩ := hP
  have hhp' : f_holePos = -1 := hhp
  subst hhp'
  have hsp' : a_sp T = nI (0 + 1) := hsp
  have hv' : hp_vr (hp_lr a_head a_tail (hp_V A L B)) (hp_kg f) (a_values (T * 6 + 0)) v := hv
  refine xd_go hs ?_
  intro Q hQ
  refine xd_dis hT hf hp hn hfn hpc hl ho (fun z => absurd (by decide) z) (fun _ z => absurd (by decide) z) (fun _ z => absurd (by decide) z) (fun z => absurd z (by decide)) (fun z => absurd z (by decide)) ?_
  intro _ _ _ Q' hQ'
  unfold wpX_end
  dsimp only
  refine xl_pop (h := 0) hT (by decide) hsp' ?_
  dsimp only
  refine br_f (by decide) ?_
  exact xs_fin (d := (nI B, nI T, f_nextF, f_nextN, f_nextXs, f_nextYs, -1, f_holeMul, f_holeAdd, f_holeFirst, f_holeLast, 1, 0, nI e, nI dp, a_head, a_tail, a_fn, upd a_pc T (nI (pc + 1)), a_argN, a_argXs, a_argYs, upd a_sp T (nI 0), a_values, a_mul, a_add, a_first, a_last)) (d0 := (nI B, nI T, f_nextF, f_nextN, f_nextXs, f_nextYs, -1, f_holeMul, f_holeAdd, f_holeFirst, f_holeLast, 1, 0, nI e, nI dp, a_head, a_tail, a_fn, a_pc, a_argN, a_argXs, a_argYs, a_sp, a_values, a_mul, a_add, a_first, a_last)) (v := v) (m := m) (a := a) (ch := ch) (lo := lo) (p := p) (L := L) (A := A) (s := s)
    ⟨rfl, rfl, rfl, rfl, rfl, rfl, hh0, ht0, rfl⟩ hfn hv' ⟨p1, p2, p3, p4, p5⟩ ⟨fun j hj => ⟨rfl, pk_un (by omega), rfl, rfl, rfl, pk_un (by omega), rfl, rfl, rfl, rfl⟩, fun _ _ => rfl, fun _ _ => ⟨rfl, fun _ => rfl⟩⟩ hT hf hlo0 hlo hB hA (fun u h => hQ' u (hQ u h)) K
theorem xs_emp {s T f pc e dp B lo p L : Nat} {nv m a : Int32} {xs ys ch : List Int32} {A : Nat → Prop} {d : DX}
    (hF : xF T f pc nv xs ys e dp B (hp_V A L B) d) (hpc0 : pc = 0) (hP : xP T m a ch lo B p L d) (hhp : x_hp d = -1)
    (hs : s < 4096) (hT : T < 16) (hf : f < 4) (hl : a_length f = nI 0) (hlo0 : 0 < lo) (hlo : lo ≤ B) (hB : B ≤ 225) (hA : ∀ z, A z → z < lo)
    (K : ∀ d' x', xQ T e dp B d' → xV A B (hp_kg f) x' (hp_ho (hp_kg f) m a ch (if hp_kg f then [] else [0])) d' → xR T B L d d' → xE (nI CL) (nI DL) f_draft f_height f_guarded f_consCount f_outKind f_outValue f_outCalls f_outPeak a_ops a_args a_passed a_length a_heldCount a_kinds a_items a_itemCount a_outList post s (hp_kI (hp_kg f)) x' d') : xL post s (xM (nI CL) (nI DL) f_draft f_height f_guarded f_consCount f_outKind f_outValue f_outCalls f_outPeak a_ops a_args a_passed a_length a_heldCount a_kinds a_items a_itemCount a_outList d) := by
  subst hpc0
  obtain ⟨f_cells, f_top, f_nextF, f_nextN, f_nextXs, f_nextYs, f_holePos, f_holeMul, f_holeAdd, f_holeFirst, f_holeLast, f_running, f_ending, f_entered, f_deepest, a_head, a_tail, a_fn, a_pc, a_argN, a_argXs, a_argYs, a_sp, a_values, a_mul, a_add, a_first, a_last⟩ := d
  obtain ⟨rfl, hfn, hpc, hN, ⟨cx, hcx, hlx⟩, ⟨cy, hcy, hly⟩, rfl, rfl, rfl, rfl, rfl, hh0, ht0⟩ := hF
  obtain ⟨p1, p2, p3, p4, p5⟩ := hP
  have hhp' : f_holePos = -1 := hhp
  subst hhp'
  have hv' : hp_vr (hp_lr a_head a_tail (hp_V A L B)) (hp_kg f) 0 (if hp_kg f then [] else [0]) := by
    cases hp_kg f with
    | true => exact ⟨0, rfl, rfl⟩
    | false => rfl
  refine xd_go hs ?_
  intro Q hQ
  refine xd_emp hT hf hfn hpc hl ?_
  intro Q' hQ'
  exact xs_fin (d := (nI B, nI T, f_nextF, f_nextN, f_nextXs, f_nextYs, -1, f_holeMul, f_holeAdd, f_holeFirst, f_holeLast, 1, 0, nI e, nI dp, a_head, a_tail, a_fn, a_pc, a_argN, a_argXs, a_argYs, a_sp, a_values, a_mul, a_add, a_first, a_last)) (d0 := (nI B, nI T, f_nextF, f_nextN, f_nextXs, f_nextYs, -1, f_holeMul, f_holeAdd, f_holeFirst, f_holeLast, 1, 0, nI e, nI dp, a_head, a_tail, a_fn, a_pc, a_argN, a_argXs, a_argYs, a_sp, a_values, a_mul, a_add, a_first, a_last)) (m := m) (a := a) (ch := ch) (lo := lo) (p := p) (L := L) (A := A) (s := s)
    ⟨rfl, rfl, rfl, rfl, rfl, rfl, hh0, ht0, rfl⟩ hfn hv' ⟨p1, p2, p3, p4, p5⟩ xR_rf hT hf hlo0 hlo hB hA (fun u h => hQ' u (hQ u h)) K
/-- the answer of a held call is pushed in the frame below -/
theorem xs_ret {s T f pc e dp B lo p L : Nat} {nv m a x : Int32} {k : Bool} {kI : Int32} {xs ys ch w : List Int32} {ks : List Bool} {st : List (List Int32)} {A : Nat → Prop} {d : DX}
    (hQr : xQ (T + 1) e dp B d) (hV : xV (hp_A A L) B k x w d) (hG : xG T f pc nv xs ys ks st (hp_V A L B) d) (hP : xP T m a ch lo B p L d) (hT : T < 16) (hst : st.length < 6)
    (K : ∀ d', xF T f pc nv xs ys e dp B (hp_V A L B) d' → xS T 0 (k :: ks) (w :: st) (hp_V A L B) d' → xP T m a ch lo B p L d' → x_hp d' = -1 → (∀ B0 L0, xR T B0 L0 d d') → xL post (s + 1) (xM (nI CL) (nI DL) f_draft f_height f_guarded f_consCount f_outKind f_outValue f_outCalls f_outPeak a_ops a_args a_passed a_length a_heldCount a_kinds a_items a_itemCount a_outList d')) : xE (nI CL) (nI DL) f_draft f_height f_guarded f_consCount f_outKind f_outValue f_outCalls f_outPeak a_ops a_args a_passed a_length a_heldCount a_kinds a_items a_itemCount a_outList post s kI x d := by
  obtain ⟨f_cells, f_top, f_nextF, f_nextN, f_nextXs, f_nextYs, f_holePos, f_holeMul, f_holeAdd, f_holeFirst, f_holeLast, f_running, f_ending, f_entered, f_deepest, a_head, a_tail, a_fn, a_pc, a_argN, a_argXs, a_argYs, a_sp, a_values, a_mul, a_add, a_first, a_last⟩ := d
  obtain ⟨rfl, rfl, rfl, rfl, rfl, rfl, hh0, ht0, rfl⟩ := hQr
  obtain ⟨g1, g2, g3, ⟨c1, g4, g5⟩, ⟨c2, g6, g7⟩, g8, g9⟩ := hG
  obtain ⟨p1, p2, p3, p4, p5⟩ := hP
  intro Q hQ
  refine xl_f83 hT hst g8 (hQ _ ?_)
  refine K (nI B, nI T, f_nextF, f_nextN, f_nextXs, f_nextYs, -1, f_holeMul, f_holeAdd, f_holeFirst, f_holeLast, 1, 0, nI e, nI dp, a_head, a_tail, a_fn, a_pc, a_argN, a_argXs, a_argYs, upd a_sp T (nI (st.length + 1)), upd a_values (T * 6 + st.length) x, a_mul, a_add, a_first, a_last) ?_ ?_ ⟨p1, p2, p3, p4, p5⟩ rfl ?_
  · exact ⟨rfl, g1, g2, g3, ⟨c1, g4, g5⟩, ⟨c2, g6, g7⟩, rfl, rfl, rfl, rfl, rfl, hh0, ht0⟩
  · refine ⟨?_, xs_pu rfl (fun _ _ q => q) (vr_mo (fun c l hl => lr_mo (fun z hz => ⟨V_out hz, rfl, rfl⟩) hl) hV) g9⟩
    rw [pk_us, List.length_cons, Nat.zero_add]
  · exact fun B0 L0 => ⟨fun j hj => ⟨rfl, rfl, rfl, rfl, rfl, pk_un (by omega), rfl, rfl, rfl, rfl⟩, fun j hj => pk_un (by omega), fun z _ => ⟨rfl, fun _ => rfl⟩⟩
end
end
section
theorem xU_ty {T : Nat} {ks : List Bool} {bl : List (List Int32)} {V : Nat → Prop} {d : DX} (h : xU T ks bl V d) : hp_ty ks bl := by
  obtain ⟨f_cells, f_top, f_nextF, f_nextN, f_nextXs, f_nextYs, f_holePos, f_holeMul, f_holeAdd, f_holeFirst, f_holeLast, f_running, f_ending, f_entered, f_deepest, a_head, a_tail, a_fn, a_pc, a_argN, a_argXs, a_argYs, a_sp, a_values, a_mul, a_add, a_first, a_last⟩ := d
  exact xs_ty h
theorem xS_ty {T q : Nat} {ks : List Bool} {bl : List (List Int32)} {V : Nat → Prop} {d : DX} (h : xS T q ks bl V d) : hp_ty ks bl := by
  obtain ⟨f_cells, f_top, f_nextF, f_nextN, f_nextXs, f_nextYs, f_holePos, f_holeMul, f_holeAdd, f_holeFirst, f_holeLast, f_running, f_ending, f_entered, f_deepest, a_head, a_tail, a_fn, a_pc, a_argN, a_argXs, a_argYs, a_sp, a_values, a_mul, a_add, a_first, a_last⟩ := d
  exact xs_ty h.2
theorem xH_hp {h : Nat} {m a : Int32} {ch : List Int32} {lo B : Nat} {d : DX} (hH : xH h m a ch lo B d) : x_hp d = nI h := by
  obtain ⟨f_cells, f_top, f_nextF, f_nextN, f_nextXs, f_nextYs, f_holePos, f_holeMul, f_holeAdd, f_holeFirst, f_holeLast, f_running, f_ending, f_entered, f_deepest, a_head, a_tail, a_fn, a_pc, a_argN, a_argXs, a_argYs, a_sp, a_values, a_mul, a_add, a_first, a_last⟩ := d
  exact hH.1
theorem xP_b {T : Nat} {m a : Int32} {ch : List Int32} {lo B p L : Nat} {d : DX} (hB : 0 < B) (h : xP T m a ch lo B p L d) : L < B := by
  obtain ⟨f_cells, f_top, f_nextF, f_nextN, f_nextXs, f_nextYs, f_holePos, f_holeMul, f_holeAdd, f_holeFirst, f_holeLast, f_running, f_ending, f_entered, f_deepest, a_head, a_tail, a_fn, a_pc, a_argN, a_argXs, a_argYs, a_sp, a_values, a_mul, a_add, a_first, a_last⟩ := d
  exact (sg_b hB h.2.2.2.2).1
theorem ps_t {o : Nat → Int32} {d i b : Nat} (h : hp_ps o (d + 1) i b = true) : o i = 16 ∨ (o i ≠ 16 ∧ o i ≠ 14 ∧ o i ≠ 15 ∧ ((¬ 5 < o i ∧ hp_ps o d (i + 1) (b + 1) = true) ∨ (5 < o i ∧ ¬ 8 < o i ∧ b ≠ 0 ∧ hp_ps o d (i + 1) b = true) ∨
    (8 < o i ∧ 2 ≤ b ∧ hp_ps o d (i + 1) (b - 1) = true) ∨ (8 < o i ∧ b < 2 ∧ o i ≠ 13 ∧ (o i = 9 → b ≠ 1) ∧ hp_ps o d (i + 1) 0 = true))) := by
  rw [hp_ps] at h
  by_cases c16 : o i = 16
  · exact Or.inl c16
  rw [if_neg c16] at h
  by_cases c14 : o i = 14 ∨ o i = 15
  · rw [if_pos c14] at h; exact absurd h (by decide)
  rw [if_neg c14] at h
  refine Or.inr ⟨c16, fun z => c14 (Or.inl z), fun z => c14 (Or.inr z), ?_⟩
  by_cases c5 : 5 < o i
  · rw [if_pos c5] at h
    by_cases c8 : 8 < o i
    · rw [if_pos c8] at h
      by_cases cb : b < 2
      · rw [if_pos cb] at h
        by_cases c13 : o i = 13
        · rw [if_pos c13] at h; exact absurd h (by decide)
        rw [if_neg c13] at h
        by_cases c9 : o i = 9
        · rw [if_pos c9] at h
          by_cases cb1 : b = 1
          · rw [if_pos cb1] at h; exact absurd h (by decide)
          · rw [if_neg cb1] at h
            exact Or.inr (Or.inr (Or.inr ⟨c8, cb, c13, fun _ => cb1, h⟩))
        · rw [if_neg c9] at h
          exact Or.inr (Or.inr (Or.inr ⟨c8, cb, c13, fun z => absurd z c9, h⟩))
      · rw [if_neg cb] at h
        exact Or.inr (Or.inr (Or.inl ⟨c8, by omega, h⟩))
    · rw [if_neg c8] at h
      by_cases cb : b = 0
      · rw [if_pos cb] at h; exact absurd h (by decide)
      · rw [if_neg cb] at h
        exact Or.inr (Or.inl ⟨c5, c8, cb, h⟩)
  · rw [if_neg c5] at h
    exact Or.inl ⟨c5, h⟩
theorem kd_ap0 {k : Bool} {ka r : List Bool} : hp_kd (k :: ka ++ r) 0 = hp_kd (k :: ka) 0 := rfl
theorem kd_ap1 {k k2 : Bool} {ka r : List Bool} : hp_kd (k :: k2 :: ka ++ r) 1 = hp_kd (k :: k2 :: ka) 1 := rfl
section
variable {f_callLimit : Int32} {f_depthLimit : Int32} {f_draft : Int32} {f_height : Int32} {f_guarded : Int32} {f_consCount : Int32} {f_outKind : Int32} {f_outValue : Int32} {f_outCalls : Int32} {f_outPeak : Int32} {a_ops : Nat → Int32} {a_args : Nat → Int32} {a_passed : Nat → Int32} {a_length : Nat → Int32} {a_heldCount : Nat → Int32} {a_kinds : Nat → Int32} {a_items : Nat → Int32} {a_itemCount : Nat → Int32} {a_outList : Nat → Int32} {post : Int32 → SX → Prop} {CL DL : Nat}
/-- the rest of a clause behind a passed call, around the missing value -/
theorem xh_run {T f nn dT e dp B0 g lo p L : Nat} {nv n0 pm pa : Int32} {xs ys x y pch : List Int32} {A : Nat → Prop} {k : Bool}
    (hWd : hp_Wd (hp_o a_ops f) (hp_o a_args f) f nn) (hCm : hp_Cm (hp_o a_ops f) nn) (hcc : hp_cc (hp_o a_ops f) nn ≤ 3) (hn : nn ≤ 48) (hl : a_length f = nI nn) (hNf : hp_N a_length f = nn) (hf : f < 4) (hT : T < 16) (hB00 : 0 < B0) (hA : ∀ z, A z → z < B0) (hL : L < B0) :
    ∀ (dd i : Nat) (m a : Int32) (ch : List Int32) (ka kb : List Bool) (ab bl : List (List Int32)) (B s : Nat) (d : DX), i + dd = nn → hp_ps (hp_o a_ops f) dd i ab.length = true → hp_sc (hp_o a_ops f) (hp_o a_args f) i = ka ++ k :: kb →
      xF T f i nv xs ys e dp B (hp_V A L B) d → xS T (bl.length + 1) ka ab (hp_V A L B) d → xU T kb bl (hp_V A L B) d → xH bl.length m a ch B0 B d → xP T pm pa pch lo B0 p L d → xN g n0 x y (hp_V A L B0) d → B0 ≤ B → B + (3 - hp_cc (hp_o a_ops f) i) ≤ 225 → s + (48 - i) ≤ 4095 →
      (∀ (d' : DX) (B' : Nat) (m' a' : Int32) (ch' : List Int32) (s' i' : Nat), k = hp_kg f → (∀ (n : Nat) (w : List Int32) (e1 dp1 : Nat), 48 - i < n → hp_ev a_ops a_args (hp_N a_length) CL DL n f i dT nv xs ys (ab ++ hp_ho k m a ch w :: bl) e1 dp1 = .inr (hp_ho k m' a' ch' w, e1, dp1)) →
        i' < nn → a_ops (f * 48 + i') = 16 → xF T f i' nv xs ys e dp B' (hp_V A L B') d' → xS T 1 [] [] (hp_V A L B') d' → xH 0 m' a' ch' B0 B' d' → xP T pm pa pch lo B0 p L d' → xN g n0 x y (hp_V A L B0) d' → B0 ≤ B' → B' + (3 - hp_cc (hp_o a_ops f) i') ≤ B + (3 - hp_cc (hp_o a_ops f) i) →
        s' + (48 - i') ≤ s + (48 - i) → xR T B0 L d d' → xL post s' (xM (nI CL) (nI DL) f_draft f_height f_guarded f_consCount f_outKind f_outValue f_outCalls f_outPeak a_ops a_args a_passed a_length a_heldCount a_kinds a_items a_itemCount a_outList d')) → xL post s (xM (nI CL) (nI DL) f_draft f_height f_guarded f_consCount f_outKind f_outValue f_outCalls f_outPeak a_ops a_args a_passed a_length a_heldCount a_kinds a_items a_itemCount a_outList d) := by
  intro dd
  induction dd with
  | zero => intro i m a ch ka kb ab bl B s d hi hps; exact absurd hps (by rw [hp_ps]; decide)
  | succ dd ih =>
    intro i m a ch ka kb ab bl B s d hi hps hsc hF hS hU hH hP hNx hB0 hB hs K
    have hin : i < nn := by omega
    obtain ⟨w1, w2, w3, w4, w5⟩ := hWd i hin
    have hccl : hp_cc (hp_o a_ops f) (i + 1) ≤ 3 := Nat.le_trans (hp_cc_le (by omega)) hcc
    have hccm : hp_cc (hp_o a_ops f) i ≤ hp_cc (hp_o a_ops f) (i + 1) := hp_cc_le (by omega)
    have hks6 : (hp_sc (hp_o a_ops f) (hp_o a_args f) i).length ≤ 6 := by
      cases i with
      | zero => exact Nat.zero_le _
      | succ q => exact (hWd q (by omega)).2.2.2.2
    have hla := hp_ty_len (xS_ty hS)
    have hlb := hp_ty_len (xU_ty hU)
    rw [hsc] at hks6 w4
    rw [List.length_append, List.length_cons] at hks6
    obtain ⟨o, ho⟩ : ∃ o, a_ops (f * 48 + i) = o := ⟨_, rfl⟩
    have ho' : hp_o a_ops f i = o := ho
    obtain ⟨arg, harg⟩ : ∃ arg, a_args (f * 48 + i) = arg := ⟨_, rfl⟩
    have harg' : hp_o a_args f i = arg := harg
    have hscn : hp_sc (hp_o a_ops f) (hp_o a_args f) (i + 1) = hp_ta o arg (ka ++ k :: kb) := by rw [hp_sc, hsc, ho', harg']
    have hpt := ps_t hps
    rw [ho'] at w1 w2 w3 w4 hpt
    have hN0 : hp_N a_length f ≠ 0 := by omega
    have h9 : o = 9 → hp_cc (hp_o a_ops f) (i + 1) = hp_cc (hp_o a_ops f) i + 1 := fun z => hp_cc_9 (by rw [ho']; exact z)
    have nt : o ≤ 13 → hp_fit o f ka (hp_gd (hp_o a_ops f) i) → hp_ta o arg (ka ++ k :: kb) = hp_ta o arg ka ++ k :: kb → (∀ z, hp_ap o arg nv xs ys (ab ++ z :: bl) = hp_ap o arg nv xs ys ab ++ z :: bl) → hp_ps (hp_o a_ops f) dd (i + 1) (hp_ap o arg nv xs ys ab).length = true → xL post s (xM (nI CL) (nI DL) f_draft f_height f_guarded f_consCount f_outKind f_outValue f_outCalls f_outPeak a_ops a_args a_passed a_length a_heldCount a_kinds a_items a_itemCount a_outList d) := by
      intro h13 hfit hta hap hps'
      have w5' := w5
      rw [hscn, hta, List.length_append, List.length_cons] at w5'
      refine xs_word hF hS (by rw [xH_hp hH]; exact nI_lt (Nat.lt_succ_self _) (by omega)) (by omega) hT hf hin hn hl ho harg w1 h13 hfit (by omega) (by omega) (by omega) (fun z => by have := h9 z; omega) (by omega) (fun z hz => Nat.lt_of_lt_of_le (hA z hz) hB0) (by omega) (fun d' B' b1 b2 hF' hS' hW => ?_)
      have hBB : B ≤ B' ∧ B' + (3 - hp_cc (hp_o a_ops f) (i + 1)) ≤ B + (3 - hp_cc (hp_o a_ops f) i) := by
        by_cases c9 : o = 9
        · have := b2 c9
          have := h9 c9
          omega
        · have := b1 c9
          omega
      obtain ⟨hBB, hBr⟩ := hBB
      obtain ⟨hKK, hnx⟩ := xW_K hW
      refine ih (i + 1) m a ch (hp_ta o arg ka) kb (hp_ap o arg nv xs ys ab) bl B' (s + 1) d' (by omega) hps' (by rw [hscn, hta]) hF' hS' (xW_U hW (by omega) hBB hU) (xW_H hW hBB hH) (xK_P hKK hB0 (Nat.le_refl _) hP) (xK_N hKK hnx hB0 hNx) (by omega) (by omega) (by omega) ?_
      intro d2 B2 m2 a2 ch2 s2 i2 hk hev hi2 ho2 hF2 hS2 hH2 hP2 hN2 hB2 hBr2 hs2 hR2
      refine K d2 B2 m2 a2 ch2 s2 i2 hk ?_ hi2 ho2 hF2 hS2 hH2 hP2 hN2 hB2 (by omega) (by omega) (xR_tr (xK_R hKK hB0) hR2 (Nat.le_refl _) (Or.inl rfl))
      intro n w e1 dp1 hn1
      obtain ⟨n, rfl⟩ : ∃ n', n = n' + 1 := ⟨n - 1, by omega⟩
      rw [ev_wd hN0 ho harg (fun z => by rw [z] at h13; exact absurd h13 (by decide)) (fun z => by rw [z] at h13; exact absurd h13 (by decide)) (fun z => by rw [z] at h13; exact absurd h13 (by decide)), hap]
      exact hev n w e1 dp1 (by omega)
    rcases hpt with c16 | ⟨c16, c14, c15, hcase⟩
    · subst c16
      have he := hp_fe w4
      have hka : ka = [] ∧ kb = [] ∧ k = hp_kg f := by
        cases ka with
        | nil => injection he with e1 e2; exact ⟨rfl, e2, e1⟩
        | cons q r =>
          have := congrArg List.length he
          rw [List.length_append, List.length_cons, List.length_cons] at this
          simp only [List.length_cons, List.length_nil] at this
          omega
      obtain ⟨rfl, rfl, hk⟩ := hka
      have hab := hp_ty_n (xS_ty hS)
      have hbl := hp_ty_n (xU_ty hU)
      subst hab hbl
      refine K d B m a ch s i hk ?_ hin ho hF hS hH hP hNx hB0 (Nat.le_refl _) (Nat.le_refl _) xR_rf
      intro n w e1 dp1 hn1
      obtain ⟨n, rfl⟩ : ∃ n', n = n' + 1 := ⟨n - 1, by omega⟩
      rw [ev_end hN0 ho]
      rfl
    · rcases hcase with ⟨c5, hps'⟩ | ⟨c5, c8, cb, hps'⟩ | ⟨c8, cb, hps'⟩ | ⟨c8, cb, c13, c9, hps'⟩
      · refine nt (Int32.le_trans (Int32.not_lt.mp c5) (by decide)) ?_ ?_ ?_ ?_
        · rcases hp_5 w1 c5 with rfl | rfl | rfl | rfl | rfl <;> exact ⟨fun z => absurd z (by decide), fun z => absurd z (by decide), fun z => absurd z (by decide), fun z => absurd z (by decide), fun z => absurd z (by decide), fun z => absurd z (by decide)⟩
        · rcases hp_5 w1 c5 with rfl | rfl | rfl | rfl | rfl <;> rfl
        · rcases hp_5 w1 c5 with rfl | rfl | rfl | rfl | rfl <;> exact fun _ => rfl
        · rcases hp_5 w1 c5 with rfl | rfl | rfl | rfl | rfl <;> exact hps'
      · cases ab with
        | nil => exact absurd rfl cb
        | cons v vs =>
          cases ka with
          | nil => exact absurd hla (by rw [List.length_nil, List.length_cons]; omega)
          | cons k1 ka =>
            refine nt (Int32.le_trans (Int32.not_lt.mp c8) (by decide)) ?_ ?_ ?_ ?_
            · rcases hp_8 c5 c8 with rfl | rfl | rfl <;> exact ⟨fun z1 z2 => w4.1 z1 z2, fun z => absurd z (by decide), fun z => absurd z (by decide), fun z => absurd z (by decide), fun z => absurd z (by decide), fun z => absurd z (by decide)⟩
            · rcases hp_8 c5 c8 with rfl | rfl | rfl <;> rfl
            · rcases hp_8 c5 c8 with rfl | rfl | rfl <;> exact fun _ => rfl
            · rcases hp_8 c5 c8 with rfl | rfl | rfl <;> exact hps'
      · have c13 : ¬ 13 < o := by
          rcases hp_16 w1 w2 with h | h | h | h | h | h | h | h | h | h | h | h | h | h | h | h
          all_goals first
            | exact absurd h c14
            | exact absurd h c15
            | exact absurd h c16
            | (rw [h]; decide)
        have sh : ∃ v v2 vs k1 k2 ka', ab = v :: v2 :: vs ∧ ka = k1 :: k2 :: ka' := by
          cases ab with
          | nil => exact absurd cb (by rw [List.length_nil]; omega)
          | cons v ab =>
            cases ab with
            | nil => exact absurd cb (by rw [List.length_singleton]; omega)
            | cons v2 vs =>
              simp only [List.length_cons] at hla
              cases ka with
              | nil => exact absurd hla (by rw [List.length_nil]; omega)
              | cons k1 ka =>
                cases ka with
                | nil => exact absurd hla (by rw [List.length_singleton]; omega)
                | cons k2 ka => exact ⟨v, v2, vs, k1, k2, ka, rfl, rfl⟩
        obtain ⟨v, v2, vs, k1, k2, ka', rfl, rfl⟩ := sh
        have hps2 : hp_ps (hp_o a_ops f) dd (i + 1) (vs.length + 1) = true := hps'
        rcases hp_13 c8 c13 with rfl | ⟨g9, g13, h4⟩
        · exact nt (by decide) ⟨fun _ z => absurd z (by decide), fun z => w4.2.1 z, fun z => absurd z (by decide), fun z => absurd z (by decide), fun z => absurd z (by decide), fun z => absurd z (by decide)⟩ rfl (fun _ => rfl) hps2
        · rcases h4 with rfl | rfl | rfl | rfl <;>
            exact nt (by decide) ⟨fun _ z => absurd z (by decide), fun z => absurd z (by decide), fun z1 z2 => w4.2.2.1 z1 z2, fun z => absurd z (by decide), fun z => absurd z (by decide), fun z => absurd z (by decide)⟩ rfl (fun _ => rfl) hps2
      · have c13' : ¬ 13 < o := by
          rcases hp_16 w1 w2 with h | h | h | h | h | h | h | h | h | h | h | h | h | h | h | h
          all_goals first
            | exact absurd h c14
            | exact absurd h c15
            | exact absurd h c16
            | (rw [h]; decide)
        have ho4 : o = 9 ∨ o = 10 ∨ o = 11 ∨ o = 12 := by
          rcases hp_13 c8 c13' with h | ⟨_, _, h | h | h | h⟩
          · exact Or.inl h
          · exact Or.inr (Or.inl h)
          · exact Or.inr (Or.inr (Or.inl h))
          · exact Or.inr (Or.inr (Or.inr h))
          · exact absurd h c13
        have next : ∀ (d' : DX) (B' : Nat) (m' a' : Int32) (ch' : List Int32) (kb' : List Bool) (bl' : List (List Int32)), (o ≠ 9 → B' = B) → (o = 9 → B' = B + 1) → (∀ w, hp_ap o arg nv xs ys (ab ++ hp_ho k m a ch w :: bl) = hp_ho k m' a' ch' w :: bl') → hp_ta o arg (ka ++ k :: kb) = k :: kb' →
            xF T f (i + 1) nv xs ys e dp B' (hp_V A L B') d' → xS T (bl'.length + 1) [] [] (hp_V A L B') d' → xU T kb' bl' (hp_V A L B') d' → xH bl'.length m' a' ch' B0 B' d' → xK T B d d' → x_nx d' = x_nx d → xL post (s + 1) (xM (nI CL) (nI DL) f_draft f_height f_guarded f_consCount f_outKind f_outValue f_outCalls f_outPeak a_ops a_args a_passed a_length a_heldCount a_kinds a_items a_itemCount a_outList d') := by
          intro d' B' m' a' ch' kb' bl' b1 b2 hap hta hF' hS' hU' hH' hKK hnx
          have hBB : B ≤ B' ∧ B' + (3 - hp_cc (hp_o a_ops f) (i + 1)) ≤ B + (3 - hp_cc (hp_o a_ops f) i) := by
            by_cases q9 : o = 9
            · have := b2 q9
              have := h9 q9
              omega
            · have := b1 q9
              omega
          obtain ⟨hBB, hBr⟩ := hBB
          refine ih (i + 1) m' a' ch' [] kb' [] bl' B' (s + 1) d' (by omega) hps' (by rw [hscn, hta]; rfl) hF' hS' hU' hH' (xK_P hKK hB0 (Nat.le_refl _) hP) (xK_N hKK hnx hB0 hNx) (by omega) (by omega) (by omega) ?_
          intro d2 B2 m2 a2 ch2 s2 i2 hk hev hi2 ho2 hF2 hS2 hH2 hP2 hN2 hB2 hBr2 hs2 hR2
          refine K d2 B2 m2 a2 ch2 s2 i2 hk ?_ hi2 ho2 hF2 hS2 hH2 hP2 hN2 hB2 (by omega) (by omega) (xR_tr (xK_R hKK hB0) hR2 (Nat.le_refl _) (Or.inl rfl))
          intro n w e1 dp1 hn1
          obtain ⟨n, rfl⟩ : ∃ n', n = n' + 1 := ⟨n - 1, by omega⟩
          rw [ev_wd hN0 ho harg c16 c14 c15, hap]
          exact hev n w e1 dp1 (by omega)
        cases ab with
        | nil =>
          have hka : ka = [] := List.eq_nil_of_length_eq_zero hla
          subst hka
          have shp : ∃ kb', kb = false :: kb' ∧ (o = 9 → k = true) ∧ (o ≠ 9 → k = false) := by
            by_cases q9 : o = 9
            · subst q9
              obtain ⟨r, hr⟩ := hp_fc w4
              injection hr with e1 e2
              exact ⟨r, e2, fun _ => e1, fun z => absurd rfl z⟩
            · obtain ⟨r, hr⟩ := hp_fb w4 (by rcases ho4 with h | h | h | h <;> first | exact absurd h q9 | (rw [h]; decide)) (Int32.not_lt.mp c13')
              injection hr with e1 e2
              exact ⟨r, e2, fun z => absurd z q9, fun _ => e1⟩
          obtain ⟨kb', rfl, hk1, hk2⟩ := shp
          obtain ⟨x0, bl', rfl, _⟩ := hp_tyi (xU_ty hU)
          simp only [List.length_cons, List.length_nil] at hks6 hlb
          refine xs_defR (arg := arg) (h := bl'.length) hF hS hU hH rfl (by omega) hT hf hin hn hl ho ho4 (by omega) hB00 hB0 (fun z => by have := h9 z; omega) ?_
          intro d' B' m' a' ch' b1 b2 hap hF' hS' hU' hH' hKK hnx
          refine next d' B' m' a' ch' kb' bl' b1 b2 (fun w => hap k w hk1 hk2) ?_ hF' hS' hU' hH' hKK hnx
          by_cases q9 : o = 9
          · rw [hk1 q9, q9]; rfl
          · rw [hk2 q9]
            rcases ho4 with rfl | rfl | rfl | rfl
            · exact absurd rfl q9
            · rfl
            · rfl
            · rfl
        | cons v vs =>
          have hvs : vs = [] := by
            rw [List.length_cons] at cb
            exact List.eq_nil_of_length_eq_zero (by omega)
          subst hvs
          have n9 : o ≠ 9 := fun z => c9 z rfl
          have ho3 : o = 10 ∨ o = 11 ∨ o = 12 := ho4.elim (fun z => absurd z n9) id
          cases ka with
          | nil => exact absurd hla (by rw [List.length_nil, List.length_singleton]; omega)
          | cons k1 ka =>
            have hka : ka = [] := by
              rw [List.length_cons, List.length_singleton] at hla
              exact List.eq_nil_of_length_eq_zero (by omega)
            subst hka
            obtain ⟨r, hr⟩ := hp_fb w4 (by rcases ho3 with h | h | h <;> (rw [h]; decide)) (Int32.not_lt.mp c13')
            injection hr with e1 e2
            injection e2 with e2 e3
            subst e1 e2 e3
            obtain ⟨y0, vs', hvs', _⟩ := hp_tyi (xS_ty hS)
            injection hvs' with e4 e5
            subst e4
            simp only [List.length_cons, List.length_nil] at hks6
            refine xs_defL (arg := arg) (h := bl.length) hF hS hU hH rfl (by omega) hT hf hin hn hl ho ho3 (by omega) ?_
            intro d' m' a' hap hF' hS' hU' hH' hKK hnx
            refine next d' B m' a' ch kb bl (fun _ => rfl) (fun z => absurd z n9) hap ?_ hF' hS' hU' hH' hKK hnx
            rcases ho3 with rfl | rfl | rfl <;> rfl
end
end
section
theorem xQ_Z {T e dp B : Nat} {d : DX} (h : xQ T e dp B d) : xZ d := by
  obtain ⟨f_cells, f_top, f_nextF, f_nextN, f_nextXs, f_nextYs, f_holePos, f_holeMul, f_holeAdd, f_holeFirst, f_holeLast, f_running, f_ending, f_entered, f_deepest, a_head, a_tail, a_fn, a_pc, a_argN, a_argXs, a_argYs, a_sp, a_values, a_mul, a_add, a_first, a_last⟩ := d
  exact ⟨h.2.2.2.2.2.2.1, h.2.2.2.2.2.2.2.1⟩
section
variable {f_callLimit : Int32} {f_depthLimit : Int32} {f_draft : Int32} {f_height : Int32} {f_guarded : Int32} {f_consCount : Int32} {f_outKind : Int32} {f_outValue : Int32} {f_outCalls : Int32} {f_outPeak : Int32} {a_ops : Nat → Int32} {a_args : Nat → Int32} {a_passed : Nat → Int32} {a_length : Nat → Int32} {a_heldCount : Nat → Int32} {a_kinds : Nat → Int32} {a_items : Nat → Int32} {a_itemCount : Nat → Int32} {a_outList : Nat → Int32} {post : Int32 → SX → Prop} {CL DL : Nat}
/-- X's loop gives the evaluator's outcome -/
theorem xr_main (hTX : hp_TX a_ops a_args (hp_N a_length)) (hlen : ∀ f, f < 4 → a_length f = nI (hp_N a_length f))
    (hpas : ∀ f i, f < 4 → i < hp_N a_length f → a_ops (f * 48 + i) = 14 → a_passed (f * 48 + i) = hp_bI (hp_pa (hp_o a_ops f) (hp_N a_length f) i)) (hCL : CL ≤ 64) (hDL : DL ≤ 16) :
    ∀ (n f pc : Nat) (nv : Int32) (xs ys : List Int32) (st : List (List Int32)) (e dp B : Nat) (A : Nat → Prop) (L lo p : Nat) (m a : Int32) (ch : List Int32) (T s : Nat) (d : DX),
      f < 4 → hp_At (hp_N a_length) f pc → T + 1 ≤ DL → e ≤ CL → dp ≤ DL → B + (3 - hp_cc (hp_o a_ops f) pc) + 3 * (64 - e) ≤ 225 → s + (48 - pc) + 48 * (64 - e) ≤ 4095 → 49 * (64 - e) + (48 - pc) < n → 0 < lo → lo ≤ B → (∀ z, A z → z < lo) →
      xF T f pc nv xs ys e dp B (hp_V A L B) d → xS T 0 (hp_sc (hp_o a_ops f) (hp_o a_args f) pc) st (hp_V A L B) d → xP T m a ch lo B p L d → x_hp d = -1 →
      (∀ c, hp_ev a_ops a_args (hp_N a_length) CL DL n f pc (T + 1) nv xs ys st e dp = .inl c → ∀ d', xZ d' → post c (xM (nI CL) (nI DL) f_draft f_height f_guarded f_consCount f_outKind f_outValue f_outCalls f_outPeak a_ops a_args a_passed a_length a_heldCount a_kinds a_items a_itemCount a_outList d')) →
      (∀ w e' dp', hp_ev a_ops a_args (hp_N a_length) CL DL n f pc (T + 1) nv xs ys st e dp = .inr (w, e', dp') → ∀ s' B' x' d', e ≤ e' → e' ≤ CL → dp' ≤ DL → (hp_kg f = false → w.length = 1) → xQ T e' dp' B' d' → xV A B' (hp_kg f) x' (hp_ho (hp_kg f) m a ch w) d' → xR T B L d d' → B ≤ B' →
        B' + 3 * (64 - e') ≤ B + (3 - hp_cc (hp_o a_ops f) pc) + 3 * (64 - e) → s' + 48 * (64 - e') + 1 ≤ s + (48 - pc) + 48 * (64 - e) → xE (nI CL) (nI DL) f_draft f_height f_guarded f_consCount f_outKind f_outValue f_outCalls f_outPeak a_ops a_args a_passed a_length a_heldCount a_kinds a_items a_itemCount a_outList post s' (hp_kI (hp_kg f)) x' d') →
      xL post s (xM (nI CL) (nI DL) f_draft f_height f_guarded f_consCount f_outKind f_outValue f_outCalls f_outPeak a_ops a_args a_passed a_length a_heldCount a_kinds a_items a_itemCount a_outList d) := by
  intro n
  induction n with
  | zero => intro f pc nv xs ys st e dp B A L lo p m a ch T s d _ _ _ _ _ _ _ h; omega
  | succ n ih =>
    intro f pc nv xs ys st e dp B A L lo p m a ch T s d hf hat hTD heC hdp hB hs hn hlo0 hlo hA hF hS hP hhp KF KO
    have hat0 := hat
    have h3 := hp_At_cc hTX hf hat
    obtain ⟨hn48, hWd, hcc, hCm⟩ := hTX f hf
    have hlf := hlen f hf
    have hLB := xP_b (by omega) hP
    rcases hat with ⟨h0, hpc⟩ | hpc
    · have hev := ev_emp (ops := a_ops) (args := a_args) (N := hp_N a_length) (CL := CL) (DL := DL) (n := n) (f := f) (pc := pc) (d := T + 1) (nv := nv) (xs := xs) (ys := ys) (st := st) (e := e) (dp := dp) h0
      refine xs_emp hF hpc hP hhp (by omega) (by omega) hf (by rw [hlf, h0]) hlo0 hlo (by omega) hA (fun d' x' hQ hV hR => ?_)
      exact KO _ e dp hev s B x' d' (Nat.le_refl _) heC hdp (fun z => by rw [z]; rfl) hQ hV hR (Nat.le_refl _) (by omega) (by omega)
    · have hN : hp_N a_length f ≠ 0 := by omega
      obtain ⟨w1, w2, w3, w4, w5⟩ := hWd pc hpc
      obtain ⟨o, ho⟩ : ∃ o, a_ops (f * 48 + pc) = o := ⟨_, rfl⟩
      have ho' : hp_o a_ops f pc = o := ho
      rw [ho'] at w1 w2 w3 w4
      have hty := xS_ty hS
      have hlst := hp_ty_len hty
      by_cases c16 : o = 16
      · subst c16
        have hev := ev_end (ops := a_ops) (args := a_args) (N := hp_N a_length) (CL := CL) (DL := DL) (n := n) (f := f) (pc := pc) (d := T + 1) (nv := nv) (xs := xs) (ys := ys) (st := st) (e := e) (dp := dp) hN ho
        rw [hp_fe w4] at hty hS
        obtain ⟨v, vs, rfl, k1, k2⟩ := hp_ty_c hty
        have := hp_ty_n k2
        subst this
        refine xs_end hF hS hP hhp (by omega) (by omega) hf hpc hn48 hlf ho hlo0 hlo (by omega) hA (fun d' x' hQ hV hR => ?_)
        exact KO _ e dp hev s B x' d' (Nat.le_refl _) heC hdp k1 hQ hV hR (Nat.le_refl _) (by omega) (by omega)
      · have hnx := hp_nx hpc (by rw [ho']; exact c16) hCm
        have hks6 : (hp_sc (hp_o a_ops f) (hp_o a_args f) pc).length ≤ 6 := by
          cases pc with
          | zero => exact Nat.zero_le _
          | succ q => exact (hWd q (by omega)).2.2.2.2
        by_cases c14 : o = 14
        · subst c14
          obtain ⟨g, hg4, hg⟩ := w3 rfl
          have hg' : a_args (f * 48 + pc) = nI g := hg
          have hgc : (a_args (f * 48 + pc)).toNatClampNeg = g := by rw [hg']; exact nI_clamp (by omega)
          have hpv := hpas f pc hf hpc ho
          have hcn : hp_cc (hp_o a_ops f) (pc + 1) = hp_cc (hp_o a_ops f) pc := hp_cc_n (by rw [ho']; decide)
          obtain ⟨r, hr⟩ := hp_fk w4
          have hsc : hp_sc (hp_o a_ops f) (hp_o a_args f) (pc + 1) = hp_kg g :: r := by
            rw [hp_sc, hr, ho', hg]
            show hp_kg (nI g).toNatClampNeg :: r = _
            rw [nI_clamp (by omega)]
          rw [hr] at hty hks6 hS
          obtain ⟨v3, vs, rfl, hty1⟩ := hp_tyl hty
          obtain ⟨v2, vs, rfl, hty2⟩ := hp_tyl hty1
          obtain ⟨v1, vs, rfl, hty3⟩ := hp_tyi hty2
          have hlv := hp_ty_len hty3
          simp only [List.length_cons] at hks6
          have e0 : hp_cc (hp_o a_ops g) 0 = 0 := rfl
          cases hpa : hp_pa (hp_o a_ops f) (hp_N a_length f) pc with
          | true =>
            rw [hpa] at hpv
            refine xs_callP (h := vs.length) hF hS rfl (by omega) (by omega) (by omega) hf hpc hn48 hlf ho hg' hpv (fun d1 hF1 hS1 hU1 hH1 hN1 hK1 => ?_)
            have hpa' : hp_ps (hp_o a_ops f) (hp_N a_length f - (pc + 1)) (pc + 1) 0 = true := hpa
            refine xh_run (dT := T + 1) (CL := CL) (DL := DL) (k := hp_kg g) hWd hCm hcc hn48 hlf rfl hf (by omega) (by omega) (fun z hz => Nat.lt_of_lt_of_le (hA z hz) hlo) hLB (hp_N a_length f - (pc + 1)) (pc + 1) 1 0 [] [] r [] vs B (s + 1) d1 (by omega) hpa' hsc hF1 hS1 hU1 hH1 (xK_P hK1 (Nat.le_refl _) (Nat.le_refl _) hP) hN1 (Nat.le_refl _) (by omega) (by omega) ?_
            intro d2 B2 m2 a2 ch2 s2 i2 hk hev2 hi2 ho2 hF2 hS2 hH2 hP2 hN2 hB2 hBr2 hs2 hR2
            have hc2 : hp_cc (hp_o a_ops f) i2 ≤ 3 := hp_At_cc hTX hf (Or.inr hi2)
            refine xs_endH (B0 := B) (n := hp_N a_length f) hF2 hS2 hH2 hP2 hN2 (by omega) (by omega) hf hi2 hn48 hlf ho2 (by omega) hCL hDL hTD (by omega) hlo0 hlo hB2 (by omega) (fun hc => KF (-7) (ev_long hN ho hc)) ?_
            intro hlt d3 p3 L3 hF3 hS3 hP3 hhp3 hR3 hL3
            have hev := ev_call (n := n) (d := T + 1) (nv := nv) (xs := xs) (ys := ys) (dp := dp) (CL := CL) (DL := DL) (a := [v1]) (b := v2) (c := v3) (r := vs) hN ho (Nat.not_le.mpr hlt) (by rw [hpa]; show ¬ DL < T + 1; omega) hgc
            rw [hpa] at hev
            have hR3' : xR T B L d d3 := xR_tr (xR_tr (xK_R hK1 (Nat.le_refl _)) hR2 (Nat.le_refl _) (Or.inl rfl)) hR3 (Nat.le_refl _) (Or.inl rfl)
            refine ih g 0 v1 v2 v3 [] (e + 1) (hp_mx dp (T + 1)) B2 A L3 lo p3 (m * m2) (a + m * a2) (ch ++ ch2) T (s2 + 1) d3 hg4 (hp_At0 _ g) hTD (by omega) (by unfold hp_mx; split <;> omega) (by omega) (by omega) (by omega) hlo0 (by omega) hA hF3 hS3 hP3 hhp3 ?_ ?_
            · intro c hE d' hz
              refine KF c ?_ d' hz
              rw [hev]
              have hE' : hp_ev a_ops a_args (hp_N a_length) CL DL n g 0 (hp_dd true (T + 1)) (([v1] : List Int32).headD 0) v2 v3 [] (e + 1) (hp_mx dp (hp_dd true (T + 1))) = .inl c := hE
              rw [hE']
              rfl
            · intro w e' dp' hE s' B' x' d' he1 he2 hdp' hwt hQ' hV' hR' hBB hroom hst
              have hE' : hp_ev a_ops a_args (hp_N a_length) CL DL n g 0 (hp_dd true (T + 1)) (([v1] : List Int32).headD 0) v2 v3 [] (e + 1) (hp_mx dp (hp_dd true (T + 1))) = .inr (w, e', dp') := hE
              rw [hE'] at hev
              have hev3 := hev2 n w e' dp' (by omega)
              rw [ho_1 hwt] at hev3
              have hev4 : hp_ev a_ops a_args (hp_N a_length) CL DL (n + 1) f pc (T + 1) nv xs ys (v3 :: v2 :: [v1] :: vs) e dp = .inr (hp_ho (hp_kg g) m2 a2 ch2 w, e', dp') := hev.trans hev3
              rw [← ho_co, hk] at hV'
              rw [hk] at hev4
              rw [hk]
              refine KO _ e' dp' hev4 s' B' x' d' (by omega) he2 hdp' ?_ hQ' hV' (xR_tr hR3' hR' (by omega) (hL3.elim Or.inl Or.inr)) (by omega) (by omega) (by omega)
              intro z
              rw [z]
              rfl
          | false =>
            rw [hpa] at hpv
            refine xs_callH (h := vs.length) hF hS hP hhp rfl (by omega) (by omega) (by omega) hf hpc hn48 hlf ho hg' hpv (by omega) hCL hDL (by omega) (fun hc => KF (-7) (ev_long hN ho hc)) (fun hlt hd => KF (-6) (ev_deep hN ho (Nat.not_le.mpr hlt) (by rw [hpa]; exact hd))) ?_
            intro hlt hd d1 hF1 hS1 hP1 hhp1 hG1 hP1' hR1 hz1
            have hev := ev_call (n := n) (d := T + 1) (nv := nv) (xs := xs) (ys := ys) (dp := dp) (CL := CL) (DL := DL) (a := [v1]) (b := v2) (c := v3) (r := vs) hN ho (Nat.not_le.mpr hlt) (by rw [hpa]; exact hd) hgc
            rw [hpa] at hev
            refine ih g 0 v1 v2 v3 [] (e + 1) (hp_mx dp (T + 2)) B (hp_A A L) 0 B 0 1 0 [] (T + 1) (s + 1) d1 hg4 (hp_At0 _ g) (by omega) (by omega) (by unfold hp_mx; split <;> omega) (by omega) (by omega) (by omega) (by omega) (Nat.le_refl _) (fun z hz => hz.elim (fun q => by have := hA z q; omega) (fun q => by omega)) hF1 hS1 hP1 hhp1 ?_ ?_
            · intro c hE d' hz
              refine KF c ?_ d' hz
              rw [hev]
              have hE' : hp_ev a_ops a_args (hp_N a_length) CL DL n g 0 (hp_dd false (T + 1)) (([v1] : List Int32).headD 0) v2 v3 [] (e + 1) (hp_mx dp (hp_dd false (T + 1))) = .inl c := hE
              rw [hE']
              rfl
            · intro w e' dp' hE s' B' x' d2 he1 he2 hdp' hwt hQ2 hV2 hR2 hBB hroom hst
              have hE' : hp_ev a_ops a_args (hp_N a_length) CL DL n g 0 (hp_dd false (T + 1)) (([v1] : List Int32).headD 0) v2 v3 [] (e + 1) (hp_mx dp (hp_dd false (T + 1))) = .inr (w, e', dp') := hE
              rw [hE'] at hev
              have hev4 : hp_ev a_ops a_args (hp_N a_length) CL DL (n + 1) f pc (T + 1) nv xs ys (v3 :: v2 :: [v1] :: vs) e dp = hp_ev a_ops a_args (hp_N a_length) CL DL n f (pc + 1) (T + 1) nv xs ys (w :: vs) e' dp' := hev
              rw [ho_1 hwt] at hV2
              obtain ⟨hG2, hP2, hRR⟩ := xG_R hG1 hP1' hR2 hz1 (xQ_Z hQ2) hBB (by omega)
              refine xs_ret hQ2 hV2 hG2 hP2 (by omega) (by omega) ?_
              intro d3 hF3 hS3 hP3 hhp3 hR3
              have hR3' : xR T B L d d3 := xR_tr (xR_tr hR1 (hRR B L (Nat.le_refl _)) (Nat.le_refl _) (Or.inl rfl)) (hR3 B L) (Nat.le_refl _) (Or.inl rfl)
              refine ih f (pc + 1) nv xs ys (w :: vs) e' dp' B' A L lo p m a ch T (s' + 1) d3 hf (Or.inr hnx) hTD he2 hdp' (by omega) (by omega) (by omega) hlo0 (by omega) hA hF3 (by rw [hsc]; exact hS3) hP3 hhp3 ?_ ?_
              · intro c hE2 d' hz
                exact KF c (by rw [hev4]; exact hE2) d' hz
              · intro w2 e2 dp2 hE2 s2 B2 x2 d4 q1 q2 q3 q4 q5 q6 q7 q8 q9 q10
                exact KO w2 e2 dp2 (by rw [hev4]; exact hE2) s2 B2 x2 d4 (by omega) q2 q3 q4 q5 q6 (xR_tr hR3' q7 (by omega) (Or.inl rfl)) (by omega) (by omega) (by omega)
        · by_cases c15 : o = 15
          · subst c15
            rw [(hp_ft w4).2] at hty hS
            obtain ⟨v, vs, rfl, hty1⟩ := hp_tyi hty
            have := hp_ty_n hty1
            subst this
            obtain ⟨r, r1, r2, r3, r4, r5⟩ := hp_jm_s hpc ho' hCm
            refine xs_then (n := hp_N a_length f) (r := r) hF hS hP hhp (by omega) (by omega) hf hpc hn48 hlf ho r1 (by omega) r3 (fun j j1 j2 => r4 j j1 j2) ?_
            intro d' q q1 q2 hF' hS' hP' hhp' hR'
            have hq : q < hp_N a_length f ∧ pc < q ∧ hp_sc (hp_o a_ops f) (hp_o a_args f) q = [] ∧ hp_ev a_ops a_args (hp_N a_length) CL DL (n + 1) f pc (T + 1) nv xs ys [[v]] e dp = hp_ev a_ops a_args (hp_N a_length) CL DL n f q (T + 1) nv xs ys [] e dp := by
              by_cases hv : v = 0
              · have := q2 hv
                subst this
                have hev := ev_th0 (args := a_args) (N := hp_N a_length) (CL := CL) (DL := DL) (n := n) (d := T + 1) (nv := nv) (xs := xs) (ys := ys) (st := [[v]]) (e := e) (dp := dp) hN ho hv
                rw [r5] at hev
                exact ⟨r2, by omega, hp_sc_0 (Or.inr r3), hev⟩
              · have := q1 hv
                subst this
                exact ⟨hnx, by omega, hp_sc_0 (Or.inl ho'), ev_th1 hN ho hv⟩
            obtain ⟨t1, t2, t3, t4⟩ := hq
            have hcq := hp_cc_le (o := hp_o a_ops f) (show pc ≤ q by omega)
            refine ih f q nv xs ys [] e dp B A L lo p m a ch T (s + 1) d' hf (Or.inr t1) hTD heC hdp (by omega) (by omega) (by omega) hlo0 hlo hA hF' (by rw [t3]; exact hS') hP' hhp' ?_ ?_
            · intro c hE2 d2 hz
              exact KF c (by rw [t4]; exact hE2) d2 hz
            · intro w2 e2 dp2 hE2 s2 B2 x2 d4 u1 u2 u3 u4 u5 u6 u7 u8 u9 u10
              exact KO w2 e2 dp2 (by rw [t4]; exact hE2) s2 B2 x2 d4 u1 u2 u3 u4 u5 u6 (xR_tr hR' u7 (Nat.le_refl _) (Or.inl rfl)) u8 (by omega) (by omega)
          · have hev := ev_wd (args := a_args) (CL := CL) (DL := DL) (n := n) (d := T + 1) (nv := nv) (xs := xs) (ys := ys) (st := st) (e := e) (dp := dp) hN ho rfl c16 c14 c15
            have hsc : hp_sc (hp_o a_ops f) (hp_o a_args f) (pc + 1) = hp_ta o (a_args (f * 48 + pc)) (hp_sc (hp_o a_ops f) (hp_o a_args f) pc) := by rw [hp_sc, ho']
            have h13 : o ≤ 13 := by
              rcases hp_16 w1 w2 with h | h | h | h | h | h | h | h | h | h | h | h | h | h | h | h
              all_goals first
                | exact absurd h c14
                | exact absurd h c15
                | exact absurd h c16
                | (rw [h]; decide)
            rw [hsc] at w5
            have hc3 := hp_At_cc hTX hf (Or.inr hnx)
            have hcl : hp_cc (hp_o a_ops f) pc ≤ hp_cc (hp_o a_ops f) (pc + 1) := hp_cc_le (by omega)
            have h9 : o = 9 → hp_cc (hp_o a_ops f) (pc + 1) = hp_cc (hp_o a_ops f) pc + 1 := fun z => hp_cc_9 (by rw [ho']; exact z)
            refine xs_word hF hS (by rw [hhp]; decide) (by omega) (by omega) hf hpc hn48 hlf ho rfl w1 h13 w4 (by omega) (by omega) (by omega) (fun z => by have := h9 z; omega) (by omega) (fun z hz => Nat.lt_of_lt_of_le (hA z hz) hlo) hLB (fun d' B' b1 b2 hF' hS' hW => ?_)
            have hBB : B ≤ B' ∧ B' + (3 - hp_cc (hp_o a_ops f) (pc + 1)) ≤ B + (3 - hp_cc (hp_o a_ops f) pc) := by
              by_cases q9 : o = 9
              · have := b2 q9
                have := h9 q9
                omega
              · have := b1 q9
                omega
            obtain ⟨hBB, hBr⟩ := hBB
            refine ih f (pc + 1) nv xs ys _ e dp B' A L lo p m a ch T (s + 1) d' hf (Or.inr hnx) hTD heC hdp (by omega) (by omega) (by omega) hlo0 (by omega) hA hF' (by rw [hsc]; exact hS') (xW_P hW hBB hP) (by rw [xW_hp hW]; exact hhp) ?_ ?_
            · intro c hE2 d2 hz
              exact KF c (by rw [hev]; exact hE2) d2 hz
            · intro w2 e2 dp2 hE2 s2 B2 x2 d4 u1 u2 u3 u4 u5 u6 u7 u8 u9 u10
              exact KO w2 e2 dp2 (by rw [hev]; exact hE2) s2 B2 x2 d4 u1 u2 u3 u4 u5 u6 (xR_tr (xW_R hW) u7 hBB (Or.inl rfl)) (by omega) (by omega) (by omega)
end
end
section
def hp_ks (kinds : Nat → Int32) : List Bool → Prop
  | [] => True
  | k :: r => kinds r.length = hp_kI k ∧ hp_ks kinds r
def hp_RT (f_draft : Int32) (ops args passed length heldCount : Nat → Int32) : Prop := ∀ f, f < 4 → length f = nI (hp_N length f) ∧ hp_N length f ≤ 48 ∧ hp_Wd (hp_o ops f) (hp_o args f) f (hp_N length f) ∧ hp_cc (hp_o ops f) (hp_N length f) ≤ 3 ∧
  (f_draft ≠ nI f → hp_Cm (hp_o ops f) (hp_N length f) ∧ heldCount f = nI (hp_hc (hp_o ops f) (hp_N length f) (hp_N length f)) ∧ ∀ i, i < hp_N length f → ops (f * 48 + i) = 14 → passed (f * 48 + i) = hp_bI (hp_pa (hp_o ops f) (hp_N length f) i))
def hp_RD (f_draft f_height f_guarded f_consCount : Int32) (ops args length heldCount kinds : Nat → Int32) : Prop := f_draft = -1 ∨ ∃ f, f < 4 ∧ f_draft = nI f ∧ heldCount f = 0 ∧
  f_height = nI (hp_sc (hp_o ops f) (hp_o args f) (hp_N length f)).length ∧ hp_ks kinds (hp_sc (hp_o ops f) (hp_o args f) (hp_N length f)) ∧ f_guarded = hp_bI (hp_gd (hp_o ops f) (hp_N length f)) ∧ f_consCount = nI (hp_cc (hp_o ops f) (hp_N length f))
def hp_RI (items itemCount cell len : Nat → Int32) : Prop := ∀ w, w < 2 → ∃ c, c ≤ 16 ∧ itemCount w = nI c ∧ len (576 + w) = nI c ∧ ∀ i, i < c → items (w * 16 + i) = cell ((576 + w) * 208 + i)
def hp_RO (outKind outValue : Int32) (outList cell len : Nat → Int32) : Prop := (outKind = 0 ∧ outValue = 0) ∨ (outKind = 1 ∧ outValue = cell 120224) ∨ (outKind = 2 ∧ ∃ c, c ≤ 208 ∧ outValue = nI c ∧ len 578 = nI c ∧ ∀ i, i < c → outList i = cell (120224 + i))
def hp_RL (f_callLimit f_depthLimit : Int32) : Prop := ∃ CL DL, 8 ≤ CL ∧ CL ≤ 64 ∧ 1 ≤ DL ∧ DL ≤ 16 ∧ f_callLimit = nI CL ∧ f_depthLimit = nI DL
def i_Rel (k : Nat) (u : SX) (v : SY) : Prop := match u, v with
  | (f_callLimit, f_depthLimit, f_draft, f_height, f_guarded, f_consCount, f_outKind, f_outValue, f_outCalls, f_outPeak, f_cells, f_top, f_nextF, f_nextN, f_nextXs, f_nextYs, f_holePos, f_holeMul, f_holeAdd, f_holeFirst, f_holeLast, f_running, f_ending, f_entered, f_deepest, a_ops, a_args, a_passed, a_length, a_heldCount, a_kinds, a_items, a_itemCount, a_outList, a_head, a_tail, a_fn, a_pc, a_argN, a_argXs, a_argYs, a_sp, a_values, a_mul, a_add, a_first, a_last), (g_draft, g_outKind, g_outCalls, g_outPeak, g_callLimit, g_depthLimit, b_ops, b_args, b_size, b_cell, b_len, b_fn, b_pos, b_height, b_depth, n_cell) =>
    g_draft = f_draft ∧ g_outKind = f_outKind ∧ g_outCalls = f_outCalls ∧ g_outPeak = f_outPeak ∧ g_callLimit = f_callLimit ∧ g_depthLimit = f_depthLimit ∧ b_ops = a_ops ∧ b_args = a_args ∧ b_size = a_length ∧ n_cell = 120432 ∧
    hp_RL f_callLimit f_depthLimit ∧ hp_RT f_draft a_ops a_args a_passed a_length a_heldCount ∧ hp_RD f_draft f_height f_guarded f_consCount a_ops a_args a_length a_heldCount a_kinds ∧ hp_RI a_items a_itemCount b_cell b_len ∧ hp_RO f_outKind f_outValue a_outList b_cell b_len ∧ a_head 0 = 0 ∧ a_tail 0 = 0
theorem i_up {k : Nat} {u : SX} {v : SY} (h : i_Rel k u v) : i_Rel (k + 3) u v := h
theorem zz_in {k : Nat} {f_callLimit : Int32} {f_depthLimit : Int32} {f_draft : Int32} {f_height : Int32} {f_guarded : Int32} {f_consCount : Int32} {f_outKind : Int32} {f_outValue : Int32} {f_outCalls : Int32} {f_outPeak : Int32} {f_cells : Int32} {f_top : Int32} {f_nextF : Int32} {f_nextN : Int32} {f_nextXs : Int32} {f_nextYs : Int32} {f_holePos : Int32} {f_holeMul : Int32} {f_holeAdd : Int32} {f_holeFirst : Int32} {f_holeLast : Int32} {f_running : Int32} {f_ending : Int32} {f_entered : Int32} {f_deepest : Int32} {a_ops : Nat → Int32} {a_args : Nat → Int32} {a_passed : Nat → Int32} {a_length : Nat → Int32} {a_heldCount : Nat → Int32} {a_kinds : Nat → Int32} {a_items : Nat → Int32} {a_itemCount : Nat → Int32} {a_outList : Nat → Int32} {a_head : Nat → Int32} {a_tail : Nat → Int32} {a_fn : Nat → Int32} {a_pc : Nat → Int32} {a_argN : Nat → Int32} {a_argXs : Nat → Int32} {a_argYs : Nat → Int32} {a_sp : Nat → Int32} {a_values : Nat → Int32} {a_mul : Nat → Int32} {a_add : Nat → Int32} {a_first : Nat → Int32} {a_last : Nat → Int32} {b_cell b_len b_fn b_pos b_height b_depth : Nat → Int32} (h1 : hp_RL f_callLimit f_depthLimit) (h2 : hp_RT f_draft a_ops a_args a_passed a_length a_heldCount) (h3 : hp_RD f_draft f_height f_guarded f_consCount a_ops a_args a_length a_heldCount a_kinds) (h4 : hp_RI a_items a_itemCount b_cell b_len) (h5 : hp_RO f_outKind f_outValue a_outList b_cell b_len) (h6 : a_head 0 = 0) (h7 : a_tail 0 = 0) : i_Rel k (f_callLimit, f_depthLimit, f_draft, f_height, f_guarded, f_consCount, f_outKind, f_outValue, f_outCalls, f_outPeak, f_cells, f_top, f_nextF, f_nextN, f_nextXs, f_nextYs, f_holePos, f_holeMul, f_holeAdd, f_holeFirst, f_holeLast, f_running, f_ending, f_entered, f_deepest, a_ops, a_args, a_passed, a_length, a_heldCount, a_kinds, a_items, a_itemCount, a_outList, a_head, a_tail, a_fn, a_pc, a_argN, a_argXs, a_argYs, a_sp, a_values, a_mul, a_add, a_first, a_last) (f_draft, f_outKind, f_outCalls, f_outPeak, f_callLimit, f_depthLimit, a_ops, a_args, a_length, b_cell, b_len, b_fn, b_pos, b_height, b_depth, 120432) :=
  ⟨rfl, rfl, rfl, rfl, rfl, rfl, rfl, rfl, rfl, rfl, h1, h2, h3, h4, h5, h6, h7⟩
theorem zz_el {k : Nat} {u : SX} {v : SY} {P : SX → SY → Prop} (I : i_Rel k u v)
    (h : ∀ (f_callLimit : Int32) (f_depthLimit : Int32) (f_draft : Int32) (f_height : Int32) (f_guarded : Int32) (f_consCount : Int32) (f_outKind : Int32) (f_outValue : Int32) (f_outCalls : Int32) (f_outPeak : Int32) (f_cells : Int32) (f_top : Int32) (f_nextF : Int32) (f_nextN : Int32) (f_nextXs : Int32) (f_nextYs : Int32) (f_holePos : Int32) (f_holeMul : Int32) (f_holeAdd : Int32) (f_holeFirst : Int32) (f_holeLast : Int32) (f_running : Int32) (f_ending : Int32) (f_entered : Int32) (f_deepest : Int32) (a_ops : Nat → Int32) (a_args : Nat → Int32) (a_passed : Nat → Int32) (a_length : Nat → Int32) (a_heldCount : Nat → Int32) (a_kinds : Nat → Int32) (a_items : Nat → Int32) (a_itemCount : Nat → Int32) (a_outList : Nat → Int32) (a_head : Nat → Int32) (a_tail : Nat → Int32) (a_fn : Nat → Int32) (a_pc : Nat → Int32) (a_argN : Nat → Int32) (a_argXs : Nat → Int32) (a_argYs : Nat → Int32) (a_sp : Nat → Int32) (a_values : Nat → Int32) (a_mul : Nat → Int32) (a_add : Nat → Int32) (a_first : Nat → Int32) (a_last : Nat → Int32) (b_cell b_len b_fn b_pos b_height b_depth : Nat → Int32), hp_RL f_callLimit f_depthLimit → hp_RT f_draft a_ops a_args a_passed a_length a_heldCount → hp_RD f_draft f_height f_guarded f_consCount a_ops a_args a_length a_heldCount a_kinds → hp_RI a_items a_itemCount b_cell b_len → hp_RO f_outKind f_outValue a_outList b_cell b_len → a_head 0 = 0 → a_tail 0 = 0 → P (f_callLimit, f_depthLimit, f_draft, f_height, f_guarded, f_consCount, f_outKind, f_outValue, f_outCalls, f_outPeak, f_cells, f_top, f_nextF, f_nextN, f_nextXs, f_nextYs, f_holePos, f_holeMul, f_holeAdd, f_holeFirst, f_holeLast, f_running, f_ending, f_entered, f_deepest, a_ops, a_args, a_passed, a_length, a_heldCount, a_kinds, a_items, a_itemCount, a_outList, a_head, a_tail, a_fn, a_pc, a_argN, a_argXs, a_argYs, a_sp, a_values, a_mul, a_add, a_first, a_last) (f_draft, f_outKind, f_outCalls, f_outPeak, f_callLimit, f_depthLimit, a_ops, a_args, a_length, b_cell, b_len, b_fn, b_pos, b_height, b_depth, 120432)) : P u v := by
  obtain ⟨f_callLimit, f_depthLimit, f_draft, f_height, f_guarded, f_consCount, f_outKind, f_outValue, f_outCalls, f_outPeak, f_cells, f_top, f_nextF, f_nextN, f_nextXs, f_nextYs, f_holePos, f_holeMul, f_holeAdd, f_holeFirst, f_holeLast, f_running, f_ending, f_entered, f_deepest, a_ops, a_args, a_passed, a_length, a_heldCount, a_kinds, a_items, a_itemCount, a_outList, a_head, a_tail, a_fn, a_pc, a_argN, a_argXs, a_argYs, a_sp, a_values, a_mul, a_add, a_first, a_last⟩ := u
  obtain ⟨g_draft, g_outKind, g_outCalls, g_outPeak, g_callLimit, g_depthLimit, b_ops, b_args, b_size, b_cell, b_len, b_fn, b_pos, b_height, b_depth, n_cell⟩ := v
  obtain ⟨rfl, rfl, rfl, rfl, rfl, rfl, rfl, rfl, rfl, rfl, h1, h2, h3, h4, h5, h6, h7⟩ := I
  exact h _ _ _ _ _ _ _ _ _ _ _ _ _ _ _ _ _ _ _ _ _ _ _ _ _ _ _ _ _ _ _ _ _ _ _ _ _ _ _ _ _ _ _ _ _ _ _ b_cell b_len b_fn b_pos b_height b_depth h1 h2 h3 h4 h5 h6 h7
theorem hp_N_s {len : Nat → Int32} {f n : Nat} (h : n < 2 ^ 31) : hp_N (upd len f (nI n)) f = n := by
  unfold hp_N
  rw [pk_us, nI_clamp h]
theorem hp_N_n {len : Nat → Int32} {f f' : Nat} {x : Int32} (h : f' ≠ f) : hp_N (upd len f x) f' = hp_N len f' := by
  unfold hp_N
  rw [pk_un h]
theorem hp_dn {f_draft f_height f_guarded f_consCount : Int32} {ops args length heldCount kinds : Nat → Int32} (h : hp_RD f_draft f_height f_guarded f_consCount ops args length heldCount kinds) (hd : f_draft < 0) : f_draft = -1 := by
  rcases h with h | ⟨f, hf, h, _⟩
  · exact h
  · rw [h] at hd
    exact absurd hd (nI_pos (by omega))
theorem hp_m1 {f : Nat} (hf : f < 4) : (-1 : Int32) ≠ nI f := fun z => by
  have h : ¬ nI f < 0 := nI_pos (by omega)
  rw [← z] at h
  exact h (by decide)
theorem hp_RI_fr {items itemCount c l c1 l1 : Nat → Int32} (h : hp_RI items itemCount c l) (hfr : hp_fr 0 576 c l c1 l1) : hp_RI items itemCount c1 l1 := by
  intro w hw
  obtain ⟨n, h1, h2, h3, h4⟩ := h w hw
  exact ⟨n, h1, h2, (hfr.2 _ (Or.inr (by omega))).trans h3, fun i hi => (h4 i hi).trans (hfr.1 _ (Or.inr (by omega))).symm⟩
section
variable {k : Nat} {u : SX} {v : SY}
theorem i_vc_kind (I : i_Rel k u v) (hk : k + 3 ≤ 1538) : wpX_kind (fun r => wpY_kind (fun r' => r' = r ∧ i_Rel (k + 3) u v) v) u := by
  refine zz_el (P := fun u v => wpX_kind (fun r => wpY_kind (fun r' => r' = r ∧ i_Rel (k + 3) u v) v) u) I ?_
  intro f_callLimit f_depthLimit f_draft f_height f_guarded f_consCount f_outKind f_outValue f_outCalls f_outPeak f_cells f_top f_nextF f_nextN f_nextXs f_nextYs f_holePos f_holeMul f_holeAdd f_holeFirst f_holeLast f_running f_ending f_entered f_deepest a_ops a_args a_passed a_length a_heldCount a_kinds a_items a_itemCount a_outList a_head a_tail a_fn a_pc a_argN a_argXs a_argYs a_sp a_values a_mul a_add a_first a_last b_cell b_len b_fn b_pos b_height b_depth h1 h2 h3 h4 h5 h6 h7
  exact ⟨rfl, zz_in h1 h2 h3 h4 h5 h6 h7⟩
theorem i_vc_calls (I : i_Rel k u v) (hk : k + 3 ≤ 1538) : wpX_calls (fun r => wpY_calls (fun r' => r' = r ∧ i_Rel (k + 3) u v) v) u := by
  refine zz_el (P := fun u v => wpX_calls (fun r => wpY_calls (fun r' => r' = r ∧ i_Rel (k + 3) u v) v) u) I ?_
  intro f_callLimit f_depthLimit f_draft f_height f_guarded f_consCount f_outKind f_outValue f_outCalls f_outPeak f_cells f_top f_nextF f_nextN f_nextXs f_nextYs f_holePos f_holeMul f_holeAdd f_holeFirst f_holeLast f_running f_ending f_entered f_deepest a_ops a_args a_passed a_length a_heldCount a_kinds a_items a_itemCount a_outList a_head a_tail a_fn a_pc a_argN a_argXs a_argYs a_sp a_values a_mul a_add a_first a_last b_cell b_len b_fn b_pos b_height b_depth h1 h2 h3 h4 h5 h6 h7
  exact ⟨rfl, zz_in h1 h2 h3 h4 h5 h6 h7⟩
theorem i_vc_peak (I : i_Rel k u v) (hk : k + 3 ≤ 1538) : wpX_peak (fun r => wpY_peak (fun r' => r' = r ∧ i_Rel (k + 3) u v) v) u := by
  refine zz_el (P := fun u v => wpX_peak (fun r => wpY_peak (fun r' => r' = r ∧ i_Rel (k + 3) u v) v) u) I ?_
  intro f_callLimit f_depthLimit f_draft f_height f_guarded f_consCount f_outKind f_outValue f_outCalls f_outPeak f_cells f_top f_nextF f_nextN f_nextXs f_nextYs f_holePos f_holeMul f_holeAdd f_holeFirst f_holeLast f_running f_ending f_entered f_deepest a_ops a_args a_passed a_length a_heldCount a_kinds a_items a_itemCount a_outList a_head a_tail a_fn a_pc a_argN a_argXs a_argYs a_sp a_values a_mul a_add a_first a_last b_cell b_len b_fn b_pos b_height b_depth h1 h2 h3 h4 h5 h6 h7
  exact ⟨rfl, zz_in h1 h2 h3 h4 h5 h6 h7⟩
theorem i_vc_value (I : i_Rel k u v) (hk : k + 3 ≤ 1538) : wpX_value (fun r => wpY_value (fun r' => r' = r ∧ i_Rel (k + 3) u v) v) u := by
  refine zz_el (P := fun u v => wpX_value (fun r => wpY_value (fun r' => r' = r ∧ i_Rel (k + 3) u v) v) u) I ?_
  intro f_callLimit f_depthLimit f_draft f_height f_guarded f_consCount f_outKind f_outValue f_outCalls f_outPeak f_cells f_top f_nextF f_nextN f_nextXs f_nextYs f_holePos f_holeMul f_holeAdd f_holeFirst f_holeLast f_running f_ending f_entered f_deepest a_ops a_args a_passed a_length a_heldCount a_kinds a_items a_itemCount a_outList a_head a_tail a_fn a_pc a_argN a_argXs a_argYs a_sp a_values a_mul a_add a_first a_last b_cell b_len b_fn b_pos b_height b_depth h1 h2 h3 h4 h5 h6 h7
  have hz : ∀ j, i_Rel j (f_callLimit, f_depthLimit, f_draft, f_height, f_guarded, f_consCount, f_outKind, f_outValue, f_outCalls, f_outPeak, f_cells, f_top, f_nextF, f_nextN, f_nextXs, f_nextYs, f_holePos, f_holeMul, f_holeAdd, f_holeFirst, f_holeLast, f_running, f_ending, f_entered, f_deepest, a_ops, a_args, a_passed, a_length, a_heldCount, a_kinds, a_items, a_itemCount, a_outList, a_head, a_tail, a_fn, a_pc, a_argN, a_argXs, a_argYs, a_sp, a_values, a_mul, a_add, a_first, a_last) (f_draft, f_outKind, f_outCalls, f_outPeak, f_callLimit, f_depthLimit, a_ops, a_args, a_length, b_cell, b_len, b_fn, b_pos, b_height, b_depth, 120432) := fun j => zz_in h1 h2 h3 h4 h5 h6 h7
  rcases h5 with ⟨e1, e2⟩ | ⟨e1, e2⟩ | ⟨e1, c, hc, e2, e3, e4⟩
  · exact br_f (by rw [e1]; decide) (br_f (by rw [e1]; decide) ⟨e2.symm, hz _⟩)
  · exact br_t e1 ⟨vp_in_nI (n := 120224) (by decide) (by decide), e2.symm, hz _⟩
  · exact br_f (by rw [e1]; decide) (br_t e1 ⟨e3.trans e2.symm, hz _⟩)
theorem i_vc_at (I : i_Rel k u v) (hk : k + 3 ≤ 1538) (v1 : Int32) : wpX_at (fun r => wpY_at (fun r' => r' = r ∧ i_Rel (k + 3) u v) v v1) u v1 := by
  refine zz_el (P := fun u v => wpX_at (fun r => wpY_at (fun r' => r' = r ∧ i_Rel (k + 3) u v) v v1) u v1) I ?_
  intro f_callLimit f_depthLimit f_draft f_height f_guarded f_consCount f_outKind f_outValue f_outCalls f_outPeak f_cells f_top f_nextF f_nextN f_nextXs f_nextYs f_holePos f_holeMul f_holeAdd f_holeFirst f_holeLast f_running f_ending f_entered f_deepest a_ops a_args a_passed a_length a_heldCount a_kinds a_items a_itemCount a_outList a_head a_tail a_fn a_pc a_argN a_argXs a_argYs a_sp a_values a_mul a_add a_first a_last b_cell b_len b_fn b_pos b_height b_depth h1 h2 h3 h4 h5 h6 h7
  have hz : ∀ j, i_Rel j (f_callLimit, f_depthLimit, f_draft, f_height, f_guarded, f_consCount, f_outKind, f_outValue, f_outCalls, f_outPeak, f_cells, f_top, f_nextF, f_nextN, f_nextXs, f_nextYs, f_holePos, f_holeMul, f_holeAdd, f_holeFirst, f_holeLast, f_running, f_ending, f_entered, f_deepest, a_ops, a_args, a_passed, a_length, a_heldCount, a_kinds, a_items, a_itemCount, a_outList, a_head, a_tail, a_fn, a_pc, a_argN, a_argXs, a_argYs, a_sp, a_values, a_mul, a_add, a_first, a_last) (f_draft, f_outKind, f_outCalls, f_outPeak, f_callLimit, f_depthLimit, a_ops, a_args, a_length, b_cell, b_len, b_fn, b_pos, b_height, b_depth, 120432) := fun j => zz_in h1 h2 h3 h4 h5 h6 h7
  rcases h5 with ⟨e1, e2⟩ | ⟨e1, e2⟩ | ⟨e1, c, hc, e2, e3, e4⟩
  · have n2 : ¬ f_outKind = 2 := by rw [e1]; decide
    exact br_f n2 (br_f n2 ⟨rfl, hz _⟩)
  · have n2 : ¬ f_outKind = 2 := by rw [e1]; decide
    exact br_f n2 (br_f n2 ⟨rfl, hz _⟩)
  · rcases pk_ix v1 (n := c) (by omega) with z | z | ⟨j, hj, rfl⟩
    · exact br_t e1 (br_t z (br_t e1 (br_t z ⟨rfl, hz _⟩)))
    · have z0 : ¬ v1 < 0 := Int32.not_lt.mpr (Int32.le_trans (nI_pos' (by omega)) z)
      refine br_t e1 (br_f z0 (br_t (by rw [e2]; exact z) (br_t e1 (br_f z0 (br_t ?_ ⟨rfl, hz _⟩)))))
      rw [e3]
      exact z
    · have z0 : ¬ nI j < 0 := nI_pos (by omega)
      have ej : (120224 : Int32) + nI j = nI (120224 + j) := nI_add 120224 j
      have e5 : (nI j).toNatClampNeg = j := nI_clamp (by omega)
      have e6 : (nI (120224 + j)).toNatClampNeg = 120224 + j := nI_clamp (by omega)
      refine br_t e1 (br_f z0 (br_f (by rw [e2]; exact nI_ge hj (by omega)) ⟨vp_in_nI (by omega) (by decide), br_t e1 (br_f z0 (br_f (by rw [e3]; exact nI_ge hj (by omega)) ?_))⟩))
      rw [ej, e5, e6]
      exact ⟨vp_in_nI (by omega) (by decide), (e4 j hj).symm, hz _⟩
end
end
section
def hp_cl (lo hi : Nat) (x : Int32) (c : Nat) : Prop := (¬ nI lo ≤ x ∧ c = lo) ∨ (nI lo ≤ x ∧ x ≤ nI hi ∧ x = nI c ∧ lo ≤ c ∧ c ≤ hi) ∨ (nI lo ≤ x ∧ ¬ x ≤ nI hi ∧ c = hi)
theorem hp_cl_e (lo hi : Nat) (hlh : lo ≤ hi) (hh : hi < 2 ^ 31) (x : Int32) : ∃ c, hp_cl lo hi x c ∧ lo ≤ c ∧ c ≤ hi := by
  by_cases h1 : nI lo ≤ x
  · by_cases h2 : x ≤ nI hi
    · have h0 : ¬ x < 0 := Int32.not_lt.mpr (Int32.le_trans (nI_pos' (by omega)) h1)
      obtain ⟨j, hj, rfl⟩ := nI_of h0
      rw [nI_leI (by omega) (by omega)] at h1 h2
      exact ⟨j, Or.inr (Or.inl ⟨nI_le h1 (by omega), nI_le h2 (by omega), rfl, h1, h2⟩), h1, h2⟩
    · exact ⟨hi, Or.inr (Or.inr ⟨h1, h2, rfl⟩), hlh, Nat.le_refl _⟩
  · exact ⟨lo, Or.inl ⟨h1, rfl⟩, Nat.le_refl _, hlh⟩
theorem xi_init {Q : SX → Prop} {k0 k1 : Int32} {CL DL : Nat} (h1 : hp_cl 8 64 k0 CL) (h2 : hp_cl 1 16 k1 DL) (K : Q (nI CL, nI DL, -1, 0, 0, 0, 0, 0, 0, 0, 1, -1, 0, 0, 0, 0, -1, 0, 0, 0, 0, 0, 0, 0, 0, (fun _ => 0), (fun _ => 0), (fun _ => 0), (fun _ => 0), (fun _ => 0), (fun _ => 0), (fun _ => 0), (fun _ => 0), (fun _ => 0), (fun _ => 0), (fun _ => 0), (fun _ => 0), (fun _ => 0), (fun _ => 0), (fun _ => 0), (fun _ => 0), (fun _ => 0), (fun _ => 0), (fun _ => 0), (fun _ => 0), (fun _ => 0), (fun _ => 0))) : wpX_init Q k0 k1 := by
  rcases h1 with ⟨a1, rfl⟩ | ⟨a1, a2, rfl, _, _⟩ | ⟨a1, a2, rfl⟩
  · refine br_f a1 ?_
    rcases h2 with ⟨b1, rfl⟩ | ⟨b1, b2, rfl, _, _⟩ | ⟨b1, b2, rfl⟩
    · exact br_f b1 (br_t (by decide) (br_t (by decide) K))
    · exact br_t b1 (br_t (by decide) (br_t b2 K))
    · exact br_t b1 (br_t (by decide) (br_f b2 K))
  · refine br_t a1 ?_
    rcases h2 with ⟨b1, rfl⟩ | ⟨b1, b2, rfl, _, _⟩ | ⟨b1, b2, rfl⟩
    · exact br_f b1 (br_t a2 (br_t (by decide) K))
    · exact br_t b1 (br_t a2 (br_t b2 K))
    · exact br_t b1 (br_t a2 (br_f b2 K))
  · refine br_t a1 ?_
    rcases h2 with ⟨b1, rfl⟩ | ⟨b1, b2, rfl, _, _⟩ | ⟨b1, b2, rfl⟩
    · exact br_f b1 (br_f a2 (br_t (by decide) K))
    · exact br_t b1 (br_f a2 (br_t b2 K))
    · exact br_t b1 (br_f a2 (br_f b2 K))
theorem yi_init {Q : SY → Prop} {k0 k1 : Int32} {CL DL : Nat} (h1 : hp_cl 8 64 k0 CL) (h2 : hp_cl 1 16 k1 DL) (K : Q (-1, 0, 0, 0, nI CL, nI DL, (fun _ => 0), (fun _ => 0), (fun _ => 0), (fun _ => 0), (fun _ => 0), (fun _ => 0), (fun _ => 0), (fun _ => 0), (fun _ => 0), 120432)) : wpY_init Q k0 k1 := by
  refine And.intro (by decide) (nm_r (e' := 120432) (by decide) (And.intro (Nat.le_refl _) ?_))
  have K' : ∀ c, c = nI CL → wY_init_122 Q k1 c (-1) 0 0 0 0 0 (fun _ => 0) (fun _ => 0) (fun _ => 0) (fun _ => 0) (fun _ => 0) (fun _ => 0) (fun _ => 0) (fun _ => 0) (fun _ => 0) 120432 := by
    intro c hc
    subst hc
    rcases h2 with ⟨b1, rfl⟩ | ⟨b1, b2, rfl, _, _⟩ | ⟨b1, b2, rfl⟩
    · exact br_f b1 K
    · exact br_t b1 (br_t b2 K)
    · exact br_t b1 (br_f b2 K)
  rcases h1 with ⟨a1, rfl⟩ | ⟨a1, a2, a3, _, _⟩ | ⟨a1, a2, rfl⟩
  · exact br_f a1 (K' _ rfl)
  · exact br_t a1 (br_t a2 (K' _ a3))
  · exact br_t a1 (br_f a2 (K' _ rfl))
theorem i_vc0 (k0 : Int32) (k1 : Int32) : wpX_init (fun u => wpY_init (fun v => i_Rel 2 u v) k0 k1) k0 k1 := by
  obtain ⟨CL, hC, c1, c2⟩ := hp_cl_e 8 64 (by decide) (by decide) k0
  obtain ⟨DL, hD, d1, d2⟩ := hp_cl_e 1 16 (by decide) (by decide) k1
  refine xi_init hC hD (yi_init hC hD (zz_in ⟨CL, DL, c1, c2, d1, d2, rfl, rfl⟩ ?_ (Or.inl rfl) ?_ (Or.inl ⟨rfl, rfl⟩) rfl rfl))
  · intro f hf
    have e : hp_N (fun _ => 0) f = 0 := rfl
    rw [e]
    exact ⟨rfl, by decide, fun i hi => absurd hi (Nat.not_lt_zero i), Nat.zero_le _, fun _ => ⟨Or.inl rfl, rfl, fun i hi => absurd hi (Nat.not_lt_zero i)⟩⟩
  · intro w hw
    exact ⟨0, by decide, rfl, rfl, fun i hi => absurd hi (Nat.not_lt_zero i)⟩
theorem xl_isf {f_callLimit : Int32} {f_depthLimit : Int32} {f_draft : Int32} {f_height : Int32} {f_guarded : Int32} {f_consCount : Int32} {f_outKind : Int32} {f_outValue : Int32} {f_outCalls : Int32} {f_outPeak : Int32} {f_cells : Int32} {f_top : Int32} {f_nextF : Int32} {f_nextN : Int32} {f_nextXs : Int32} {f_nextYs : Int32} {f_holePos : Int32} {f_holeMul : Int32} {f_holeAdd : Int32} {f_holeFirst : Int32} {f_holeLast : Int32} {f_running : Int32} {f_ending : Int32} {f_entered : Int32} {f_deepest : Int32} {a_ops : Nat → Int32} {a_args : Nat → Int32} {a_passed : Nat → Int32} {a_length : Nat → Int32} {a_heldCount : Nat → Int32} {a_kinds : Nat → Int32} {a_items : Nat → Int32} {a_itemCount : Nat → Int32} {a_outList : Nat → Int32} {a_head : Nat → Int32} {a_tail : Nat → Int32} {a_fn : Nat → Int32} {a_pc : Nat → Int32} {a_argN : Nat → Int32} {a_argXs : Nat → Int32} {a_argYs : Nat → Int32} {a_sp : Nat → Int32} {a_values : Nat → Int32} {a_mul : Nat → Int32} {a_add : Nat → Int32} {a_first : Nat → Int32} {a_last : Nat → Int32} {Q : Int32 → Prop} {x : Int32} (K0 : (x < 0 ∨ 4 ≤ x) → Q 0) (K1 : ¬ x < 0 → ¬ 4 ≤ x → Q 1) : wpX_isFunction Q (f_callLimit, f_depthLimit, f_draft, f_height, f_guarded, f_consCount, f_outKind, f_outValue, f_outCalls, f_outPeak, f_cells, f_top, f_nextF, f_nextN, f_nextXs, f_nextYs, f_holePos, f_holeMul, f_holeAdd, f_holeFirst, f_holeLast, f_running, f_ending, f_entered, f_deepest, a_ops, a_args, a_passed, a_length, a_heldCount, a_kinds, a_items, a_itemCount, a_outList, a_head, a_tail, a_fn, a_pc, a_argN, a_argXs, a_argYs, a_sp, a_values, a_mul, a_add, a_first, a_last) x :=
  br_c (fun z => K0 (Or.inl z)) (fun z => br_c (fun z2 => K0 (Or.inr z2)) (fun z2 => K1 z z2))
theorem xl_isl {f_callLimit : Int32} {f_depthLimit : Int32} {f_draft : Int32} {f_height : Int32} {f_guarded : Int32} {f_consCount : Int32} {f_outKind : Int32} {f_outValue : Int32} {f_outCalls : Int32} {f_outPeak : Int32} {f_cells : Int32} {f_top : Int32} {f_nextF : Int32} {f_nextN : Int32} {f_nextXs : Int32} {f_nextYs : Int32} {f_holePos : Int32} {f_holeMul : Int32} {f_holeAdd : Int32} {f_holeFirst : Int32} {f_holeLast : Int32} {f_running : Int32} {f_ending : Int32} {f_entered : Int32} {f_deepest : Int32} {a_ops : Nat → Int32} {a_args : Nat → Int32} {a_passed : Nat → Int32} {a_length : Nat → Int32} {a_heldCount : Nat → Int32} {a_kinds : Nat → Int32} {a_items : Nat → Int32} {a_itemCount : Nat → Int32} {a_outList : Nat → Int32} {a_head : Nat → Int32} {a_tail : Nat → Int32} {a_fn : Nat → Int32} {a_pc : Nat → Int32} {a_argN : Nat → Int32} {a_argXs : Nat → Int32} {a_argYs : Nat → Int32} {a_sp : Nat → Int32} {a_values : Nat → Int32} {a_mul : Nat → Int32} {a_add : Nat → Int32} {a_first : Nat → Int32} {a_last : Nat → Int32} {Q : Int32 → Prop} {x : Int32} (K1 : (x = 0 ∨ x = 1) → Q 1) (K0 : ¬ x = 0 → ¬ x = 1 → Q 0) : wpX_isList Q (f_callLimit, f_depthLimit, f_draft, f_height, f_guarded, f_consCount, f_outKind, f_outValue, f_outCalls, f_outPeak, f_cells, f_top, f_nextF, f_nextN, f_nextXs, f_nextYs, f_holePos, f_holeMul, f_holeAdd, f_holeFirst, f_holeLast, f_running, f_ending, f_entered, f_deepest, a_ops, a_args, a_passed, a_length, a_heldCount, a_kinds, a_items, a_itemCount, a_outList, a_head, a_tail, a_fn, a_pc, a_argN, a_argXs, a_argYs, a_sp, a_values, a_mul, a_add, a_first, a_last) x :=
  br_c (fun z => K1 (Or.inl z)) (fun z => br_c (fun z2 => K1 (Or.inr z2)) (fun z2 => K0 z z2))
theorem hp_f4 (x : Int32) : (x < 0 ∨ 4 ≤ x) ∨ ∃ f, f < 4 ∧ x = nI f ∧ ¬ x < 0 ∧ ¬ 4 ≤ x ∧ x < 4 := by
  rcases pk_ix x (n := 4) (by decide) with z | z | ⟨j, hj, rfl⟩
  · exact Or.inl (Or.inl z)
  · exact Or.inl (Or.inr z)
  · exact Or.inr ⟨j, hj, rfl, nI_pos (by omega), nI_ge (b := 4) hj (by decide), nI_lt (b := 4) hj (by decide)⟩
theorem hp_w2 (x : Int32) : (¬ x = 0 ∧ ¬ x = 1 ∧ (x < 0 ∨ (¬ x < 0 ∧ ¬ x ≤ 1 ∧ 1 < x))) ∨ ∃ w, w < 2 ∧ x = nI w ∧ (x = 0 ∨ x = 1) ∧ ¬ x < 0 ∧ x ≤ 1 ∧ ¬ 1 < x := by
  rcases pk_ix x (n := 2) (by decide) with z | z | ⟨j, hj, rfl⟩
  · exact Or.inl ⟨fun q => by rw [q] at z; exact absurd z (by decide), fun q => by rw [q] at z; exact absurd z (by decide), Or.inl z⟩
  · have z' : nI 2 ≤ x := z
    have z1 : ¬ x ≤ 1 := fun q => absurd (Int32.le_trans z' q) (by decide)
    exact Or.inl ⟨fun q => by rw [q] at z; exact absurd z (by decide), fun q => by rw [q] at z; exact absurd z (by decide), Or.inr ⟨Int32.not_lt.mpr (Int32.le_trans (by decide) z'), z1, Int32.not_le.mp z1⟩⟩
  · have : j = 0 ∨ j = 1 := by omega
    rcases this with rfl | rfl
    · exact Or.inr ⟨0, hj, rfl, Or.inl rfl, by decide, by decide, by decide⟩
    · exact Or.inr ⟨1, hj, rfl, Or.inr rfl, by decide, by decide, by decide⟩
section
variable {k : Nat} {u : SX} {v : SY}
theorem i_vc_begin (I : i_Rel k u v) (hk : k + 3 ≤ 1538) (v1 : Int32) : wpX_begin (fun r u' => wpY_begin (fun r' v' => r' = r ∧ i_Rel (k + 3) u' v') v v1) u v1 := by
  refine zz_el (P := fun u v => wpX_begin (fun r u' => wpY_begin (fun r' v' => r' = r ∧ i_Rel (k + 3) u' v') v v1) u v1) I ?_
  intro f_callLimit f_depthLimit f_draft f_height f_guarded f_consCount f_outKind f_outValue f_outCalls f_outPeak f_cells f_top f_nextF f_nextN f_nextXs f_nextYs f_holePos f_holeMul f_holeAdd f_holeFirst f_holeLast f_running f_ending f_entered f_deepest a_ops a_args a_passed a_length a_heldCount a_kinds a_items a_itemCount a_outList a_head a_tail a_fn a_pc a_argN a_argXs a_argYs a_sp a_values a_mul a_add a_first a_last b_cell b_len b_fn b_pos b_height b_depth h1 h2 h3 h4 h5 h6 h7
  have hz : ∀ j, i_Rel j (f_callLimit, f_depthLimit, f_draft, f_height, f_guarded, f_consCount, f_outKind, f_outValue, f_outCalls, f_outPeak, f_cells, f_top, f_nextF, f_nextN, f_nextXs, f_nextYs, f_holePos, f_holeMul, f_holeAdd, f_holeFirst, f_holeLast, f_running, f_ending, f_entered, f_deepest, a_ops, a_args, a_passed, a_length, a_heldCount, a_kinds, a_items, a_itemCount, a_outList, a_head, a_tail, a_fn, a_pc, a_argN, a_argXs, a_argYs, a_sp, a_values, a_mul, a_add, a_first, a_last) (f_draft, f_outKind, f_outCalls, f_outPeak, f_callLimit, f_depthLimit, a_ops, a_args, a_length, b_cell, b_len, b_fn, b_pos, b_height, b_depth, 120432) := fun j => zz_in h1 h2 h3 h4 h5 h6 h7
  dsimp only [wpX_begin]
  rcases hp_f4 v1 with z | ⟨f, hf, rfl, z1, z2, z3⟩
  · refine xl_isf (fun _ => br_t rfl ?_) (fun a b => (z.elim a b).elim)
    rcases z with z | z
    · exact br_t z ⟨rfl, hz _⟩
    · exact br_f (Int32.not_lt.mpr (Int32.le_trans (by decide) z)) (br_f (Int32.not_lt.mpr z) ⟨rfl, hz _⟩)
  · refine xl_isf (fun z => (z.elim z1 z2).elim) (fun _ _ => br_f (by decide) (br_c (fun hd => ?_) (fun hd => ?_)))
    · have e1 : (nI f).toNatClampNeg = f := nI_clamp (by omega)
      have i1 : vp_in (nI f) 4 := vp_in_nI hf (by decide)
      have hdr := hp_dn h3 hd
      rw [e1]
      refine And.intro i1 (nm_e (And.intro i1 (nm_e ?_)))
      refine br_f z1 (br_t z3 (br_t hd ?_))
      rw [e1]
      refine And.intro i1 (nm_e (And.intro rfl (zz_in h1 ?_ (Or.inr ⟨f, hf, rfl, pk_us, ?_⟩) h4 h5 h6 h7)))
      · intro f' hf'
        by_cases e : f' = f
        · subst e
          have en : hp_N (upd a_length f' 0) f' = 0 := hp_N_s (n := 0) (by decide)
          rw [en]
          exact ⟨pk_us, by decide, fun i hi => absurd hi (Nat.not_lt_zero i), Nat.zero_le _, fun q => absurd rfl q⟩
        · rw [hp_N_n e, pk_un e, pk_un e]
          obtain ⟨t1, t2, t3, t4, t5⟩ := h2 f' hf'
          exact ⟨t1, t2, t3, t4, fun _ => t5 (by rw [hdr]; exact hp_m1 hf')⟩
      · have en : hp_N (upd a_length f 0) f = 0 := hp_N_s (n := 0) (by decide)
        rw [en]
        exact ⟨rfl, trivial, rfl, rfl⟩
    · exact br_f z1 (br_t z3 (br_f hd ⟨rfl, hz _⟩))
theorem i_vc_drop (I : i_Rel k u v) (hk : k + 3 ≤ 1538) : wpX_drop (fun r u' => wpY_drop (fun r' v' => r' = r ∧ i_Rel (k + 3) u' v') v) u := by
  refine zz_el (P := fun u v => wpX_drop (fun r u' => wpY_drop (fun r' v' => r' = r ∧ i_Rel (k + 3) u' v') v) u) I ?_
  intro f_callLimit f_depthLimit f_draft f_height f_guarded f_consCount f_outKind f_outValue f_outCalls f_outPeak f_cells f_top f_nextF f_nextN f_nextXs f_nextYs f_holePos f_holeMul f_holeAdd f_holeFirst f_holeLast f_running f_ending f_entered f_deepest a_ops a_args a_passed a_length a_heldCount a_kinds a_items a_itemCount a_outList a_head a_tail a_fn a_pc a_argN a_argXs a_argYs a_sp a_values a_mul a_add a_first a_last b_cell b_len b_fn b_pos b_height b_depth h1 h2 h3 h4 h5 h6 h7
  have hz : ∀ j, i_Rel j (f_callLimit, f_depthLimit, f_draft, f_height, f_guarded, f_consCount, f_outKind, f_outValue, f_outCalls, f_outPeak, f_cells, f_top, f_nextF, f_nextN, f_nextXs, f_nextYs, f_holePos, f_holeMul, f_holeAdd, f_holeFirst, f_holeLast, f_running, f_ending, f_entered, f_deepest, a_ops, a_args, a_passed, a_length, a_heldCount, a_kinds, a_items, a_itemCount, a_outList, a_head, a_tail, a_fn, a_pc, a_argN, a_argXs, a_argYs, a_sp, a_values, a_mul, a_add, a_first, a_last) (f_draft, f_outKind, f_outCalls, f_outPeak, f_callLimit, f_depthLimit, a_ops, a_args, a_length, b_cell, b_len, b_fn, b_pos, b_height, b_depth, 120432) := fun j => zz_in h1 h2 h3 h4 h5 h6 h7
  rcases h3 with rfl | ⟨f, hf, rfl, hheld, _⟩
  · exact br_f (by decide) (br_f (by decide) ⟨rfl, hz _⟩)
  · have z1 : 0 ≤ nI f := nI_pos' (by omega)
    have e1 : (nI f).toNatClampNeg = f := nI_clamp (by omega)
    have i1 : vp_in (nI f) 4 := vp_in_nI hf (by decide)
    refine br_t z1 ?_
    rw [e1]
    refine And.intro i1 (nm_e (br_t z1 ?_))
    rw [e1]
    refine And.intro i1 (nm_e (And.intro rfl (zz_in h1 ?_ (Or.inl rfl) h4 h5 h6 h7)))
    intro f' hf'
    by_cases e : f' = f
    · subst e
      have en : hp_N (upd a_length f' 0) f' = 0 := hp_N_s (n := 0) (by decide)
      rw [en]
      exact ⟨pk_us, by decide, fun i hi => absurd hi (Nat.not_lt_zero i), Nat.zero_le _, fun _ => ⟨Or.inl rfl, hheld, fun i hi => absurd hi (Nat.not_lt_zero i)⟩⟩
    · rw [hp_N_n e, pk_un e]
      obtain ⟨t1, t2, t3, t4, t5⟩ := h2 f' hf'
      exact ⟨t1, t2, t3, t4, fun _ => t5 (fun q => e ((nI_eq (by omega) (by omega)).mp q).symm)⟩
theorem i_vc_put (I : i_Rel k u v) (hk : k + 3 ≤ 1538) (v1 : Int32) (v2 : Int32) : wpX_put (fun r u' => wpY_put (fun r' v' => r' = r ∧ i_Rel (k + 3) u' v') v v1 v2) u v1 v2 := by
  refine zz_el (P := fun u v => wpX_put (fun r u' => wpY_put (fun r' v' => r' = r ∧ i_Rel (k + 3) u' v') v v1 v2) u v1 v2) I ?_
  intro f_callLimit f_depthLimit f_draft f_height f_guarded f_consCount f_outKind f_outValue f_outCalls f_outPeak f_cells f_top f_nextF f_nextN f_nextXs f_nextYs f_holePos f_holeMul f_holeAdd f_holeFirst f_holeLast f_running f_ending f_entered f_deepest a_ops a_args a_passed a_length a_heldCount a_kinds a_items a_itemCount a_outList a_head a_tail a_fn a_pc a_argN a_argXs a_argYs a_sp a_values a_mul a_add a_first a_last b_cell b_len b_fn b_pos b_height b_depth h1 h2 h3 h4 h5 h6 h7
  have hz : ∀ j, i_Rel j (f_callLimit, f_depthLimit, f_draft, f_height, f_guarded, f_consCount, f_outKind, f_outValue, f_outCalls, f_outPeak, f_cells, f_top, f_nextF, f_nextN, f_nextXs, f_nextYs, f_holePos, f_holeMul, f_holeAdd, f_holeFirst, f_holeLast, f_running, f_ending, f_entered, f_deepest, a_ops, a_args, a_passed, a_length, a_heldCount, a_kinds, a_items, a_itemCount, a_outList, a_head, a_tail, a_fn, a_pc, a_argN, a_argXs, a_argYs, a_sp, a_values, a_mul, a_add, a_first, a_last) (f_draft, f_outKind, f_outCalls, f_outPeak, f_callLimit, f_depthLimit, a_ops, a_args, a_length, b_cell, b_len, b_fn, b_pos, b_height, b_depth, 120432) := fun j => zz_in h1 h2 h3 h4 h5 h6 h7
  dsimp only [wpX_put]
  rcases hp_w2 v1 with ⟨n0, n1, z⟩ | ⟨w, hw, rfl, z01, z0, z1, z1'⟩
  · refine xl_isl (fun q => (q.elim n0 n1).elim) (fun _ _ => br_t rfl ?_)
    rcases z with z | ⟨za, zb, _⟩
    · exact br_t z ⟨rfl, hz _⟩
    · exact br_f za (br_f zb ⟨rfl, hz _⟩)
  · have e1 : (nI w).toNatClampNeg = w := nI_clamp (by omega)
    have i1 : vp_in (nI w) 2 := vp_in_nI hw (by decide)
    have es : (576 : Int32) + nI w = nI (576 + w) := nI_add 576 w
    have e2 : (nI (576 + w)).toNatClampNeg = 576 + w := nI_clamp (by omega)
    have i2 : vp_in (nI (576 + w)) 579 := vp_in_nI (by omega) (by decide)
    obtain ⟨c, hc, c1, c2, c3⟩ := h4 w hw
    refine xl_isl (fun _ => br_f (by decide) ?_) (fun a b => (z01.elim a b).elim)
    rw [e1, c1]
    have Y0 : ∀ Q : Int32 → SY → Prop, (16 ≤ c → Q (-5) (f_draft, f_outKind, f_outCalls, f_outPeak, f_callLimit, f_depthLimit, a_ops, a_args, a_length, b_cell, b_len, b_fn, b_pos, b_height, b_depth, 120432)) → (c < 16 → Q 0 (f_draft, f_outKind, f_outCalls, f_outPeak, f_callLimit, f_depthLimit, a_ops, a_args, a_length, upd b_cell ((576 + w) * 208 + c) v2, upd b_len (576 + w) (nI (c + 1)), b_fn, b_pos, b_height, b_depth, 120432)) → wpY_put Q (f_draft, f_outKind, f_outCalls, f_outPeak, f_callLimit, f_depthLimit, a_ops, a_args, a_length, b_cell, b_len, b_fn, b_pos, b_height, b_depth, 120432) (nI w) v2 := by
      intro Q q1 q2
      refine br_f z0 (br_t z1 (nm_r es ?_))
      have e4 : nI (576 + w) * 208 + nI c = nI ((576 + w) * 208 + c) := by rw [show (208 : Int32) = nI 208 from rfl, pk_mul, nI_add]
      have e5 : (nI ((576 + w) * 208 + c)).toNatClampNeg = (576 + w) * 208 + c := nI_clamp (by omega)
      rw [e2, c2, e4, e5, nI_1 c]
      refine And.intro i2 (br_c (fun q => ?_) (fun q => ?_))
      · have q' : nI c < nI 16 := q
        rw [nI_ltI (by omega) (by omega)] at q'
        exact And.intro i2 (And.intro (vp_in_nI (by omega) (by decide)) (nm_e (And.intro i2 (And.intro i2 (nm_e (q2 q'))))))
      · have q' : ¬ nI c < nI 16 := q
        rw [nI_ltI (by omega) (by omega)] at q'
        exact q1 (by omega)
    refine And.intro i1 (br_c (fun q => ?_) (fun q => ?_))
    · have q' : nI c < nI 16 := q
      rw [nI_ltI (by omega) (by omega)] at q'
      have e3 : nI w * 16 + nI c = nI (w * 16 + c) := by rw [show (16 : Int32) = nI 16 from rfl, pk_mul, nI_add]
      have e4 : (nI (w * 16 + c)).toNatClampNeg = w * 16 + c := nI_clamp (by omega)
      rw [e3, e4, nI_1 c]
      refine And.intro i1 (And.intro (vp_in_nI (by omega) (by decide)) (nm_e (And.intro i1 (And.intro i1 (nm_e ?_)))))
      refine Y0 _ (fun q => by omega) (fun _ => And.intro rfl (zz_in h1 h2 h3 ?_ ?_ h6 h7))
      · intro w' hw'
        by_cases e : w' = w
        · subst e
          refine ⟨c + 1, by omega, pk_us, pk_us, fun i hi => ?_⟩
          by_cases ei : i = c
          · subst ei
            rw [pk_us, pk_us]
          · rw [pk_un (by omega), pk_un (by omega)]
            exact c3 i (by omega)
        · obtain ⟨c', d1, d2, d3, d4⟩ := h4 w' hw'
          refine ⟨c', d1, by rw [pk_un e]; exact d2, by rw [pk_un (by omega)]; exact d3, fun i hi => ?_⟩
          rw [pk_un (by omega), pk_un (by omega)]
          exact d4 i hi
      · rcases h5 with h5 | ⟨a1, a2⟩ | ⟨a1, c', a2, a3, a4, a5⟩
        · exact Or.inl h5
        · exact Or.inr (Or.inl ⟨a1, by rw [pk_un (by omega)]; exact a2⟩)
        · exact Or.inr (Or.inr ⟨a1, c', a2, a3, by rw [pk_un (by omega)]; exact a4, fun i hi => by rw [pk_un (by omega)]; exact a5 i hi⟩)
    · have q' : ¬ nI c < nI 16 := q
      rw [nI_ltI (by omega) (by omega)] at q'
      exact Y0 _ (fun _ => ⟨rfl, hz _⟩) (fun q => absurd q q')
theorem i_vc_clear (I : i_Rel k u v) (hk : k + 3 ≤ 1538) (v1 : Int32) : wpX_clear (fun r u' => wpY_clear (fun r' v' => r' = r ∧ i_Rel (k + 3) u' v') v v1) u v1 := by
  refine zz_el (P := fun u v => wpX_clear (fun r u' => wpY_clear (fun r' v' => r' = r ∧ i_Rel (k + 3) u' v') v v1) u v1) I ?_
  intro f_callLimit f_depthLimit f_draft f_height f_guarded f_consCount f_outKind f_outValue f_outCalls f_outPeak f_cells f_top f_nextF f_nextN f_nextXs f_nextYs f_holePos f_holeMul f_holeAdd f_holeFirst f_holeLast f_running f_ending f_entered f_deepest a_ops a_args a_passed a_length a_heldCount a_kinds a_items a_itemCount a_outList a_head a_tail a_fn a_pc a_argN a_argXs a_argYs a_sp a_values a_mul a_add a_first a_last b_cell b_len b_fn b_pos b_height b_depth h1 h2 h3 h4 h5 h6 h7
  have hz : ∀ j, i_Rel j (f_callLimit, f_depthLimit, f_draft, f_height, f_guarded, f_consCount, f_outKind, f_outValue, f_outCalls, f_outPeak, f_cells, f_top, f_nextF, f_nextN, f_nextXs, f_nextYs, f_holePos, f_holeMul, f_holeAdd, f_holeFirst, f_holeLast, f_running, f_ending, f_entered, f_deepest, a_ops, a_args, a_passed, a_length, a_heldCount, a_kinds, a_items, a_itemCount, a_outList, a_head, a_tail, a_fn, a_pc, a_argN, a_argXs, a_argYs, a_sp, a_values, a_mul, a_add, a_first, a_last) (f_draft, f_outKind, f_outCalls, f_outPeak, f_callLimit, f_depthLimit, a_ops, a_args, a_length, b_cell, b_len, b_fn, b_pos, b_height, b_depth, 120432) := fun j => zz_in h1 h2 h3 h4 h5 h6 h7
  dsimp only [wpX_clear]
  rcases hp_w2 v1 with ⟨n0, n1, z⟩ | ⟨w, hw, rfl, z01, z0, z1, z1'⟩
  · refine xl_isl (fun q => (q.elim n0 n1).elim) (fun _ _ => br_t rfl ?_)
    rcases z with z | ⟨za, zb, _⟩
    · exact br_t z ⟨rfl, hz _⟩
    · exact br_f za (br_f zb ⟨rfl, hz _⟩)
  · have e1 : (nI w).toNatClampNeg = w := nI_clamp (by omega)
    have i1 : vp_in (nI w) 2 := vp_in_nI hw (by decide)
    have es : (576 : Int32) + nI w = nI (576 + w) := nI_add 576 w
    have e2 : (nI (576 + w)).toNatClampNeg = 576 + w := nI_clamp (by omega)
    have i2 : vp_in (nI (576 + w)) 579 := vp_in_nI (by omega) (by decide)
    refine xl_isl (fun _ => br_f (by decide) ?_) (fun a b => (z01.elim a b).elim)
    rw [e1]
    refine And.intro i1 (nm_e (br_f z0 (br_t z1 ?_)))
    rw [es, e2]
    refine And.intro i2 (nm_e (And.intro rfl (zz_in h1 h2 h3 ?_ ?_ h6 h7)))
    · intro w' hw'
      by_cases e : w' = w
      · subst e
        exact ⟨0, by omega, pk_us, pk_us, fun i hi => absurd hi (Nat.not_lt_zero i)⟩
      · obtain ⟨c', d1, d2, d3, d4⟩ := h4 w' hw'
        exact ⟨c', d1, by rw [pk_un e]; exact d2, by rw [pk_un (by omega)]; exact d3, d4⟩
    · rcases h5 with h5 | h5 | ⟨a1, c', a2, a3, a4, a5⟩
      · exact Or.inl h5
      · exact Or.inr (Or.inl h5)
      · exact Or.inr (Or.inr ⟨a1, c', a2, a3, by rw [pk_un (by omega)]; exact a4, a5⟩)
end
end
section
def hp_li (g : Nat → Int32) (c : Nat) : List Int32 := (List.range c).map g
theorem hp_li_l {g : Nat → Int32} {c : Nat} : (hp_li g c).length = c := by
  unfold hp_li
  rw [List.length_map, List.length_range]
theorem hp_li_g {g : Nat → Int32} {c i : Nat} (h : i < c) : (hp_li g c).getD i 0 = g i := by
  unfold hp_li
  rw [List.getD_eq_getElem?_getD, List.getElem?_map, List.getElem?_range h]
  rfl
def hp_c2 (src dst : Nat → Int32) (Q n : Nat) : Nat → Int32 := fun j => if Q ≤ j ∧ j < Q + n then src (j - Q) else dst j
theorem hp_c2_0 (src dst : Nat → Int32) (Q : Nat) : hp_c2 src dst Q 0 = dst := by
  funext j
  exact if_neg (by omega)
theorem hp_c2_s {src dst : Nat → Int32} {Q i : Nat} : upd (hp_c2 src dst Q i) (Q + i) (src i) = hp_c2 src dst Q (i + 1) := by
  funext j
  by_cases hj : j = Q + i
  · subst hj
    rw [pk_us]
    unfold hp_c2
    rw [if_pos (by omega), show Q + i - Q = i by omega]
  · rw [pk_un hj]
    unfold hp_c2
    by_cases h2 : Q ≤ j ∧ j < Q + i
    · rw [if_pos h2, if_pos (by omega)]
    · rw [if_neg h2, if_neg (by omega)]
theorem xl_kp {f_callLimit : Int32} {f_depthLimit : Int32} {f_draft : Int32} {f_height : Int32} {f_guarded : Int32} {f_consCount : Int32} {f_outKind : Int32} {f_outValue : Int32} {f_outCalls : Int32} {f_outPeak : Int32} {f_cells : Int32} {f_top : Int32} {f_nextF : Int32} {f_nextN : Int32} {f_nextXs : Int32} {f_nextYs : Int32} {f_holePos : Int32} {f_holeMul : Int32} {f_holeAdd : Int32} {f_holeFirst : Int32} {f_holeLast : Int32} {f_running : Int32} {f_ending : Int32} {f_entered : Int32} {f_deepest : Int32} {a_ops : Nat → Int32} {a_args : Nat → Int32} {a_passed : Nat → Int32} {a_length : Nat → Int32} {a_heldCount : Nat → Int32} {a_kinds : Nat → Int32} {a_items : Nat → Int32} {a_itemCount : Nat → Int32} {a_outList : Nat → Int32} {a_head : Nat → Int32} {a_tail : Nat → Int32} {a_fn : Nat → Int32} {a_pc : Nat → Int32} {a_argN : Nat → Int32} {a_argXs : Nat → Int32} {a_argYs : Nat → Int32} {a_sp : Nat → Int32} {a_values : Nat → Int32} {a_mul : Nat → Int32} {a_add : Nat → Int32} {a_first : Nat → Int32} {a_last : Nat → Int32} {w c : Nat} (hw : w < 2) (hc : c ≤ 16) {Q : Int32 → SX → Prop} (K : Q 0 (f_callLimit, f_depthLimit, f_draft, f_height, f_guarded, f_consCount, f_outKind, nI c, f_outCalls, f_outPeak, f_cells, f_top, f_nextF, f_nextN, f_nextXs, f_nextYs, f_holePos, f_holeMul, f_holeAdd, f_holeFirst, f_holeLast, f_running, f_ending, f_entered, f_deepest, a_ops, a_args, a_passed, a_length, a_heldCount, a_kinds, hp_c2 a_outList a_items (w * 16) c, upd a_itemCount w (nI c), a_outList, a_head, a_tail, a_fn, a_pc, a_argN, a_argXs, a_argYs, a_sp, a_values, a_mul, a_add, a_first, a_last)) :
    ∀ d i k, i + d = c → d < k → wX_keep_35 Q (nI w) f_callLimit f_depthLimit f_draft f_height f_guarded f_consCount f_outKind (nI c) f_outCalls f_outPeak f_cells f_top f_nextF f_nextN f_nextXs f_nextYs f_holePos f_holeMul f_holeAdd f_holeFirst f_holeLast f_running f_ending f_entered f_deepest k (nI i)
      a_ops a_args a_passed a_length a_heldCount a_kinds (hp_c2 a_outList a_items (w * 16) i) a_itemCount a_outList a_head a_tail a_fn a_pc a_argN a_argXs a_argYs a_sp a_values a_mul a_add a_first a_last := by
  have e1 : (nI w).toNatClampNeg = w := nI_clamp (by omega)
  have i1 : vp_in (nI w) 2 := vp_in_nI hw (by decide)
  intro d
  induction d with
  | zero =>
    intro i k hi hk
    obtain ⟨k, rfl⟩ : ∃ k', k = k' + 1 := ⟨k - 1, by omega⟩
    have : i = c := by omega
    subst this
    rw [wX_keep_35]
    dsimp only
    rw [e1]
    exact br_t (nI_le (Nat.le_refl _) (by omega)) (And.intro i1 (nm_e K))
  | succ d ih =>
    intro i k hi hk
    obtain ⟨k, rfl⟩ : ∃ k', k = k' + 1 := ⟨k - 1, by omega⟩
    have e3 : nI w * 16 + nI i = nI (w * 16 + i) := by rw [show (16 : Int32) = nI 16 from rfl, pk_mul, nI_add]
    have e4 : (nI (w * 16 + i)).toNatClampNeg = w * 16 + i := nI_clamp (by omega)
    have e5 : (nI i).toNatClampNeg = i := nI_clamp (by omega)
    rw [wX_keep_35]
    dsimp only
    rw [e3, e4, e5, hp_c2_s]
    exact br_f (nI_ge (by omega) (by omega)) (And.intro (vp_in_nI (by omega) (by decide)) (And.intro (vp_in_nI (by omega) (by decide)) (nm_e (nm_r (nI_1 i) (ih (i + 1) k (by omega) (by omega))))))
theorem yl_hl {f_draft : Int32} {f_outKind : Int32} {f_outCalls : Int32} {f_outPeak : Int32} {f_callLimit : Int32} {f_depthLimit : Int32} {a_ops : Nat → Int32} {a_args : Nat → Int32} {a_length : Nat → Int32} {b_cell : Nat → Int32} {b_len : Nat → Int32} {b_fn : Nat → Int32} {b_pos : Nat → Int32} {b_height : Nat → Int32} {b_depth : Nat → Int32} {n_cell : Nat} {f n : Nat} (hf : f < 4) (hn : n ≤ 48) (hl : a_length f = nI n) {Q : Int32 → Prop} (K : Q (nI (hp_hc (hp_o a_ops f) n n))) :
    ∀ d i k, i + d = n → d < k → wY_held_23 Q (nI f) f_draft f_outKind f_outCalls f_outPeak f_callLimit f_depthLimit a_ops a_args a_length b_cell b_len b_fn b_pos b_height b_depth n_cell k (nI (hp_hc (hp_o a_ops f) n i)) (nI i) := by
  have e1 : (nI f).toNatClampNeg = f := nI_clamp (by omega)
  have i1 : vp_in (nI f) 4 := vp_in_nI hf (by decide)
  intro d
  induction d with
  | zero =>
    intro i k hi hk
    obtain ⟨k, rfl⟩ : ∃ k', k = k' + 1 := ⟨k - 1, by omega⟩
    have : i = n := by omega
    subst this
    rw [wY_held_23]
    dsimp only
    rw [e1, hl]
    exact And.intro i1 (br_t (nI_le (Nat.le_refl _) (by omega)) K)
  | succ d ih =>
    intro i k hi hk
    obtain ⟨k, rfl⟩ : ∃ k', k = k' + 1 := ⟨k - 1, by omega⟩
    have e3 : nI f * 48 + nI i = nI (f * 48 + i) := by rw [show (48 : Int32) = nI 48 from rfl, pk_mul, nI_add]
    have e5 : (nI (f * 48 + i)).toNatClampNeg = f * 48 + i := nI_clamp (by omega)
    have ih' := ih (i + 1) k (by omega) (by omega)
    rw [hp_hc] at ih'
    rw [wY_held_23]
    dsimp only
    rw [e3, e5, e1, hl]
    refine And.intro i1 (br_f (nI_ge (by omega) (by omega)) (And.intro (vp_in_nI (by omega) (by decide)) (br_c (fun c => ?_) (fun c => ?_))))
    · refine yl_pa hf hn hl (by omega) ?_
      cases hpa : hp_pa (hp_o a_ops f) n i with
      | true =>
        rw [if_neg (fun z => by rw [hpa] at z; exact absurd z.2 (by decide))] at ih'
        exact br_f (by decide) (nm_r (nI_1 i) ih')
      | false =>
        rw [if_pos ⟨c, hpa⟩] at ih'
        exact br_t rfl (nm_r (nI_1 _) (nm_r (nI_1 i) ih'))
    · rw [if_neg (fun z => c z.1)] at ih'
      exact nm_r (nI_1 i) ih'
section
variable {k : Nat} {u : SX} {v : SY}
theorem i_vc_held (I : i_Rel k u v) (hk : k + 3 ≤ 1538) (v1 : Int32) : wpX_held (fun r => wpY_held (fun r' => r' = r ∧ i_Rel (k + 3) u v) v v1) u v1 := by
  refine zz_el (P := fun u v => wpX_held (fun r => wpY_held (fun r' => r' = r ∧ i_Rel (k + 3) u v) v v1) u v1) I ?_
  intro f_callLimit f_depthLimit f_draft f_height f_guarded f_consCount f_outKind f_outValue f_outCalls f_outPeak f_cells f_top f_nextF f_nextN f_nextXs f_nextYs f_holePos f_holeMul f_holeAdd f_holeFirst f_holeLast f_running f_ending f_entered f_deepest a_ops a_args a_passed a_length a_heldCount a_kinds a_items a_itemCount a_outList a_head a_tail a_fn a_pc a_argN a_argXs a_argYs a_sp a_values a_mul a_add a_first a_last b_cell b_len b_fn b_pos b_height b_depth h1 h2 h3 h4 h5 h6 h7
  have hz : ∀ j, i_Rel j (f_callLimit, f_depthLimit, f_draft, f_height, f_guarded, f_consCount, f_outKind, f_outValue, f_outCalls, f_outPeak, f_cells, f_top, f_nextF, f_nextN, f_nextXs, f_nextYs, f_holePos, f_holeMul, f_holeAdd, f_holeFirst, f_holeLast, f_running, f_ending, f_entered, f_deepest, a_ops, a_args, a_passed, a_length, a_heldCount, a_kinds, a_items, a_itemCount, a_outList, a_head, a_tail, a_fn, a_pc, a_argN, a_argXs, a_argYs, a_sp, a_values, a_mul, a_add, a_first, a_last) (f_draft, f_outKind, f_outCalls, f_outPeak, f_callLimit, f_depthLimit, a_ops, a_args, a_length, b_cell, b_len, b_fn, b_pos, b_height, b_depth, 120432) := fun j => zz_in h1 h2 h3 h4 h5 h6 h7
  dsimp only [wpX_held]
  rcases hp_f4 v1 with z | ⟨f, hf, rfl, z1, z2, z3⟩
  · refine xl_isf (fun _ => br_t rfl ?_) (fun a b => (z.elim a b).elim)
    rcases z with z | z
    · exact br_t z ⟨rfl, hz _⟩
    · exact br_f (Int32.not_lt.mpr (Int32.le_trans (by decide) z)) (br_t z ⟨rfl, hz _⟩)
  · refine xl_isf (fun z => (z.elim z1 z2).elim) (fun _ _ => br_f (by decide) (br_c (fun hd => ?_) (fun hd => ?_)))
    · exact br_f z1 (br_f z2 (br_t hd ⟨rfl, hz _⟩))
    · have e1 : (nI f).toNatClampNeg = f := nI_clamp (by omega)
      have i1 : vp_in (nI f) 4 := vp_in_nI hf (by decide)
      obtain ⟨t1, t2, t3, t4, t5⟩ := h2 f hf
      rw [e1]
      refine And.intro i1 (br_f z1 (br_f z2 (br_f hd ⟨hp_N a_length f + 1, ?_⟩)))
      refine yl_hl hf t2 t1 ?_ (hp_N a_length f) 0 _ (by omega) (by omega)
      exact ⟨(t5 (fun q => hd q.symm)).2.1.symm, hz _⟩
theorem i_vc_opAt (I : i_Rel k u v) (hk : k + 3 ≤ 1538) (v1 : Int32) (v2 : Int32) : wpX_opAt (fun r => wpY_opAt (fun r' => r' = r ∧ i_Rel (k + 3) u v) v v1 v2) u v1 v2 := by
  refine zz_el (P := fun u v => wpX_opAt (fun r => wpY_opAt (fun r' => r' = r ∧ i_Rel (k + 3) u v) v v1 v2) u v1 v2) I ?_
  intro f_callLimit f_depthLimit f_draft f_height f_guarded f_consCount f_outKind f_outValue f_outCalls f_outPeak f_cells f_top f_nextF f_nextN f_nextXs f_nextYs f_holePos f_holeMul f_holeAdd f_holeFirst f_holeLast f_running f_ending f_entered f_deepest a_ops a_args a_passed a_length a_heldCount a_kinds a_items a_itemCount a_outList a_head a_tail a_fn a_pc a_argN a_argXs a_argYs a_sp a_values a_mul a_add a_first a_last b_cell b_len b_fn b_pos b_height b_depth h1 h2 h3 h4 h5 h6 h7
  have hz : ∀ j, i_Rel j (f_callLimit, f_depthLimit, f_draft, f_height, f_guarded, f_consCount, f_outKind, f_outValue, f_outCalls, f_outPeak, f_cells, f_top, f_nextF, f_nextN, f_nextXs, f_nextYs, f_holePos, f_holeMul, f_holeAdd, f_holeFirst, f_holeLast, f_running, f_ending, f_entered, f_deepest, a_ops, a_args, a_passed, a_length, a_heldCount, a_kinds, a_items, a_itemCount, a_outList, a_head, a_tail, a_fn, a_pc, a_argN, a_argXs, a_argYs, a_sp, a_values, a_mul, a_add, a_first, a_last) (f_draft, f_outKind, f_outCalls, f_outPeak, f_callLimit, f_depthLimit, a_ops, a_args, a_length, b_cell, b_len, b_fn, b_pos, b_height, b_depth, 120432) := fun j => zz_in h1 h2 h3 h4 h5 h6 h7
  dsimp only [wpX_opAt, wpX_hasWord]
  rcases hp_f4 v1 with z | ⟨f, hf, rfl, z1, z2, z3⟩
  · refine xl_isf (fun _ => br_t rfl (br_t rfl ?_)) (fun a b => (z.elim a b).elim)
    rcases z with z | z
    · exact br_t z ⟨rfl, hz _⟩
    · exact br_f (Int32.not_lt.mpr (Int32.le_trans (by decide) z)) (br_t z ⟨rfl, hz _⟩)
  · have e1 : (nI f).toNatClampNeg = f := nI_clamp (by omega)
    have i1 : vp_in (nI f) 4 := vp_in_nI hf (by decide)
    obtain ⟨t1, t2, t3, t4, t5⟩ := h2 f hf
    refine xl_isf (fun z => (z.elim z1 z2).elim) (fun _ _ => br_f (by decide) ?_)
    rcases pk_ix v2 (n := hp_N a_length f) (by omega) with z | z | ⟨j, hj, rfl⟩
    · exact br_t z (br_t rfl (br_f z1 (br_f z2 (br_t z ⟨rfl, hz _⟩))))
    · have z0 : ¬ v2 < 0 := Int32.not_lt.mpr (Int32.le_trans (nI_pos' (by omega)) z)
      refine br_f z0 (And.intro i1 (br_t (by rw [e1, t1]; exact z) (br_t rfl (br_f z1 (br_f z2 (br_f z0 (And.intro i1 (br_f ?_ ⟨rfl, hz _⟩))))))))
      rw [e1, t1]
      exact Int32.not_lt.mpr z
    · have z0 : ¬ nI j < 0 := nI_pos (by omega)
      have e3 : nI f * 48 + nI j = nI (f * 48 + j) := by rw [show (48 : Int32) = nI 48 from rfl, pk_mul, nI_add]
      refine br_f z0 (And.intro i1 (br_f (by rw [e1, t1]; exact nI_ge hj (by omega)) (br_f (by decide) ?_)))
      rw [e3]
      refine And.intro (vp_in_nI (by omega) (by decide)) (br_f z1 (br_f z2 (br_f z0 (And.intro i1 (br_t (by rw [e1, t1]; exact nI_lt hj (by omega)) ?_)))))
      rw [e3]
      exact And.intro (vp_in_nI (by omega) (by decide)) ⟨rfl, hz _⟩
theorem i_vc_argAt (I : i_Rel k u v) (hk : k + 3 ≤ 1538) (v1 : Int32) (v2 : Int32) : wpX_argAt (fun r => wpY_argAt (fun r' => r' = r ∧ i_Rel (k + 3) u v) v v1 v2) u v1 v2 := by
  refine zz_el (P := fun u v => wpX_argAt (fun r => wpY_argAt (fun r' => r' = r ∧ i_Rel (k + 3) u v) v v1 v2) u v1 v2) I ?_
  intro f_callLimit f_depthLimit f_draft f_height f_guarded f_consCount f_outKind f_outValue f_outCalls f_outPeak f_cells f_top f_nextF f_nextN f_nextXs f_nextYs f_holePos f_holeMul f_holeAdd f_holeFirst f_holeLast f_running f_ending f_entered f_deepest a_ops a_args a_passed a_length a_heldCount a_kinds a_items a_itemCount a_outList a_head a_tail a_fn a_pc a_argN a_argXs a_argYs a_sp a_values a_mul a_add a_first a_last b_cell b_len b_fn b_pos b_height b_depth h1 h2 h3 h4 h5 h6 h7
  have hz : ∀ j, i_Rel j (f_callLimit, f_depthLimit, f_draft, f_height, f_guarded, f_consCount, f_outKind, f_outValue, f_outCalls, f_outPeak, f_cells, f_top, f_nextF, f_nextN, f_nextXs, f_nextYs, f_holePos, f_holeMul, f_holeAdd, f_holeFirst, f_holeLast, f_running, f_ending, f_entered, f_deepest, a_ops, a_args, a_passed, a_length, a_heldCount, a_kinds, a_items, a_itemCount, a_outList, a_head, a_tail, a_fn, a_pc, a_argN, a_argXs, a_argYs, a_sp, a_values, a_mul, a_add, a_first, a_last) (f_draft, f_outKind, f_outCalls, f_outPeak, f_callLimit, f_depthLimit, a_ops, a_args, a_length, b_cell, b_len, b_fn, b_pos, b_height, b_depth, 120432) := fun j => zz_in h1 h2 h3 h4 h5 h6 h7
  dsimp only [wpX_argAt, wpX_hasWord]
  rcases hp_f4 v1 with z | ⟨f, hf, rfl, z1, z2, z3⟩
  · refine xl_isf (fun _ => br_t rfl (br_t rfl ?_)) (fun a b => (z.elim a b).elim)
    rcases z with z | z
    · exact br_t z ⟨rfl, hz _⟩
    · exact br_f (Int32.not_lt.mpr (Int32.le_trans (by decide) z)) (br_t z ⟨rfl, hz _⟩)
  · have e1 : (nI f).toNatClampNeg = f := nI_clamp (by omega)
    have i1 : vp_in (nI f) 4 := vp_in_nI hf (by decide)
    obtain ⟨t1, t2, t3, t4, t5⟩ := h2 f hf
    refine xl_isf (fun z => (z.elim z1 z2).elim) (fun _ _ => br_f (by decide) ?_)
    rcases pk_ix v2 (n := hp_N a_length f) (by omega) with z | z | ⟨j, hj, rfl⟩
    · exact br_t z (br_t rfl (br_f z1 (br_f z2 (br_t z ⟨rfl, hz _⟩))))
    · have z0 : ¬ v2 < 0 := Int32.not_lt.mpr (Int32.le_trans (nI_pos' (by omega)) z)
      refine br_f z0 (And.intro i1 (br_t (by rw [e1, t1]; exact z) (br_t rfl (br_f z1 (br_f z2 (br_f z0 (And.intro i1 (br_f ?_ ⟨rfl, hz _⟩))))))))
      rw [e1, t1]
      exact Int32.not_lt.mpr z
    · have z0 : ¬ nI j < 0 := nI_pos (by omega)
      have e3 : nI f * 48 + nI j = nI (f * 48 + j) := by rw [show (48 : Int32) = nI 48 from rfl, pk_mul, nI_add]
      refine br_f z0 (And.intro i1 (br_f (by rw [e1, t1]; exact nI_ge hj (by omega)) (br_f (by decide) ?_)))
      rw [e3]
      refine And.intro (vp_in_nI (by omega) (by decide)) (br_f z1 (br_f z2 (br_f z0 (And.intro i1 (br_t (by rw [e1, t1]; exact nI_lt hj (by omega)) ?_)))))
      rw [e3]
      exact And.intro (vp_in_nI (by omega) (by decide)) ⟨rfl, hz _⟩
theorem i_vc_item (I : i_Rel k u v) (hk : k + 3 ≤ 1538) (v1 : Int32) (v2 : Int32) : wpX_item (fun r => wpY_item (fun r' => r' = r ∧ i_Rel (k + 3) u v) v v1 v2) u v1 v2 := by
  refine zz_el (P := fun u v => wpX_item (fun r => wpY_item (fun r' => r' = r ∧ i_Rel (k + 3) u v) v v1 v2) u v1 v2) I ?_
  intro f_callLimit f_depthLimit f_draft f_height f_guarded f_consCount f_outKind f_outValue f_outCalls f_outPeak f_cells f_top f_nextF f_nextN f_nextXs f_nextYs f_holePos f_holeMul f_holeAdd f_holeFirst f_holeLast f_running f_ending f_entered f_deepest a_ops a_args a_passed a_length a_heldCount a_kinds a_items a_itemCount a_outList a_head a_tail a_fn a_pc a_argN a_argXs a_argYs a_sp a_values a_mul a_add a_first a_last b_cell b_len b_fn b_pos b_height b_depth h1 h2 h3 h4 h5 h6 h7
  have hz : ∀ j, i_Rel j (f_callLimit, f_depthLimit, f_draft, f_height, f_guarded, f_consCount, f_outKind, f_outValue, f_outCalls, f_outPeak, f_cells, f_top, f_nextF, f_nextN, f_nextXs, f_nextYs, f_holePos, f_holeMul, f_holeAdd, f_holeFirst, f_holeLast, f_running, f_ending, f_entered, f_deepest, a_ops, a_args, a_passed, a_length, a_heldCount, a_kinds, a_items, a_itemCount, a_outList, a_head, a_tail, a_fn, a_pc, a_argN, a_argXs, a_argYs, a_sp, a_values, a_mul, a_add, a_first, a_last) (f_draft, f_outKind, f_outCalls, f_outPeak, f_callLimit, f_depthLimit, a_ops, a_args, a_length, b_cell, b_len, b_fn, b_pos, b_height, b_depth, 120432) := fun j => zz_in h1 h2 h3 h4 h5 h6 h7
  dsimp only [wpX_item]
  rcases hp_w2 v1 with ⟨n0, n1, z⟩ | ⟨w, hw, rfl, z01, z0, z1, z1'⟩
  · refine xl_isl (fun q => (q.elim n0 n1).elim) (fun _ _ => br_t rfl ?_)
    rcases z with z | ⟨za, zb, zc⟩
    · exact br_t z ⟨rfl, hz _⟩
    · exact br_f za (br_t zc ⟨rfl, hz _⟩)
  · have e1 : (nI w).toNatClampNeg = w := nI_clamp (by omega)
    have i1 : vp_in (nI w) 2 := vp_in_nI hw (by decide)
    have es : (576 : Int32) + nI w = nI (576 + w) := nI_add 576 w
    have e2 : (nI (576 + w)).toNatClampNeg = 576 + w := nI_clamp (by omega)
    have i2 : vp_in (nI (576 + w)) 579 := vp_in_nI (by omega) (by decide)
    obtain ⟨c, hc, c1, c2, c3⟩ := h4 w hw
    refine xl_isl (fun _ => br_f (by decide) ?_) (fun a b => (z01.elim a b).elim)
    rcases pk_ix v2 (n := c) (by omega) with z | z | ⟨j, hj, rfl⟩
    · exact br_t z (br_f z0 (br_f z1' (br_t z ⟨rfl, hz _⟩)))
    · have q0 : ¬ v2 < 0 := Int32.not_lt.mpr (Int32.le_trans (nI_pos' (by omega)) z)
      refine br_f q0 (And.intro i1 (br_f (by rw [e1, c1]; exact Int32.not_lt.mpr z) (br_f z0 (br_f z1' (br_f q0 ?_)))))
      rw [es, e2, c2]
      exact And.intro i2 (br_f (Int32.not_lt.mpr z) ⟨rfl, hz _⟩)
    · have q0 : ¬ nI j < 0 := nI_pos (by omega)
      have e3 : nI w * 16 + nI j = nI (w * 16 + j) := by rw [show (16 : Int32) = nI 16 from rfl, pk_mul, nI_add]
      have e4 : (nI (w * 16 + j)).toNatClampNeg = w * 16 + j := nI_clamp (by omega)
      have e5 : nI (576 + w) * 208 + nI j = nI ((576 + w) * 208 + j) := by rw [show (208 : Int32) = nI 208 from rfl, pk_mul, nI_add]
      have e6 : (nI ((576 + w) * 208 + j)).toNatClampNeg = (576 + w) * 208 + j := nI_clamp (by omega)
      refine br_f q0 (And.intro i1 (br_t (by rw [e1, c1]; exact nI_lt hj (by omega)) ?_))
      rw [e3, e4]
      refine And.intro (vp_in_nI (by omega) (by decide)) (br_f z0 (br_f z1' (br_f q0 ?_)))
      rw [es, e2, c2, e5, e6]
      exact And.intro i2 (br_t (nI_lt hj (by omega)) (And.intro (vp_in_nI (by omega) (by decide)) ⟨(c3 j hj).symm, hz _⟩))
theorem i_vc_keep (I : i_Rel k u v) (hk : k + 3 ≤ 1538) (v1 : Int32) : wpX_keep (fun r u' => wpY_keep (fun r' v' => r' = r ∧ i_Rel (k + 3) u' v') v v1) u v1 := by
  refine zz_el (P := fun u v => wpX_keep (fun r u' => wpY_keep (fun r' v' => r' = r ∧ i_Rel (k + 3) u' v') v v1) u v1) I ?_
  intro f_callLimit f_depthLimit f_draft f_height f_guarded f_consCount f_outKind f_outValue f_outCalls f_outPeak f_cells f_top f_nextF f_nextN f_nextXs f_nextYs f_holePos f_holeMul f_holeAdd f_holeFirst f_holeLast f_running f_ending f_entered f_deepest a_ops a_args a_passed a_length a_heldCount a_kinds a_items a_itemCount a_outList a_head a_tail a_fn a_pc a_argN a_argXs a_argYs a_sp a_values a_mul a_add a_first a_last b_cell b_len b_fn b_pos b_height b_depth h1 h2 h3 h4 h5 h6 h7
  have hz : ∀ j, i_Rel j (f_callLimit, f_depthLimit, f_draft, f_height, f_guarded, f_consCount, f_outKind, f_outValue, f_outCalls, f_outPeak, f_cells, f_top, f_nextF, f_nextN, f_nextXs, f_nextYs, f_holePos, f_holeMul, f_holeAdd, f_holeFirst, f_holeLast, f_running, f_ending, f_entered, f_deepest, a_ops, a_args, a_passed, a_length, a_heldCount, a_kinds, a_items, a_itemCount, a_outList, a_head, a_tail, a_fn, a_pc, a_argN, a_argXs, a_argYs, a_sp, a_values, a_mul, a_add, a_first, a_last) (f_draft, f_outKind, f_outCalls, f_outPeak, f_callLimit, f_depthLimit, a_ops, a_args, a_length, b_cell, b_len, b_fn, b_pos, b_height, b_depth, 120432) := fun j => zz_in h1 h2 h3 h4 h5 h6 h7
  dsimp only [wpX_keep]
  rcases hp_w2 v1 with ⟨n0, n1, z⟩ | ⟨w, hw, rfl, z01, z0, z1, z1'⟩
  · refine xl_isl (fun q => (q.elim n0 n1).elim) (fun _ _ => br_t rfl ?_)
    rcases z with z | ⟨za, zb, _⟩
    · exact br_t z ⟨rfl, hz _⟩
    · exact br_f za (br_f zb ⟨rfl, hz _⟩)
  · have es : (576 : Int32) + nI w = nI (576 + w) := nI_add 576 w
    refine xl_isl (fun _ => br_f (by decide) ?_) (fun a b => (z01.elim a b).elim)
    rcases h5 with ⟨e1, e2⟩ | ⟨e1, e2⟩ | ⟨e1, c, hc, e2, e3, e4⟩
    · have n2 : ¬ f_outKind = 2 := by rw [e1]; decide
      exact br_f n2 (br_f z0 (br_t z1 (br_f n2 ⟨rfl, hz _⟩)))
    · have n2 : ¬ f_outKind = 2 := by rw [e1]; decide
      exact br_f n2 (br_f z0 (br_t z1 (br_f n2 ⟨rfl, hz _⟩)))
    · subst e2
      refine br_t e1 (br_c (fun q => ?_) (fun q => ?_))
      · have q' : nI c ≤ nI 16 := q
        rw [nI_leI (by omega) (by omega)] at q'
        refine ⟨c + 1, ?_⟩
        have hsl : hp_sl b_cell b_len 578 (hp_li (fun i => b_cell (120224 + i)) c) := by
          refine And.intro (by rw [hp_li_l]; exact e3) (fun i hi => ?_)
          rw [hp_li_l] at hi
          rw [hp_li_g hi]
        have hY : wpY_keep (fun r' v' => r' = 0 ∧ i_Rel (k + 3) (f_callLimit, f_depthLimit, f_draft, f_height, f_guarded, f_consCount, f_outKind, nI c, f_outCalls, f_outPeak, f_cells, f_top, f_nextF, f_nextN, f_nextXs, f_nextYs, f_holePos, f_holeMul, f_holeAdd, f_holeFirst, f_holeLast, f_running, f_ending, f_entered, f_deepest, a_ops, a_args, a_passed, a_length, a_heldCount, a_kinds, hp_c2 a_outList a_items (w * 16) c, upd a_itemCount w (nI c), a_outList, a_head, a_tail, a_fn, a_pc, a_argN, a_argXs, a_argYs, a_sp, a_values, a_mul, a_add, a_first, a_last) v') (f_draft, f_outKind, f_outCalls, f_outPeak, f_callLimit, f_depthLimit, a_ops, a_args, a_length, b_cell, b_len, b_fn, b_pos, b_height, b_depth, 120432) (nI w) := by
          refine br_f z0 (br_t z1 (br_t e1 (br_t (by rw [e3]; exact q) ?_)))
          rw [es]
          refine yl_cpA (p := 578) (by omega) (by omega) (by omega) (by rw [hp_li_l]; exact hc) hsl (fun c1 l1 f1 g1 => ?_)
          have g2 : l1 (576 + w) = nI c := by have := g1.1; rw [hp_li_l] at this; exact this
          have g3 : ∀ i, i < c → c1 ((576 + w) * 208 + i) = b_cell (120224 + i) := fun i hi => by have := g1.2 i (by rw [hp_li_l]; exact hi); rw [hp_li_g hi] at this; exact this
          refine ⟨rfl, zz_in h1 h2 h3 ?_ ?_ h6 h7⟩
          · intro w' hw'
            by_cases e : w' = w
            · subst e
              refine ⟨c, q', pk_us, g2, fun i hi => ?_⟩
              rw [g3 i hi, ← e4 i hi]
              unfold hp_c2
              rw [if_pos (by omega), show w' * 16 + i - w' * 16 = i by omega]
            · obtain ⟨c', d1, d2, d3, d4⟩ := h4 w' hw'
              refine ⟨c', d1, by rw [pk_un e]; exact d2, (f1.2 _ (by omega)).trans d3, fun i hi => ?_⟩
              rw [f1.1 _ (by omega), ← d4 i hi]
              exact if_neg (by omega)
          · exact Or.inr (Or.inr ⟨e1, c, hc, rfl, (f1.2 _ (by omega)).trans e3, fun i hi => (e4 i hi).trans (f1.1 _ (by omega)).symm⟩)
        have hl := xl_kp (f_outValue := 0) hw q' (Q := fun r u' => wpY_keep (fun r' v' => r' = r ∧ i_Rel (k + 3) u' v') (f_draft, f_outKind, f_outCalls, f_outPeak, f_callLimit, f_depthLimit, a_ops, a_args, a_length, b_cell, b_len, b_fn, b_pos, b_height, b_depth, 120432) (nI w)) hY c 0 (c + 1) (by omega) (by omega)
        rw [hp_c2_0] at hl
        exact hl
      · refine br_f z0 (br_t z1 (br_t e1 (br_f ?_ ⟨rfl, hz _⟩)))
        rw [e3]
        exact q
end
end
section
def hp_lf (g : Nat → Int32) : Nat → Nat → List Int32
  | _, 0 => []
  | i, n + 1 => g i :: hp_lf g (i + 1) n
theorem lf_l {g : Nat → Int32} : ∀ n i, (hp_lf g i n).length = n
  | 0, _ => rfl
  | n + 1, i => congrArg (· + 1) (lf_l n (i + 1))
theorem lf_g {g : Nat → Int32} : ∀ n i j, j < n → (hp_lf g i n).getD j 0 = g (i + j)
  | 0, _, _, h => absurd h (Nat.not_lt_zero _)
  | n + 1, i, 0, _ => rfl
  | n + 1, i, j + 1, h => by
    have e : (hp_lf g i (n + 1)).getD (j + 1) 0 = (hp_lf g (i + 1) n).getD j 0 := rfl
    rw [e, lf_g n (i + 1) j (by omega)]
    exact congrArg g (by omega)
def hp_no (_ : Nat) : Prop := False
section
variable {f_callLimit : Int32} {f_depthLimit : Int32} {f_draft : Int32} {f_height : Int32} {f_guarded : Int32} {f_consCount : Int32} {f_outKind : Int32} {f_outValue : Int32} {f_outCalls : Int32} {f_outPeak : Int32} {f_cells : Int32} {f_top : Int32} {f_nextF : Int32} {f_nextN : Int32} {f_nextXs : Int32} {f_nextYs : Int32} {f_holePos : Int32} {f_holeMul : Int32} {f_holeAdd : Int32} {f_holeFirst : Int32} {f_holeLast : Int32} {f_running : Int32} {f_ending : Int32} {f_entered : Int32} {f_deepest : Int32} {a_ops : Nat → Int32} {a_args : Nat → Int32} {a_passed : Nat → Int32} {a_length : Nat → Int32} {a_heldCount : Nat → Int32} {a_kinds : Nat → Int32} {a_items : Nat → Int32} {a_itemCount : Nat → Int32} {a_outList : Nat → Int32} {a_head : Nat → Int32} {a_tail : Nat → Int32} {a_fn : Nat → Int32} {a_pc : Nat → Int32} {a_argN : Nat → Int32} {a_argXs : Nat → Int32} {a_argYs : Nat → Int32} {a_sp : Nat → Int32} {a_values : Nat → Int32} {a_mul : Nat → Int32} {a_add : Nat → Int32} {a_first : Nat → Int32} {a_last : Nat → Int32}
theorem xl_ld {w c : Nat} (hw : w < 2) (hc : c ≤ 16) {Q : Int32 → SX → Prop} :
    ∀ (i : Nat) (k q B : Nat) (hd tl : Nat → Int32), i ≤ c → i < k → B + i ≤ 225 → 0 < B → hp_lr hd tl (hp_V hp_no 0 B) q (hp_lf (fun j => a_items (w * 16 + j)) i (c - i)) →
      (∀ q' hd' tl', hp_lr hd' tl' (hp_V hp_no 0 (B + i)) q' (hp_lf (fun j => a_items (w * 16 + j)) 0 c) → hp_hx B hd tl hd' tl' → Q (nI q') (f_callLimit, f_depthLimit, f_draft, f_height, f_guarded, f_consCount, f_outKind, f_outValue, f_outCalls, f_outPeak, nI (B + i), f_top, f_nextF, f_nextN, f_nextXs, f_nextYs, f_holePos, f_holeMul, f_holeAdd, f_holeFirst, f_holeLast, f_running, f_ending, f_entered, f_deepest, a_ops, a_args, a_passed, a_length, a_heldCount, a_kinds, a_items, a_itemCount, a_outList, hd', tl', a_fn, a_pc, a_argN, a_argXs, a_argYs, a_sp, a_values, a_mul, a_add, a_first, a_last)) →
      wX_loadItems_11 Q (nI w) k (nI q) (nI i - 1) f_callLimit f_depthLimit f_draft f_height f_guarded f_consCount f_outKind f_outValue f_outCalls f_outPeak (nI B) f_top f_nextF f_nextN f_nextXs f_nextYs f_holePos f_holeMul f_holeAdd f_holeFirst f_holeLast f_running f_ending f_entered f_deepest a_ops a_args a_passed a_length a_heldCount a_kinds a_items a_itemCount a_outList hd tl a_fn a_pc a_argN a_argXs a_argYs a_sp a_values a_mul a_add a_first a_last := by
  intro i
  induction i with
  | zero =>
    intro k q B hd tl hi hk hB hB0 hl K
    obtain ⟨k, rfl⟩ : ∃ k', k = k' + 1 := ⟨k - 1, by omega⟩
    rw [wX_loadItems_11]
    dsimp only
    exact br_t (by decide) (K q hd tl hl (fun _ _ => ⟨rfl, rfl⟩))
  | succ i ih =>
    intro k q B hd tl hi hk hB hB0 hl K
    obtain ⟨k, rfl⟩ : ∃ k', k = k' + 1 := ⟨k - 1, by omega⟩
    have e0 : nI (i + 1) - 1 = nI i := nI_pred i
    have e3 : nI w * 16 + nI i = nI (w * 16 + i) := by rw [show (16 : Int32) = nI 16 from rfl, pk_mul, nI_add]
    have e4 : (nI (w * 16 + i)).toNatClampNeg = w * 16 + i := nI_clamp (by omega)
    have em : nI i + (-1) = nI i - 1 := (Int32.sub_eq_add_neg _ _).symm
    rw [wX_loadItems_11]
    dsimp only
    rw [e0, e3, e4]
    refine br_f (nI_pos (by omega)) (And.intro (vp_in_nI (by omega) (by decide)) ?_)
    refine xl_new (by omega) ?_
    refine nm_r em ?_
    have hx : hp_hx B hd tl (upd hd B (a_items (w * 16 + i))) (upd tl B (nI q)) := fun j hj => ⟨pk_un (Nat.ne_of_lt hj), pk_un (Nat.ne_of_lt hj)⟩
    refine ih k B (B + 1) _ _ (by omega) (by omega) (by omega) (by omega) ?_ ?_
    · rw [show c - i = (c - (i + 1)) + 1 by omega]
      exact ⟨⟨hB0, Nat.lt_succ_self B, fun z => z, by omega⟩, pk_us, q, pk_us, lr_hx hx (Nat.le_succ _) hl⟩
    · intro q' hd' tl' hl' hx'
      have hK := K q' hd' tl'
      rw [show B + (i + 1) = B + 1 + i by omega] at hK
      exact hK hl' (fun j hj => ⟨(hx' j (by omega)).1.trans (hx j hj).1, (hx' j (by omega)).2.trans (hx j hj).2⟩)
theorem xl_loadItems {w c B : Nat} (hw : w < 2) (hc : c ≤ 16) (hcnt : a_itemCount w = nI c) (hB : B + c ≤ 225) (hB0 : 0 < B) {Q : Int32 → SX → Prop}
    (K : ∀ q' hd' tl', hp_lr hd' tl' (hp_V hp_no 0 (B + c)) q' (hp_lf (fun j => a_items (w * 16 + j)) 0 c) → hp_hx B a_head a_tail hd' tl' → Q (nI q') (f_callLimit, f_depthLimit, f_draft, f_height, f_guarded, f_consCount, f_outKind, f_outValue, f_outCalls, f_outPeak, nI (B + c), f_top, f_nextF, f_nextN, f_nextXs, f_nextYs, f_holePos, f_holeMul, f_holeAdd, f_holeFirst, f_holeLast, f_running, f_ending, f_entered, f_deepest, a_ops, a_args, a_passed, a_length, a_heldCount, a_kinds, a_items, a_itemCount, a_outList, hd', tl', a_fn, a_pc, a_argN, a_argXs, a_argYs, a_sp, a_values, a_mul, a_add, a_first, a_last)) : wpX_loadItems Q (f_callLimit, f_depthLimit, f_draft, f_height, f_guarded, f_consCount, f_outKind, f_outValue, f_outCalls, f_outPeak, nI B, f_top, f_nextF, f_nextN, f_nextXs, f_nextYs, f_holePos, f_holeMul, f_holeAdd, f_holeFirst, f_holeLast, f_running, f_ending, f_entered, f_deepest, a_ops, a_args, a_passed, a_length, a_heldCount, a_kinds, a_items, a_itemCount, a_outList, a_head, a_tail, a_fn, a_pc, a_argN, a_argXs, a_argYs, a_sp, a_values, a_mul, a_add, a_first, a_last) (nI w) := by
  have e1 : (nI w).toNatClampNeg = w := nI_clamp (by omega)
  have i1 : vp_in (nI w) 2 := vp_in_nI hw (by decide)
  dsimp only [wpX_loadItems]
  rw [e1, hcnt]
  refine And.intro i1 (nm_e ⟨c + 1, ?_⟩)
  refine xl_ld hw hc c (c + 1) 0 B a_head a_tail (Nat.le_refl _) (by omega) hB hB0 ?_ K
  rw [Nat.sub_self]
  exact rfl
theorem xl_co {V : Nat → Prop} {W : Nat → Int32} {Q : Int32 → SX → Prop} (hV : ∀ x, V x → 0 < x ∧ x < 225) :
    ∀ (l : List Int32) (i c k : Nat) (O : Nat → Int32), l.length < k → i + l.length ≤ 208 → hp_lr a_head a_tail V c l → (∀ j, j < i → O j = W j) → (∀ j, j < l.length → W (i + j) = l.getD j 0) →
      (∀ O' : Nat → Int32, (∀ j, j < i + l.length → O' j = W j) → Q (nI (i + l.length)) (f_callLimit, f_depthLimit, f_draft, f_height, f_guarded, f_consCount, f_outKind, f_outValue, f_outCalls, f_outPeak, f_cells, f_top, f_nextF, f_nextN, f_nextXs, f_nextYs, f_holePos, f_holeMul, f_holeAdd, f_holeFirst, f_holeLast, f_running, f_ending, f_entered, f_deepest, a_ops, a_args, a_passed, a_length, a_heldCount, a_kinds, a_items, a_itemCount, O', a_head, a_tail, a_fn, a_pc, a_argN, a_argXs, a_argYs, a_sp, a_values, a_mul, a_add, a_first, a_last)) →
      wX_copyOut_4 Q f_callLimit f_depthLimit f_draft f_height f_guarded f_consCount f_outKind f_outValue f_outCalls f_outPeak f_cells f_top f_nextF f_nextN f_nextXs f_nextYs f_holePos f_holeMul f_holeAdd f_holeFirst f_holeLast f_running f_ending f_entered f_deepest k (nI c) (nI i)
        a_ops a_args a_passed a_length a_heldCount a_kinds a_items a_itemCount O a_head a_tail a_fn a_pc a_argN a_argXs a_argYs a_sp a_values a_mul a_add a_first a_last := by
  intro l
  induction l with
  | nil =>
    intro i c k O hk hi hl hO hW K
    obtain ⟨k, rfl⟩ : ∃ k', k = k' + 1 := ⟨k - 1, by omega⟩
    have hc : c = 0 := hl
    subst hc
    rw [wX_copyOut_4]
    dsimp only
    exact br_t rfl (K O hO)
  | cons x l ih =>
    intro i c k O hk hi hl hO hW K
    obtain ⟨k, rfl⟩ : ∃ k', k = k' + 1 := ⟨k - 1, by omega⟩
    obtain ⟨h1, h2, c', h3, h4⟩ := hl
    obtain ⟨v1, v2⟩ := hV c h1
    rw [List.length_cons] at hk hi
    have ec : (nI c).toNatClampNeg = c := nI_clamp (by omega)
    have ei : (nI i).toNatClampNeg = i := nI_clamp (by omega)
    have ic : vp_in (nI c) 225 := vp_in_nI v2 (by decide)
    rw [wX_copyOut_4]
    dsimp only
    rw [ec, ei, h2, h3]
    refine br_f (nI_ne0 v1 (by omega)) (br_f (nI_ge (b := 225) (by omega) (by decide)) (And.intro ic (And.intro (vp_in_nI (by omega) (by decide)) (nm_e (nm_r (nI_1 i) (And.intro ic (nm_e ?_)))))))
    have hW0 : W i = x := hW 0 (by rw [List.length_cons]; omega)
    refine ih (i + 1) c' k _ (by omega) (by omega) h4 ?_ ?_ ?_
    · intro j hj
      by_cases e : j = i
      · subst e
        rw [pk_us, hW0]
      · rw [pk_un e]
        exact hO j (by omega)
    · intro j hj
      have := hW (j + 1) (by rw [List.length_cons]; omega)
      rw [show i + (j + 1) = i + 1 + j by omega] at this
      exact this
    · intro O' hO'
      have hK := K O'
      rw [List.length_cons, show i + (l.length + 1) = i + 1 + l.length by omega] at hK
      exact hK hO'
/-- the answer of the outermost call -/
theorem xl_f83o {k x : Int32} {V : Nat → Prop} {w : List Int32} {kb : Bool} {Q : SX → Prop} (hk : k = hp_kI kb) (hV : ∀ z, V z → 0 < z ∧ z < 225) (hv : hp_vr (hp_lr a_head a_tail V) kb x w) (hw : w.length ≤ 208)
    (Ki : kb = false → w = [x] → Q (f_callLimit, f_depthLimit, f_draft, f_height, f_guarded, f_consCount, 1, x, f_entered, f_deepest, f_cells, -1, f_nextF, f_nextN, f_nextXs, f_nextYs, f_holePos, f_holeMul, f_holeAdd, f_holeFirst, f_holeLast, 0, f_ending, f_entered, f_deepest, a_ops, a_args, a_passed, a_length, a_heldCount, a_kinds, a_items, a_itemCount, a_outList, a_head, a_tail, a_fn, a_pc, a_argN, a_argXs, a_argYs, a_sp, a_values, a_mul, a_add, a_first, a_last))
    (Kl : kb = true → ∀ O, (∀ j, j < w.length → O j = w.getD j 0) → Q (f_callLimit, f_depthLimit, f_draft, f_height, f_guarded, f_consCount, 2, nI w.length, f_entered, f_deepest, f_cells, -1, f_nextF, f_nextN, f_nextXs, f_nextYs, f_holePos, f_holeMul, f_holeAdd, f_holeFirst, f_holeLast, 0, f_ending, f_entered, f_deepest, a_ops, a_args, a_passed, a_length, a_heldCount, a_kinds, a_items, a_itemCount, O, a_head, a_tail, a_fn, a_pc, a_argN, a_argXs, a_argYs, a_sp, a_values, a_mul, a_add, a_first, a_last)) : wX_finish_83 Q k x f_callLimit f_depthLimit f_draft f_height f_guarded f_consCount f_outKind f_outValue f_outCalls f_outPeak f_cells (nI 0) f_nextF f_nextN f_nextXs f_nextYs f_holePos f_holeMul f_holeAdd f_holeFirst f_holeLast f_running f_ending f_entered f_deepest a_ops a_args a_passed a_length a_heldCount a_kinds a_items a_itemCount a_outList a_head a_tail a_fn a_pc a_argN a_argXs a_argYs a_sp a_values a_mul a_add a_first a_last := by
  unfold wX_finish_83
  refine nm_r (e' := -1) (by decide) (br_t (by decide) ?_)
  subst hk
  dsimp only [wpX_storeOutcome]
  cases kb with
  | false =>
    have hv' : w = [x] := hv
    exact br_t rfl (Ki rfl hv')
  | true =>
    obtain ⟨c, hc, hl⟩ := hv
    subst hc
    refine br_f (by decide) ?_
    dsimp only [wpX_copyOut]
    refine ⟨w.length + 1, ?_⟩
    refine xl_co (V := V) (W := fun j => w.getD j 0) hV w 0 c (w.length + 1) a_outList (by omega) (by omega) hl (fun j hj => absurd hj (Nat.not_lt_zero j)) (fun j _ => by rw [Nat.zero_add]) ?_
    intro O' hO'
    rw [Nat.zero_add] at hO' ⊢
    exact Kl rfl O' hO'
end
section
variable {f_draft f_outKind f_outCalls f_outPeak : Int32} {a_ops a_args a_length b_cell b_len b_fn b_pos b_height b_depth : Nat → Int32} {CL DL : Nat}
/-- Y's run as a whole -/
theorem yr_run (hTX : hp_TX a_ops a_args (hp_N a_length)) (hlen : ∀ f, f < 4 → a_length f = nI (hp_N a_length f)) (hC8 : 8 ≤ CL) (hCL : CL ≤ 64) (hD1 : 1 ≤ DL) (hDL : DL ≤ 16) {n f : Nat} (hf : f < 4) (hn : 49 * 63 + 48 < n) {x : Int32} {xs ys : List Int32} (hd : f_draft < 0)
    (hx : xs.length ≤ 16) (hy : ys.length ≤ 16) (sx : hp_sl b_cell b_len 576 xs) (sy : hp_sl b_cell b_len 577 ys) {Q : Int32 → SY → Prop}
    (KF : ∀ c, hp_ev a_ops a_args (hp_N a_length) CL DL n f 0 1 x xs ys [] 1 1 = .inl c → ∀ c1 l1 f1 p1 h1 d1, hp_fr 0 576 b_cell b_len c1 l1 → Q c (f_draft, 0, 0, 0, nI CL, nI DL, a_ops, a_args, a_length, c1, l1, f1, p1, h1, d1, 120432))
    (KO : ∀ w e' dp', hp_ev a_ops a_args (hp_N a_length) CL DL n f 0 1 x xs ys [] 1 1 = .inr (w, e', dp') → ∀ c0 l0 c1 l1 f1 p1 h1 d1, hp_fr 0 576 b_cell b_len c0 l0 → hp_fr 578 579 c0 l0 c1 l1 → hp_sl c1 l1 578 w →
      Q 0 (f_draft, hp_kI (hp_kg f), nI e', nI dp', nI CL, nI DL, a_ops, a_args, a_length, c1, l1, f1, p1, h1, d1, 120432)) :
    wpY_run Q (f_draft, f_outKind, f_outCalls, f_outPeak, nI CL, nI DL, a_ops, a_args, a_length, b_cell, b_len, b_fn, b_pos, b_height, b_depth, 120432) (nI f) x := by
  refine br_f (nI_pos (by omega)) (br_t (nI_lt (b := 4) hf (by decide)) (br_t hd ?_))
  refine yl_setA (q := 0) (by omega) (fun c1 l1 f1 g1 => ?_)
  refine yl_cpA (p := 576) (q := 1) (by omega) (by omega) (by omega) (by omega) (sl_fr f1 (Or.inr (by omega)) (by omega) sx) (fun c2 l2 f2 g2 => ?_)
  refine yl_cpA (p := 577) (q := 2) (by omega) (by omega) (by omega) (by omega) (sl_fr f2 (Or.inr (by omega)) (by omega) (sl_fr f1 (Or.inr (by omega)) (by omega) sy)) (fun c3 l3 f3 g3 => ?_)
  refine nm_e (nm_e (nm_e (nm_e ⟨4097, ?_⟩)))
  have hfr : hp_fr 0 576 b_cell b_len c3 l3 := fr_tr (fr_mo f1 (by omega) (by omega)) (fr_tr (fr_mo f2 (by omega) (by omega)) (fr_mo f3 (by omega) (by omega)))
  refine yr_main hTX hlen hCL hDL n f 0 1 x xs ys [] 1 1 16 0 0 c3 l3 _ _ _ _ hf (hp_At0 _ f) (by omega) (by omega) hD1 hD1 (by omega) (by have : hp_cc (hp_o a_ops f) 0 = 0 := rfl; omega) hx hy hp_Bd_0 trivial ?_ (by omega) (by omega) ?_ ?_ 4097 rfl
  · exact ⟨pk_us, pk_us, pk_us, pk_us, sl_fr f3 (Or.inl (by omega)) (show 1 ≤ 208 by decide) (sl_fr f2 (Or.inl (by omega)) (show 1 ≤ 208 by decide) g1), sl_fr f3 (Or.inl (by omega)) (by omega) g2, g3, trivial⟩
  · intro c hE c4 l4 f4 p4 h4 d4 hfr4
    exact KF c hE c4 l4 f4 p4 h4 d4 (fr_tr hfr hfr4)
  · intro w e' dp' hE s' c4 l4 f4 p4 h4 d4 x7 x8 x9 k hfr4 hsl hlow hs' hk
    have hE' := hp_ev_f hTX n f 0 1 x xs ys [] 1 1 16 w e' dp' hf (hp_At0 _ f) (by omega) (by omega) hD1 hx hy hp_Bd_0 trivial hE
    have e0 : hp_cc (hp_o a_ops f) 0 = 0 := rfl
    rw [e0] at hE'
    unfold wY_run_200
    refine br_t rfl (br_t rfl ?_)
    have e3 : nI (9 * 0) + 3 = nI 3 := by decide
    rw [e3]
    refine yl_cpA (p := 3) (q := 578) (by omega) (by omega) (by omega) (by omega) hsl (fun c5 l5 f5 g5 => ?_)
    have eand : nI f &&& 1 = nI (f % 2) := pk_andN (by omega) 1 (by decide)
    have ek : (1 : Int32) + (nI f &&& 1) = hp_kI (hp_kg f) := by
      rw [eand]
      rcases Nat.mod_two_eq_zero_or_one f with z | z
      · have hk0 : hp_kg f = false := by unfold hp_kg; rw [z]; rfl
        rw [hk0, z]
        decide
      · have hk0 : hp_kg f = true := by unfold hp_kg; rw [z]; rfl
        rw [hk0, z]
        decide
    exact nm_r ek (KO w e' dp' hE c4 l4 c5 l5 f4 p4 h4 d4 (fr_tr hfr hfr4) f5 g5)
end
end
section
theorem i_vc_run {k : Nat} {u : SX} {v : SY} (I : i_Rel k u v) (hk : k + 3 ≤ 1538) (v1 : Int32) (v2 : Int32) : wpX_run (fun r u' => wpY_run (fun r' v' => r' = r ∧ i_Rel (k + 3) u' v') v v1 v2) u v1 v2 := by
  refine zz_el (P := fun u v => wpX_run (fun r u' => wpY_run (fun r' v' => r' = r ∧ i_Rel (k + 3) u' v') v v1 v2) u v1 v2) I ?_
  intro f_callLimit f_depthLimit f_draft f_height f_guarded f_consCount f_outKind f_outValue f_outCalls f_outPeak f_cells f_top f_nextF f_nextN f_nextXs f_nextYs f_holePos f_holeMul f_holeAdd f_holeFirst f_holeLast f_running f_ending f_entered f_deepest a_ops a_args a_passed a_length a_heldCount a_kinds a_items a_itemCount a_outList a_head a_tail a_fn a_pc a_argN a_argXs a_argYs a_sp a_values a_mul a_add a_first a_last b_cell b_len b_fn b_pos b_height b_depth h1 h2 h3 h4 h5 h6 h7
  have hz : ∀ j, i_Rel j (f_callLimit, f_depthLimit, f_draft, f_height, f_guarded, f_consCount, f_outKind, f_outValue, f_outCalls, f_outPeak, f_cells, f_top, f_nextF, f_nextN, f_nextXs, f_nextYs, f_holePos, f_holeMul, f_holeAdd, f_holeFirst, f_holeLast, f_running, f_ending, f_entered, f_deepest, a_ops, a_args, a_passed, a_length, a_heldCount, a_kinds, a_items, a_itemCount, a_outList, a_head, a_tail, a_fn, a_pc, a_argN, a_argXs, a_argYs, a_sp, a_values, a_mul, a_add, a_first, a_last) (f_draft, f_outKind, f_outCalls, f_outPeak, f_callLimit, f_depthLimit, a_ops, a_args, a_length, b_cell, b_len, b_fn, b_pos, b_height, b_depth, 120432) := fun j => zz_in h1 h2 h3 h4 h5 h6 h7
  dsimp only [wpX_run]
  rcases hp_f4 v1 with z | ⟨f, hf, rfl, z1, z2, z3⟩
  · refine xl_isf (fun _ => br_t rfl ?_) (fun a b => (z.elim a b).elim)
    rcases z with z | z
    · exact br_t z ⟨rfl, hz _⟩
    · exact br_f (Int32.not_lt.mpr (Int32.le_trans (by decide) z)) (br_f (Int32.not_lt.mpr z) ⟨rfl, hz _⟩)
  · refine xl_isf (fun z => (z.elim z1 z2).elim) (fun _ _ => br_f (by decide) (br_c (fun hd => ?_) (fun hd => ?_)))
    · have hdr := hp_dn h3 hd
      have h1' := h1
      obtain ⟨CL, DL, c1, c2, d1, d2, rfl, rfl⟩ := h1
      obtain ⟨n0, hn0, k1, k2, k3⟩ := h4 0 (by decide)
      obtain ⟨n1, hn1, m1, m2, m3⟩ := h4 1 (by decide)
      have hTX : hp_TX a_ops a_args (hp_N a_length) := fun g hg => by
        obtain ⟨t1, t2, t3, t4, t5⟩ := h2 g hg
        exact ⟨t2, t3, t4, (t5 (by rw [hdr]; exact hp_m1 hg)).1⟩
      have hlen : ∀ g, g < 4 → a_length g = nI (hp_N a_length g) := fun g hg => (h2 g hg).1
      have hpas : ∀ g i, g < 4 → i < hp_N a_length g → a_ops (g * 48 + i) = 14 → a_passed (g * 48 + i) = hp_bI (hp_pa (hp_o a_ops g) (hp_N a_length g) i) := fun g i hg hi ho => by
        obtain ⟨t1, t2, t3, t4, t5⟩ := h2 g hg
        exact (t5 (by rw [hdr]; exact hp_m1 hg)).2.2 i hi ho
      obtain ⟨n, hn⟩ : ∃ n, 49 * 63 + 48 < n := ⟨49 * 63 + 49, by decide⟩
      have sx : hp_sl b_cell b_len 576 (hp_lf (fun j => a_items (0 * 16 + j)) 0 n0) := by
        refine And.intro (by rw [lf_l]; exact k2) (fun i hi => ?_)
        rw [lf_l] at hi
        rw [lf_g n0 0 i hi, Nat.zero_add]
        exact (k3 i hi).symm
      have sy : hp_sl b_cell b_len 577 (hp_lf (fun j => a_items (1 * 16 + j)) 0 n1) := by
        refine And.intro (by rw [lf_l]; exact m2) (fun i hi => ?_)
        rw [lf_l] at hi
        rw [lf_g n1 0 i hi, Nat.zero_add]
        exact (m3 i hi).symm
      have yR := fun Q => yr_run (f_draft := f_draft) (f_outKind := f_outKind) (f_outCalls := f_outCalls) (f_outPeak := f_outPeak) (b_fn := b_fn) (b_pos := b_pos) (b_height := b_height) (b_depth := b_depth) (CL := CL) (DL := DL) (n := n) (f := f) (x := v2) hTX hlen c1 c2 d1 d2 hf hn hd (by rw [lf_l]; exact hn0) (by rw [lf_l]; exact hn1) sx sy (Q := Q)
      dsimp only [wpX_reset]
      refine xl_loadItems (w := 0) (c := n0) (B := 1) (by decide) hn0 k1 (by omega) (by decide) (fun q0 hd0 tl0 hl0 hx0 => ?_)
      dsimp only
      refine xl_loadItems (w := 1) (c := n1) (B := 1 + n0) (by decide) hn1 m1 (by omega) (by omega) (fun q1 hd1 tl1 hl1 hx1 => ?_)
      dsimp only
      refine xl_ent_ok (f_top := -1) (T := 0) (e := 0) (dp := 0) (by decide) (by decide) (by omega) c2 d1 d2 (by omega) ?_
      refine ⟨4097, ?_⟩
      have hh0 : hd1 0 = 0 := ((hx1 0 (by omega)).1.trans (hx0 0 (by omega)).1).trans h6
      have ht0 : tl1 0 = 0 := ((hx1 0 (by omega)).2.trans (hx0 0 (by omega)).2).trans h7
      have main : xL (fun r u' => wpY_run (fun r' v' => r' = r ∧ i_Rel (k + 3) u' v') (f_draft, f_outKind, f_outCalls, f_outPeak, nI CL, nI DL, a_ops, a_args, a_length, b_cell, b_len, b_fn, b_pos, b_height, b_depth, 120432) (nI f) v2) 0 (xM (nI CL) (nI DL) f_draft f_height f_guarded f_consCount 0 0 0 0 a_ops a_args a_passed a_length a_heldCount a_kinds a_items a_itemCount a_outList
          (nI (1 + n0 + n1), nI 0, nI f, v2, nI q0, nI q1, -1, f_holeMul, f_holeAdd, f_holeFirst, f_holeLast, 1, 0, nI (0 + 1), nI (hp_mx 0 (0 + 1)), hd1, tl1, upd a_fn 0 (nI f), upd a_pc 0 0, upd a_argN 0 v2, upd a_argXs 0 (nI q0), upd a_argYs 0 (nI q1), upd a_sp 0 0, a_values, upd a_mul 0 1, upd a_add 0 0, upd a_first 0 0, upd a_last 0 0)) := by
        have e0 : hp_cc (hp_o a_ops f) 0 = 0 := rfl
        refine xr_main hTX hlen hpas c2 d2 n f 0 v2 (hp_lf (fun j => a_items (0 * 16 + j)) 0 n0) (hp_lf (fun j => a_items (1 * 16 + j)) 0 n1) [] 1 1 (1 + n0 + n1) hp_no 0 (1 + n0 + n1) 0 1 0 [] 0 0 _ hf (hp_At0 _ f) (by omega) (by omega) d1 (by omega) (by omega) (by omega) (by omega) (Nat.le_refl _) (fun z hz => hz.elim) ?_ ?_ ?_ rfl ?_ ?_
        · exact ⟨rfl, pk_us, pk_us, pk_us, ⟨q0, pk_us, lr_hx hx1 (by omega) hl0⟩, ⟨q1, pk_us, hl1⟩, rfl, rfl, rfl, rfl, rfl, hh0, ht0⟩
        · exact ⟨pk_us, trivial⟩
        · exact ⟨pk_us, pk_us, pk_us, pk_us, rfl, rfl⟩
        · intro c hE d' hz'
          obtain ⟨f_cells', f_top', f_nextF', f_nextN', f_nextXs', f_nextYs', f_holePos', f_holeMul', f_holeAdd', f_holeFirst', f_holeLast', f_running', f_ending', f_entered', f_deepest', a_head', a_tail', a_fn', a_pc', a_argN', a_argXs', a_argYs', a_sp', a_values', a_mul', a_add', a_first', a_last'⟩ := d'
          refine yR _ ?_ ?_
          · intro c' hE' c3 l3 f3 p3 h3' d3 hfr
            have : c' = c := by
              have := hE'.symm.trans hE
              injection this
            exact ⟨this, zz_in h1' h2 h3 (hp_RI_fr h4 hfr) (Or.inl ⟨rfl, rfl⟩) hz'.1 hz'.2⟩
          · intro w e' dp' hE'
            have := hE'.symm.trans hE
            exact absurd this (fun z => nomatch z)
        · intro w e' dp' hE s' B' x' d' he1 he2 hdp' hwt hQ' hV' hR' hBB hroom hst
          have hE' := hp_ev_f hTX n f 0 1 v2 _ _ [] 1 1 16 w e' dp' hf (hp_At0 _ f) (by omega) (by omega) d1 (by rw [lf_l]; exact hn0) (by rw [lf_l]; exact hn1) hp_Bd_0 trivial hE
          rw [e0] at hE'
          have yK : ∀ (Q : Int32 → SY → Prop), (∀ c3 l3 c4 l4 f4 p4 h4' d4, hp_fr 0 576 b_cell b_len c3 l3 → hp_fr 578 579 c3 l3 c4 l4 → hp_sl c4 l4 578 w →
              Q 0 (f_draft, hp_kI (hp_kg f), nI e', nI dp', nI CL, nI DL, a_ops, a_args, a_length, c4, l4, f4, p4, h4', d4, 120432)) → wpY_run Q (f_draft, f_outKind, f_outCalls, f_outPeak, nI CL, nI DL, a_ops, a_args, a_length, b_cell, b_len, b_fn, b_pos, b_height, b_depth, 120432) (nI f) v2 := by
            intro Q hQ
            refine yR Q ?_ ?_
            · intro c' hE2
              have := hE2.symm.trans hE
              exact absurd this (fun z => nomatch z)
            · intro w2 e2 dp2 hE2
              have q := hE2.symm.trans hE
              injection q with q
              injection q with q1 q2
              injection q2 with q2 q3
              subst q1 q2 q3
              exact hQ
          rw [ho_1 hwt] at hV'
          obtain ⟨f_cells', f_top', f_nextF', f_nextN', f_nextXs', f_nextYs', f_holePos', f_holeMul', f_holeAdd', f_holeFirst', f_holeLast', f_running', f_ending', f_entered', f_deepest', a_head', a_tail', a_fn', a_pc', a_argN', a_argXs', a_argYs', a_sp', a_values', a_mul', a_add', a_first', a_last'⟩ := d'
          obtain ⟨rfl, rfl, rfl, rfl, rfl, rfl, hh0', ht0', rfl⟩ := hQ'
          have hRI : ∀ c3 l3 c4 l4, hp_fr 0 576 b_cell b_len c3 l3 → hp_fr 578 579 c3 l3 c4 l4 → hp_RI a_items a_itemCount c4 l4 := by
            intro c3 l3 c4 l4 r1 r2 w' hw'
            obtain ⟨c', t1, t2, t3, t4⟩ := hp_RI_fr h4 r1 w' hw'
            exact ⟨c', t1, t2, (r2.2 _ (by omega)).trans t3, fun i hi => (t4 i hi).trans (r2.1 _ (by omega)).symm⟩
          intro Q hQ
          refine xl_f83o (V := hp_V hp_no 0 B') (w := w) (kb := hp_kg f) rfl (fun z hz => ⟨hz.1, by have := hz.2.1; omega⟩) hV' (by omega) (fun hkf hw1 => hQ _ (xd_stop (by omega) ?_)) (fun hkf O hO => hQ _ (xd_stop (by omega) ?_))
          · refine yK _ ?_
            intro c3 l3 c4 l4 f4 p4 h4' d4 r1 r2 r3
            rw [hkf]
            refine ⟨rfl, zz_in h1' h2 h3 (hRI _ _ _ _ r1 r2) (Or.inr (Or.inl ⟨rfl, ?_⟩)) hh0' ht0'⟩
            rw [hw1] at r3
            exact (sl_x r3).symm
          · refine yK _ ?_
            intro c3 l3 c4 l4 f4 p4 h4' d4 r1 r2 r3
            rw [hkf]
            refine ⟨rfl, zz_in h1' h2 h3 (hRI _ _ _ _ r1 r2) (Or.inr (Or.inr ⟨rfl, w.length, by omega, rfl, r3.1, fun i hi => ?_⟩)) hh0' ht0'⟩
            rw [hO i hi]
            exact (r3.2 i hi).symm
      exact main 4097 rfl
    · exact br_f z1 (br_t z3 (br_f hd ⟨rfl, hz _⟩))
end
section
theorem fit_lo {o : Int32} {f : Nat} {st : List Bool} {g : Bool} (h : o = 1 ∨ o = 2 ∨ o = 3 ∨ o = 4 ∨ o = 5) : hp_fit o f st g := by
  rcases h with rfl | rfl | rfl | rfl | rfl <;> exact ⟨fun z => absurd z (by decide), fun z => absurd z (by decide), fun z => absurd z (by decide), fun z => absurd z (by decide), fun z => absurd z (by decide), fun z => absurd z (by decide)⟩
theorem fit_un {o : Int32} {f : Nat} {st : List Bool} {g : Bool} (h : o = 6 ∨ o = 7 ∨ o = 8) : hp_fit o f st g ↔ hp_kd st 0 = 2 := by
  rcases h with rfl | rfl | rfl <;> exact ⟨fun z => z.1 (by decide) (by decide), fun q => ⟨fun _ _ => q, fun z => absurd z (by decide), fun z => absurd z (by decide), fun z => absurd z (by decide), fun z => absurd z (by decide), fun z => absurd z (by decide)⟩⟩
theorem fit_9 {f : Nat} {st : List Bool} {g : Bool} : hp_fit 9 f st g ↔ (hp_kd st 0 = 2 ∧ hp_kd st 1 = 1) :=
  ⟨fun z => z.2.1 rfl, fun q => ⟨fun _ z => absurd z (by decide), fun _ => q, fun z => absurd z (by decide), fun z => absurd z (by decide), fun z => absurd z (by decide), fun z => absurd z (by decide)⟩⟩
theorem fit_b {o : Int32} {f : Nat} {st : List Bool} {g : Bool} (h : o = 10 ∨ o = 11 ∨ o = 12 ∨ o = 13) : hp_fit o f st g ↔ (hp_kd st 0 = 1 ∧ hp_kd st 1 = 1) := by
  rcases h with rfl | rfl | rfl | rfl <;> exact ⟨fun z => z.2.2.1 (by decide) (by decide), fun q => ⟨fun _ z => absurd z (by decide), fun z => absurd z (by decide), fun _ _ => q, fun z => absurd z (by decide), fun z => absurd z (by decide), fun z => absurd z (by decide)⟩⟩
theorem fit_14 {f : Nat} {st : List Bool} {g : Bool} : hp_fit 14 f st g ↔ (hp_kd st 0 = 2 ∧ hp_kd st 1 = 2 ∧ hp_kd st 2 = 1) :=
  ⟨fun z => z.2.2.2.1 rfl, fun q => ⟨fun _ z => absurd z (by decide), fun z => absurd z (by decide), fun _ z => absurd z (by decide), fun _ => q, fun z => absurd z (by decide), fun z => absurd z (by decide)⟩⟩
theorem fit_15 {f : Nat} {st : List Bool} {g : Bool} : hp_fit 15 f st g ↔ (g = false ∧ st.length = 1 ∧ hp_kd st 0 = 1) :=
  ⟨fun z => z.2.2.2.2.1 rfl, fun q => ⟨fun _ z => absurd z (by decide), fun z => absurd z (by decide), fun _ z => absurd z (by decide), fun z => absurd z (by decide), fun _ => q, fun z => absurd z (by decide)⟩⟩
theorem fit_16 {f : Nat} {st : List Bool} {g : Bool} : hp_fit 16 f st g ↔ (st.length = 1 ∧ hp_kd st 0 = hp_kn (hp_kg f)) :=
  ⟨fun z => z.2.2.2.2.2 rfl, fun q => ⟨fun _ z => absurd z (by decide), fun z => absurd z (by decide), fun _ z => absurd z (by decide), fun z => absurd z (by decide), fun z => absurd z (by decide), fun _ => q⟩⟩
theorem kd_le : ∀ (st : List Bool) (d : Nat), hp_kd st d ≤ 2
  | [], _ => Nat.zero_le _
  | k :: _, 0 => by
    show hp_kn k ≤ 2
    cases k <;> decide
  | _ :: r, d + 1 => kd_le r d
theorem ks_kd {kinds : Nat → Int32} : ∀ {st : List Bool} {d : Nat}, hp_ks kinds st → d < st.length → kinds (st.length - 1 - d) = nI (hp_kd st d)
  | [], _, _, h => absurd h (Nat.not_lt_zero _)
  | k :: r, 0, h, _ => by
    rw [List.length_cons, show r.length + 1 - 1 - 0 = r.length by omega]
    exact h.1
  | k :: r, d + 1, h, hd => by
    rw [List.length_cons] at hd ⊢
    rw [show r.length + 1 - 1 - (d + 1) = r.length - 1 - d by omega]
    exact ks_kd h.2 (by omega)
theorem kd_0 : ∀ {st : List Bool} {d : Nat}, st.length ≤ d → hp_kd st d = 0
  | [], _, _ => rfl
  | _ :: _, 0, h => absurd h (by rw [List.length_cons]; omega)
  | _ :: r, d + 1, h => kd_0 (st := r) (by rw [List.length_cons] at h; omega)
theorem ks_dr {kinds : Nat → Int32} : ∀ (t : Nat) {st : List Bool}, hp_ks kinds st → hp_ks kinds (st.drop t)
  | 0, _, h => h
  | _ + 1, [], h => h
  | t + 1, _ :: r, h => ks_dr t (st := r) h.2
theorem ks_mo {kinds kinds' : Nat → Int32} : ∀ {st : List Bool}, (∀ j, j < st.length → kinds' j = kinds j) → hp_ks kinds st → hp_ks kinds' st
  | [], _, _ => trivial
  | k :: r, hj, h => by
    rw [List.length_cons] at hj
    exact ⟨(hj _ (by omega)).trans h.1, ks_mo (fun j q => hj j (by omega)) h.2⟩
def hp_aw (o a : Int32) : Int32 := if o = 1 then a else if o = 14 then a else 0
def hp_fu' (o : Int32) (st : List Bool) (cc : Nat) : Prop := (o ≤ 5 ∧ 6 ≤ st.length) ∨ (o = 9 ∧ 3 ≤ cc)
section
variable {f_callLimit : Int32} {f_depthLimit : Int32} {f_draft : Int32} {f_height : Int32} {f_guarded : Int32} {f_consCount : Int32} {f_outKind : Int32} {f_outValue : Int32} {f_outCalls : Int32} {f_outPeak : Int32} {f_cells : Int32} {f_top : Int32} {f_nextF : Int32} {f_nextN : Int32} {f_nextXs : Int32} {f_nextYs : Int32} {f_holePos : Int32} {f_holeMul : Int32} {f_holeAdd : Int32} {f_holeFirst : Int32} {f_holeLast : Int32} {f_running : Int32} {f_ending : Int32} {f_entered : Int32} {f_deepest : Int32} {a_ops : Nat → Int32} {a_args : Nat → Int32} {a_passed : Nat → Int32} {a_length : Nat → Int32} {a_heldCount : Nat → Int32} {a_kinds : Nat → Int32} {a_items : Nat → Int32} {a_itemCount : Nat → Int32} {a_outList : Nat → Int32} {a_head : Nat → Int32} {a_tail : Nat → Int32} {a_fn : Nat → Int32} {a_pc : Nat → Int32} {a_argN : Nat → Int32} {a_argXs : Nat → Int32} {a_argYs : Nat → Int32} {a_sp : Nat → Int32} {a_values : Nat → Int32} {a_mul : Nat → Int32} {a_add : Nat → Int32} {a_first : Nat → Int32} {a_last : Nat → Int32}
theorem xw_ku {st : List Bool} {d : Nat} {Q : Int32 → Prop} (h6 : st.length ≤ 6) (hd : d < 6) (hk : hp_ks a_kinds st) (K : Q (nI (hp_kd st d))) : wpX_kindUnder Q (f_callLimit, f_depthLimit, f_draft, nI st.length, f_guarded, f_consCount, f_outKind, f_outValue, f_outCalls, f_outPeak, f_cells, f_top, f_nextF, f_nextN, f_nextXs, f_nextYs, f_holePos, f_holeMul, f_holeAdd, f_holeFirst, f_holeLast, f_running, f_ending, f_entered, f_deepest, a_ops, a_args, a_passed, a_length, a_heldCount, a_kinds, a_items, a_itemCount, a_outList, a_head, a_tail, a_fn, a_pc, a_argN, a_argXs, a_argYs, a_sp, a_values, a_mul, a_add, a_first, a_last) (nI d) := by
  dsimp only [wpX_kindUnder]
  refine br_c (fun z => ?_) (fun z => ?_)
  · rw [nI_leI (by omega) (by omega)] at z
    rw [kd_0 z] at K
    exact K
  · rw [nI_leI (by omega) (by omega)] at z
    have e : nI st.length - 1 - nI d = nI (st.length - 1 - d) := by
      rw [show (1 : Int32) = nI 1 from rfl, pk_sub (by omega), pk_sub (by omega)]
    rw [e, nI_clamp (by omega), ks_kd hk (by omega)]
    exact And.intro (vp_in_nI (by omega) (by decide)) K
theorem kd_eq {st : List Bool} {d c : Nat} (hc : c < 2 ^ 31) : nI (hp_kd st d) = nI c ↔ hp_kd st d = c := nI_eq (by have := kd_le st d; omega) hc
theorem xw_fits {st : List Bool} {o : Int32} {f : Nat} {g : Bool} {Q : Int32 → Prop} (h1 : 1 ≤ o) (h16 : o ≤ 16) (hf : f < 4) (h6 : st.length ≤ 6) (hk : hp_ks a_kinds st) (K1 : hp_fit o f st g → Q 1) (K0 : ¬ hp_fit o f st g → Q 0) : wpX_fits Q (f_callLimit, f_depthLimit, nI f, nI st.length, hp_bI g, f_consCount, f_outKind, f_outValue, f_outCalls, f_outPeak, f_cells, f_top, f_nextF, f_nextN, f_nextXs, f_nextYs, f_holePos, f_holeMul, f_holeAdd, f_holeFirst, f_holeLast, f_running, f_ending, f_entered, f_deepest, a_ops, a_args, a_passed, a_length, a_heldCount, a_kinds, a_items, a_itemCount, a_outList, a_head, a_tail, a_fn, a_pc, a_argN, a_argXs, a_argYs, a_sp, a_values, a_mul, a_add, a_first, a_last) o := by
  have c2 : ∀ d, nI (hp_kd st d) = 2 ↔ hp_kd st d = 2 := fun d => kd_eq (c := 2) (by decide)
  have c1 : ∀ d, nI (hp_kd st d) = 1 ↔ hp_kd st d = 1 := fun d => kd_eq (c := 1) (by decide)
  have cl : nI st.length = 1 ↔ st.length = 1 := nI_eq (a := st.length) (b := 1) (by omega) (by decide)
  dsimp only [wpX_fits]
  by_cases c5 : 5 < o
  · refine br_t c5 ?_
    refine xw_ku (d := 0) h6 (by decide) hk ?_
    refine xw_ku (d := 1) h6 (by decide) hk ?_
    by_cases c8 : 8 < o
    · refine br_t c8 ?_
      by_cases c9 : o = 9
      · subst c9
        refine br_t rfl (br_c (fun z => br_c (fun z2 => ?_) (fun z2 => ?_)) (fun z => ?_))
        · exact K1 (fit_9.mpr ⟨(c2 0).mp z, (c1 1).mp z2⟩)
        · exact K0 (fun q => z2 ((c1 1).mpr (fit_9.mp q).2))
        · exact K0 (fun q => z ((c2 0).mpr (fit_9.mp q).1))
      · refine br_f c9 ?_
        by_cases c13 : 13 < o
        · refine br_t c13 ?_
          by_cases c14 : o = 14
          · subst c14
            refine br_t rfl (br_c (fun z => br_c (fun z2 => ?_) (fun z2 => ?_)) (fun z => ?_))
            · refine xw_ku (d := 2) h6 (by decide) hk (br_c (fun z3 => ?_) (fun z3 => ?_))
              · exact K1 (fit_14.mpr ⟨(c2 0).mp z, (c2 1).mp z2, (c1 2).mp z3⟩)
              · exact K0 (fun q => z3 ((c1 2).mpr (fit_14.mp q).2.2))
            · exact K0 (fun q => z2 ((c2 1).mpr (fit_14.mp q).2.1))
            · exact K0 (fun q => z ((c2 0).mpr (fit_14.mp q).1))
          · refine br_f c14 ?_
            by_cases c15 : o = 15
            · subst c15
              refine br_t rfl (br_c (fun z => br_c (fun z2 => br_c (fun z3 => ?_) (fun z3 => ?_)) (fun z2 => ?_)) (fun z => ?_))
              · refine K1 (fit_15.mpr ⟨?_, cl.mp z2, (c1 0).mp z3⟩)
                cases g with
                | false => rfl
                | true => exact absurd z (by decide)
              · exact K0 (fun q => z3 ((c1 0).mpr (fit_15.mp q).2.2))
              · exact K0 (fun q => z2 (cl.mpr (fit_15.mp q).2.1))
              · exact K0 (fun q => z (by rw [(fit_15.mp q).1]; rfl))
            · have c16 : o = 16 := by
                rcases hp_16 h1 h16 with h | h | h | h | h | h | h | h | h | h | h | h | h | h | h | h
                all_goals first
                  | exact h
                  | exact absurd h c14
                  | exact absurd h c15
                  | (rw [h] at c13; exact absurd c13 (by decide))
              subst c16
              refine br_f c15 (br_c (fun z => ?_) (fun z => ?_))
              · refine xl_kg hf (br_c (fun z2 => ?_) (fun z2 => ?_))
                · exact K1 (fit_16.mpr ⟨cl.mp z, (kd_eq (by cases hp_kg f <;> decide)).mp z2⟩)
                · exact K0 (fun q => z2 ((kd_eq (by cases hp_kg f <;> decide)).mpr (fit_16.mp q).2))
              · exact K0 (fun q => z (cl.mpr (fit_16.mp q).1))
        · have h4 := (hp_13 c8 c13).resolve_left c9
          refine br_f c13 (br_c (fun z => br_c (fun z2 => ?_) (fun z2 => ?_)) (fun z => ?_))
          · exact K1 ((fit_b h4.2.2).mpr ⟨(c1 0).mp z, (c1 1).mp z2⟩)
          · exact K0 (fun q => z2 ((c1 1).mpr ((fit_b h4.2.2).mp q).2))
          · exact K0 (fun q => z ((c1 0).mpr ((fit_b h4.2.2).mp q).1))
    · refine br_f c8 (br_c (fun z => ?_) (fun z => ?_))
      · exact K1 ((fit_un (hp_8 c5 c8)).mpr ((c2 0).mp z))
      · exact K0 (fun q => z ((c2 0).mpr ((fit_un (hp_8 c5 c8)).mp q)))
  · exact br_f c5 (K1 (fit_lo (hp_5 h1 c5)))
theorem xw_39 {st : List Bool} {o arg : Int32} {f n cc : Nat} {g : Bool} {Q : Int32 → SX → Prop} (h1 : 1 ≤ o) (h16 : o ≤ 16) (hf : f < 4) (h6 : st.length ≤ 6) (hk : hp_ks a_kinds st) (hn : n ≤ 48) (hl : a_length f = nI n) (hcc : cc ≤ 3)
    (Ka : 48 ≤ n → Q (-5) (f_callLimit, f_depthLimit, nI f, nI st.length, hp_bI g, nI cc, f_outKind, f_outValue, f_outCalls, f_outPeak, f_cells, f_top, f_nextF, f_nextN, f_nextXs, f_nextYs, f_holePos, f_holeMul, f_holeAdd, f_holeFirst, f_holeLast, f_running, f_ending, f_entered, f_deepest, a_ops, a_args, a_passed, a_length, a_heldCount, a_kinds, a_items, a_itemCount, a_outList, a_head, a_tail, a_fn, a_pc, a_argN, a_argXs, a_argYs, a_sp, a_values, a_mul, a_add, a_first, a_last)) (Kb : n < 48 → ¬ hp_fit o f st g → Q (-4) (f_callLimit, f_depthLimit, nI f, nI st.length, hp_bI g, nI cc, f_outKind, f_outValue, f_outCalls, f_outPeak, f_cells, f_top, f_nextF, f_nextN, f_nextXs, f_nextYs, f_holePos, f_holeMul, f_holeAdd, f_holeFirst, f_holeLast, f_running, f_ending, f_entered, f_deepest, a_ops, a_args, a_passed, a_length, a_heldCount, a_kinds, a_items, a_itemCount, a_outList, a_head, a_tail, a_fn, a_pc, a_argN, a_argXs, a_argYs, a_sp, a_values, a_mul, a_add, a_first, a_last))
    (Kc : n < 48 → hp_fit o f st g → hp_fu' o st cc → Q (-5) (f_callLimit, f_depthLimit, nI f, nI st.length, hp_bI g, nI cc, f_outKind, f_outValue, f_outCalls, f_outPeak, f_cells, f_top, f_nextF, f_nextN, f_nextXs, f_nextYs, f_holePos, f_holeMul, f_holeAdd, f_holeFirst, f_holeLast, f_running, f_ending, f_entered, f_deepest, a_ops, a_args, a_passed, a_length, a_heldCount, a_kinds, a_items, a_itemCount, a_outList, a_head, a_tail, a_fn, a_pc, a_argN, a_argXs, a_argYs, a_sp, a_values, a_mul, a_add, a_first, a_last))
    (Kd : n < 48 → hp_fit o f st g → ¬ hp_fu' o st cc → wX_word_101 Q o arg f_callLimit f_depthLimit (nI f) (nI st.length) (hp_bI g) (nI cc) f_outKind f_outValue f_outCalls f_outPeak f_cells f_top f_nextF f_nextN f_nextXs f_nextYs f_holePos f_holeMul f_holeAdd f_holeFirst f_holeLast f_running f_ending f_entered f_deepest a_ops a_args a_passed a_length a_heldCount a_kinds a_items a_itemCount a_outList a_head a_tail a_fn a_pc a_argN a_argXs a_argYs a_sp a_values a_mul a_add a_first a_last) : wX_word_39 Q o arg f_callLimit f_depthLimit (nI f) (nI st.length) (hp_bI g) (nI cc) f_outKind f_outValue f_outCalls f_outPeak f_cells f_top f_nextF f_nextN f_nextXs f_nextYs f_holePos f_holeMul f_holeAdd f_holeFirst f_holeLast f_running f_ending f_entered f_deepest a_ops a_args a_passed a_length a_heldCount a_kinds a_items a_itemCount a_outList a_head a_tail a_fn a_pc a_argN a_argXs a_argYs a_sp a_values a_mul a_add a_first a_last := by
  have e1 : (nI f).toNatClampNeg = f := nI_clamp (by omega)
  have i1 : vp_in (nI f) 4 := vp_in_nI hf (by decide)
  unfold wX_word_39
  rw [e1, hl]
  refine And.intro i1 (br_c (fun z => ?_) (fun z => ?_))
  · have z' : nI n < nI 48 := z
    rw [nI_ltI (by omega) (by omega)] at z'
    refine xw_fits h1 h16 hf h6 hk (fun hfit => br_f (by decide) ?_) (fun hfit => br_t rfl (Kb z' hfit))
    have h84 : ¬ (o ≤ 5 ∧ 6 ≤ st.length) → wX_word_84 Q o arg f_callLimit f_depthLimit (nI f) (nI st.length) (hp_bI g) (nI cc) f_outKind f_outValue f_outCalls f_outPeak f_cells f_top f_nextF f_nextN f_nextXs f_nextYs f_holePos f_holeMul f_holeAdd f_holeFirst f_holeLast f_running f_ending f_entered f_deepest a_ops a_args a_passed a_length a_heldCount a_kinds a_items a_itemCount a_outList a_head a_tail a_fn a_pc a_argN a_argXs a_argYs a_sp a_values a_mul a_add a_first a_last := by
      intro hno
      refine br_c (fun c9 => br_c (fun z3 => ?_) (fun z3 => ?_)) (fun c9 => ?_)
      · have z3' : nI cc < nI 3 := z3
        rw [nI_ltI (by omega) (by omega)] at z3'
        exact Kd z' hfit (fun q => q.elim hno (fun r => by omega))
      · have z3' : ¬ nI cc < nI 3 := z3
        rw [nI_ltI (by omega) (by omega)] at z3'
        exact Kc z' hfit (Or.inr ⟨c9, by omega⟩)
      · exact Kd z' hfit (fun q => q.elim hno (fun r => c9 r.1))
    refine br_c (fun c5 => h84 (fun q => Int32.not_le.mpr c5 q.1)) (fun c5 => br_c (fun z4 => ?_) (fun z4 => ?_))
    · have z4' : nI st.length < nI 6 := z4
      rw [nI_ltI (by omega) (by omega)] at z4'
      exact h84 (fun q => by omega)
    · have z4' : ¬ nI st.length < nI 6 := z4
      rw [nI_ltI (by omega) (by omega)] at z4'
      exact Kc z' hfit (Or.inl ⟨Int32.not_lt.mp c5, by omega⟩)
  · have z' : ¬ nI n < nI 48 := z
    rw [nI_ltI (by omega) (by omega)] at z'
    exact Ka (by omega)
theorem xw_app {o arg : Int32} {f n cc : Nat} {Q : SX → Prop} (hf : f < 4) (hn : n < 48) (hl : a_length f = nI n)
    (K : Q (f_callLimit, f_depthLimit, nI f, f_height, f_guarded, nI (if o = 9 then cc + 1 else cc), f_outKind, f_outValue, f_outCalls, f_outPeak, f_cells, f_top, f_nextF, f_nextN, f_nextXs, f_nextYs, f_holePos, f_holeMul, f_holeAdd, f_holeFirst, f_holeLast, f_running, f_ending, f_entered, f_deepest, upd a_ops (f * 48 + n) o, upd a_args (f * 48 + n) (hp_aw o arg), a_passed, upd a_length f (nI (n + 1)), a_heldCount, a_kinds, a_items, a_itemCount, a_outList, a_head, a_tail, a_fn, a_pc, a_argN, a_argXs, a_argYs, a_sp, a_values, a_mul, a_add, a_first, a_last)) : wpX_append Q (f_callLimit, f_depthLimit, nI f, f_height, f_guarded, nI cc, f_outKind, f_outValue, f_outCalls, f_outPeak, f_cells, f_top, f_nextF, f_nextN, f_nextXs, f_nextYs, f_holePos, f_holeMul, f_holeAdd, f_holeFirst, f_holeLast, f_running, f_ending, f_entered, f_deepest, a_ops, a_args, a_passed, a_length, a_heldCount, a_kinds, a_items, a_itemCount, a_outList, a_head, a_tail, a_fn, a_pc, a_argN, a_argXs, a_argYs, a_sp, a_values, a_mul, a_add, a_first, a_last) o arg := by
  have e1 : (nI f).toNatClampNeg = f := nI_clamp (by omega)
  have i1 : vp_in (nI f) 4 := vp_in_nI hf (by decide)
  have e3 : nI f * 48 + nI n = nI (f * 48 + n) := by rw [show (48 : Int32) = nI 48 from rfl, pk_mul, nI_add]
  have e5 : (nI (f * 48 + n)).toNatClampNeg = f * 48 + n := nI_clamp (by omega)
  have i2 : vp_in (nI (f * 48 + n)) 192 := vp_in_nI (by omega) (by decide)
  have h46 : wX_append_46 Q o (hp_aw o arg) (nI (f * 48 + n)) f_callLimit f_depthLimit (nI f) f_height f_guarded (nI cc) f_outKind f_outValue f_outCalls f_outPeak f_cells f_top f_nextF f_nextN f_nextXs f_nextYs f_holePos f_holeMul f_holeAdd f_holeFirst f_holeLast f_running f_ending f_entered f_deepest (upd a_ops (f * 48 + n) o) a_args a_passed a_length a_heldCount a_kinds a_items a_itemCount a_outList a_head a_tail a_fn a_pc a_argN a_argXs a_argYs a_sp a_values a_mul a_add a_first a_last := by
    unfold wX_append_46
    rw [e5, e1, hl, nI_1 n]
    refine And.intro i2 (nm_e (And.intro i1 (And.intro i1 (nm_e (br_c (fun c9 => nm_r (nI_1 cc) ?_) (fun c9 => ?_))))))
    · rw [if_pos c9] at K
      exact K
    · rw [if_neg c9] at K
      exact K
  dsimp only [wpX_append]
  rw [e1, hl]
  refine And.intro i1 (nm_r e3 ?_)
  rw [e5]
  refine And.intro i2 (nm_e (br_c (fun c1 => ?_) (fun c1 => br_c (fun c14 => ?_) (fun c14 => ?_))))
  · have : hp_aw o arg = arg := if_pos c1
    rw [this] at h46
    exact h46
  · have : hp_aw o arg = arg := (if_neg c1).trans (if_pos c14)
    rw [this] at h46
    exact h46
  · have : hp_aw o arg = 0 := (if_neg c1).trans (if_neg c14)
    rw [this] at h46
    exact h46
theorem xw_ps {f n : Nat} (hf : f < 4) (hn : n ≤ 48) (hr : ∀ i, i < n → a_ops (f * 48 + i) ≤ 16) {Q : Int32 → Prop} :
    ∀ d i b k, i + d = n → d < k → b ≤ i → Q (hp_bI (hp_ps (hp_o a_ops f) d i b)) → wX_passes_5 Q (nI (f * 48 + n)) f_callLimit f_depthLimit f_draft f_height f_guarded f_consCount f_outKind f_outValue f_outCalls f_outPeak f_cells f_top f_nextF f_nextN f_nextXs f_nextYs f_holePos f_holeMul f_holeAdd f_holeFirst f_holeLast f_running f_ending f_entered f_deepest a_ops a_args a_passed a_length a_heldCount a_kinds a_items a_itemCount a_outList a_head a_tail a_fn a_pc a_argN a_argXs a_argYs a_sp a_values a_mul a_add a_first a_last k (nI b) (nI (f * 48 + i)) := by
  intro d
  induction d with
  | zero =>
    intro i b k hi hk hb hQ
    obtain ⟨k, rfl⟩ : ∃ k', k = k' + 1 := ⟨k - 1, by omega⟩
    rw [wX_passes_5]
    dsimp only
    exact br_t (nI_le (by omega) (by omega)) hQ
  | succ d ih =>
    intro i b k hi hk hb hQ
    obtain ⟨k, rfl⟩ : ∃ k', k = k' + 1 := ⟨k - 1, by omega⟩
    have e5 : (nI (f * 48 + i)).toNatClampNeg = f * 48 + i := nI_clamp (by omega)
    obtain ⟨o, ho⟩ : ∃ o, a_ops (f * 48 + i) = o := ⟨_, rfl⟩
    have ho' : hp_o a_ops f i = o := ho
    have h16 := hr i (by omega)
    rw [ho] at h16
    rw [hp_ps, ho'] at hQ
    have nx : ∀ b', b' ≤ i + 1 → Q (hp_bI (hp_ps (hp_o a_ops f) d (i + 1) b')) → (0 ≤ nI b' → ∀ y, y = nI (f * 48 + i) + 1 → wX_passes_5 Q (nI (f * 48 + n)) f_callLimit f_depthLimit f_draft f_height f_guarded f_consCount f_outKind f_outValue f_outCalls f_outPeak f_cells f_top f_nextF f_nextN f_nextXs f_nextYs f_holePos f_holeMul f_holeAdd f_holeFirst f_holeLast f_running f_ending f_entered f_deepest a_ops a_args a_passed a_length a_heldCount a_kinds a_items a_itemCount a_outList a_head a_tail a_fn a_pc a_argN a_argXs a_argYs a_sp a_values a_mul a_add a_first a_last k (nI b') y) ∧ (¬ 0 ≤ nI b' → Q 0) := by
      intro b' hb' hQ'
      exact br_t (nI_pos' (by omega)) (nm_r (nI_1 _) (ih (i + 1) b' k (by omega) (by omega) hb' hQ'))
    rw [wX_passes_5]
    dsimp only
    rw [e5, ho]
    refine br_f (nI_ge (by omega) (by omega)) (And.intro (vp_in_nI (by omega) (by decide)) (nm_e ?_))
    by_cases c16 : o = 16
    · rw [if_pos c16] at hQ; exact br_t c16 hQ
    rw [if_neg c16] at hQ
    refine br_f c16 ?_
    by_cases c14 : o = 14 ∨ o = 15
    · rw [if_pos c14] at hQ
      exact br_f (by rcases c14 with rfl | rfl <;> decide) hQ
    rw [if_neg c14] at hQ
    have c13 : o < 14 := by
      rw [Int32.lt_iff_toInt_lt]
      rw [Int32.le_iff_toInt_le] at h16
      have a14 : o.toInt ≠ (14 : Int32).toInt := fun z => c14 (Or.inl (Int32.toInt_inj.mp z))
      have a15 : o.toInt ≠ (15 : Int32).toInt := fun z => c14 (Or.inr (Int32.toInt_inj.mp z))
      have a16 : o.toInt ≠ (16 : Int32).toInt := fun z => c16 (Int32.toInt_inj.mp z)
      have l14 : (14 : Int32).toInt = 14 := by decide
      have l15 : (15 : Int32).toInt = 15 := by decide
      have l16 : (16 : Int32).toInt = 16 := by decide
      omega
    refine br_t c13 ?_
    dsimp only [wpX_follow]
    by_cases c5 : 5 < o
    · refine br_t c5 ?_
      rw [if_pos c5] at hQ
      by_cases c8 : 8 < o
      · refine br_t c8 ?_
        rw [if_pos c8] at hQ
        by_cases cb : b < 2
        · refine br_t (nI_lt (b := 2) cb (by decide)) ?_
          rw [if_pos cb] at hQ
          by_cases c13 : o = 13
          · rw [if_pos c13] at hQ; exact br_t c13 (br_f (by decide) hQ)
          refine br_f c13 ?_
          rw [if_neg c13] at hQ
          by_cases c9 : o = 9
          · refine br_t c9 ?_
            rw [if_pos c9] at hQ
            by_cases cb1 : b = 1
            · rw [if_pos cb1] at hQ
              subst cb1
              exact br_t rfl (br_f (by decide) hQ)
            · rw [if_neg cb1] at hQ
              have cb0 : b = 0 := by omega
              subst cb0
              exact br_f (by decide) (nx 0 (by omega) hQ)
          · rw [if_neg c9] at hQ
            exact br_f c9 (nx 0 (by omega) hQ)
        · refine br_f (nI_nlt (b := 2) (by omega) (by omega)) ?_
          rw [if_neg cb] at hQ
          rw [show nI b - 1 = nI (b - 1) by rw [show (1 : Int32) = nI 1 from rfl, pk_sub (by omega)]]
          exact nx (b - 1) (by omega) hQ
      · refine br_f c8 ?_
        rw [if_neg c8] at hQ
        by_cases cb : b = 0
        · rw [if_pos cb] at hQ
          subst cb
          exact br_t rfl (br_f (by decide) hQ)
        · rw [if_neg cb] at hQ
          exact br_f (nI_ne0 (by omega) (by omega)) (nx b (by omega) hQ)
    · refine br_f c5 ?_
      rw [if_neg c5] at hQ
      rw [nI_1 b]
      exact nx (b + 1) (by omega) hQ
end
end
section
theorem nb_b (b : Bool) : vp_nar .boolean (hp_bI b) = hp_bI b := by cases b <;> rfl
theorem tk_le {o : Int32} {f : Nat} {st : List Bool} {g : Bool} (h1 : 1 ≤ o) (h16 : o ≤ 16) (h15 : o ≠ 15) (h16' : o ≠ 16) (h : hp_fit o f st g) : hp_tk o ≤ st.length := by
  rcases hp_16 h1 h16 with rfl | rfl | rfl | rfl | rfl | rfl | rfl | rfl | rfl | rfl | rfl | rfl | rfl | rfl | rfl | rfl
  all_goals first
    | exact absurd rfl h15
    | exact absurd rfl h16'
    | exact Nat.zero_le _
    | (obtain ⟨r, rfl⟩ := hp_fu h (by decide) (by decide); exact Nat.succ_le_succ (Nat.zero_le _))
    | (obtain ⟨r, rfl⟩ := hp_fc h; exact Nat.succ_le_succ (Nat.succ_le_succ (Nat.zero_le _)))
    | (obtain ⟨r, rfl⟩ := hp_fb h (by decide) (by decide); exact Nat.succ_le_succ (Nat.succ_le_succ (Nat.zero_le _)))
    | (obtain ⟨r, rfl⟩ := hp_fk h; exact Nat.succ_le_succ (Nat.succ_le_succ (Nat.succ_le_succ (Nat.zero_le _))))
theorem tk_0 {o : Int32} (h : 1 ≤ o) (h16 : o ≤ 16) : o ≤ 5 ∨ 1 ≤ hp_tk o := by
  rcases hp_16 h h16 with rfl | rfl | rfl | rfl | rfl | rfl | rfl | rfl | rfl | rfl | rfl | rfl | rfl | rfl | rfl | rfl
  all_goals first
    | exact Or.inl (by decide)
    | exact Or.inr (by decide)
theorem ta_len {o a : Int32} {f : Nat} {st : List Bool} {g : Bool} {cc : Nat} (h1 : 1 ≤ o) (h16 : o ≤ 16) (h6 : st.length ≤ 6) (h : hp_fit o f st g) (hfu : ¬ hp_fu' o st cc) : (hp_ta o a st).length ≤ 6 := by
  unfold hp_ta
  split
  · exact Nat.zero_le _
  · rename_i hz
    have := tk_le h1 h16 (fun q => hz (Or.inl q)) (fun q => hz (Or.inr q)) h
    rw [List.length_cons, List.length_drop]
    rcases tk_0 h1 h16 with z | z
    · have : ¬ 6 ≤ st.length := fun q => hfu (Or.inl ⟨z, q⟩)
      omega
    · omega
section
variable {f_callLimit : Int32} {f_depthLimit : Int32} {f_draft : Int32} {f_height : Int32} {f_guarded : Int32} {f_consCount : Int32} {f_outKind : Int32} {f_outValue : Int32} {f_outCalls : Int32} {f_outPeak : Int32} {f_cells : Int32} {f_top : Int32} {f_nextF : Int32} {f_nextN : Int32} {f_nextXs : Int32} {f_nextYs : Int32} {f_holePos : Int32} {f_holeMul : Int32} {f_holeAdd : Int32} {f_holeFirst : Int32} {f_holeLast : Int32} {f_running : Int32} {f_ending : Int32} {f_entered : Int32} {f_deepest : Int32} {a_ops : Nat → Int32} {a_args : Nat → Int32} {a_passed : Nat → Int32} {a_length : Nat → Int32} {a_heldCount : Nat → Int32} {a_kinds : Nat → Int32} {a_items : Nat → Int32} {a_itemCount : Nat → Int32} {a_outList : Nat → Int32} {a_head : Nat → Int32} {a_tail : Nat → Int32} {a_fn : Nat → Int32} {a_pc : Nat → Int32} {a_argN : Nat → Int32} {a_argXs : Nat → Int32} {a_argYs : Nat → Int32} {a_sp : Nat → Int32} {a_values : Nat → Int32} {a_mul : Nat → Int32} {a_add : Nat → Int32} {a_first : Nat → Int32} {a_last : Nat → Int32}
theorem xw_mk {f n : Nat} (hf : f < 4) (hn : n ≤ 48) (hr : ∀ i, i < n → a_ops (f * 48 + i) ≤ 16) {Q : SX → Prop}
    (K : ∀ P, (∀ i, i < n → a_ops (f * 48 + i) = 14 → P (f * 48 + i) = hp_bI (hp_pa (hp_o a_ops f) n i)) → (∀ j, j < f * 48 ∨ f * 48 + 48 ≤ j → P j = a_passed j) → Q (f_callLimit, f_depthLimit, f_draft, f_height, f_guarded, f_consCount, f_outKind, f_outValue, f_outCalls, f_outPeak, f_cells, f_top, f_nextF, f_nextN, f_nextXs, f_nextYs, f_holePos, f_holeMul, f_holeAdd, f_holeFirst, f_holeLast, f_running, f_ending, f_entered, f_deepest, a_ops, a_args, P, a_length, upd a_heldCount f (nI (hp_hc (hp_o a_ops f) n n)), a_kinds, a_items, a_itemCount, a_outList, a_head, a_tail, a_fn, a_pc, a_argN, a_argXs, a_argYs, a_sp, a_values, a_mul, a_add, a_first, a_last)) :
    ∀ (d i k : Nat) (P : Nat → Int32), i + d = n → d < k → (∀ j, j < i → a_ops (f * 48 + j) = 14 → P (f * 48 + j) = hp_bI (hp_pa (hp_o a_ops f) n j)) → (∀ j, j < f * 48 ∨ f * 48 + 48 ≤ j → P j = a_passed j) →
      wX_markCalls_20 Q (nI f) (nI (f * 48 + n)) f_callLimit f_depthLimit f_draft f_height f_guarded f_consCount f_outKind f_outValue f_outCalls f_outPeak f_cells f_top f_nextF f_nextN f_nextXs f_nextYs f_holePos f_holeMul f_holeAdd f_holeFirst f_holeLast f_running f_ending f_entered f_deepest k (nI (hp_hc (hp_o a_ops f) n i)) (nI (f * 48 + i))
        a_ops a_args P a_length a_heldCount a_kinds a_items a_itemCount a_outList a_head a_tail a_fn a_pc a_argN a_argXs a_argYs a_sp a_values a_mul a_add a_first a_last := by
  have e1 : (nI f).toNatClampNeg = f := nI_clamp (by omega)
  have i1 : vp_in (nI f) 4 := vp_in_nI hf (by decide)
  intro d
  induction d with
  | zero =>
    intro i k P hi hk hP hO
    obtain ⟨k, rfl⟩ : ∃ k', k = k' + 1 := ⟨k - 1, by omega⟩
    have : i = n := by omega
    subst this
    rw [wX_markCalls_20]
    dsimp only
    rw [e1]
    exact br_t (nI_le (Nat.le_refl _) (by omega)) (And.intro i1 (nm_e (K P hP hO)))
  | succ d ih =>
    intro i k P hi hk hP hO
    obtain ⟨k, rfl⟩ : ∃ k', k = k' + 1 := ⟨k - 1, by omega⟩
    have e5 : (nI (f * 48 + i)).toNatClampNeg = f * 48 + i := nI_clamp (by omega)
    have i2 : vp_in (nI (f * 48 + i)) 192 := vp_in_nI (by omega) (by decide)
    have hhc : hp_hc (hp_o a_ops f) n (i + 1) = if a_ops (f * 48 + i) = 14 ∧ hp_pa (hp_o a_ops f) n i = false then hp_hc (hp_o a_ops f) n i + 1 else hp_hc (hp_o a_ops f) n i := by rw [hp_hc]
    rw [wX_markCalls_20]
    dsimp only
    rw [e5]
    refine br_f (nI_ge (by omega) (by omega)) (And.intro i2 (nm_e (And.intro i2 (br_c (fun c => ?_) (fun c => ?_)))))
    · rw [nI_1 (f * 48 + i)]
      dsimp only [wpX_passes]
      refine ⟨n + 1, ?_⟩
      refine xw_ps hf hn hr (n - (i + 1)) (i + 1) 0 (n + 1) (by omega) (by omega) (by omega) ?_
      refine And.intro i2 (nm_e (And.intro i2 ?_))
      have hps : hp_ps (hp_o a_ops f) (n - (i + 1)) (i + 1) 0 = hp_pa (hp_o a_ops f) n i := rfl
      rw [hps, pk_us, pk_uu, nb_b]
      have hP' : ∀ j, j < i + 1 → a_ops (f * 48 + j) = 14 → upd P (f * 48 + i) (hp_bI (hp_pa (hp_o a_ops f) n i)) (f * 48 + j) = hp_bI (hp_pa (hp_o a_ops f) n j) := by
        intro j hj hoj
        by_cases e : j = i
        · subst e
          exact pk_us
        · rw [pk_un (by omega)]
          exact hP j (by omega) hoj
      have hO' : ∀ j, j < f * 48 ∨ f * 48 + 48 ≤ j → upd P (f * 48 + i) (hp_bI (hp_pa (hp_o a_ops f) n i)) j = a_passed j := fun j hj => (pk_un (by omega)).trans (hO j hj)
      have ih' := ih (i + 1) k _ (by omega) (by omega) hP' hO'
      rw [hhc] at ih'
      cases hpa : hp_pa (hp_o a_ops f) n i with
      | true =>
        rw [hpa] at ih'
        rw [if_neg (fun z => absurd z.2 (by decide))] at ih'
        exact br_f (by decide) (nm_e ih')
      | false =>
        rw [hpa] at ih'
        rw [if_pos ⟨c, rfl⟩] at ih'
        exact br_t rfl (nm_r (nI_1 _) (nm_e ih'))
    · have hP' : ∀ j, j < i + 1 → a_ops (f * 48 + j) = 14 → upd P (f * 48 + i) (vp_nar .boolean 0) (f * 48 + j) = hp_bI (hp_pa (hp_o a_ops f) n j) := by
        intro j hj hoj
        by_cases e : j = i
        · subst e
          exact absurd hoj c
        · rw [pk_un (by omega)]
          exact hP j (by omega) hoj
      have hO' : ∀ j, j < f * 48 ∨ f * 48 + 48 ≤ j → upd P (f * 48 + i) (vp_nar .boolean 0) j = a_passed j := fun j hj => (pk_un (by omega)).trans (hO j hj)
      have ih' := ih (i + 1) k _ (by omega) (by omega) hP' hO'
      rw [hhc, if_neg (fun z => c z.1)] at ih'
      exact nm_r (nI_1 _) ih'
theorem xw_tk {o : Int32} {Q : Int32 → Prop} (K : Q (nI (hp_tk o))) : wpX_taken Q (f_callLimit, f_depthLimit, f_draft, f_height, f_guarded, f_consCount, f_outKind, f_outValue, f_outCalls, f_outPeak, f_cells, f_top, f_nextF, f_nextN, f_nextXs, f_nextYs, f_holePos, f_holeMul, f_holeAdd, f_holeFirst, f_holeLast, f_running, f_ending, f_entered, f_deepest, a_ops, a_args, a_passed, a_length, a_heldCount, a_kinds, a_items, a_itemCount, a_outList, a_head, a_tail, a_fn, a_pc, a_argN, a_argXs, a_argYs, a_sp, a_values, a_mul, a_add, a_first, a_last) o := by
  dsimp only [wpX_taken]
  unfold hp_tk at K
  refine br_c (fun c5 => br_c (fun c8 => br_c (fun c13 => ?_) (fun c13 => ?_)) (fun c8 => ?_)) (fun c5 => ?_)
  · rw [if_neg (Int32.not_le.mpr c5), if_neg (Int32.not_le.mpr c8), if_neg (Int32.not_le.mpr c13)] at K
    exact K
  · rw [if_neg (Int32.not_le.mpr c5), if_neg (Int32.not_le.mpr c8), if_pos (Int32.not_lt.mp c13)] at K
    exact K
  · rw [if_neg (Int32.not_le.mpr c5), if_pos (Int32.not_lt.mp c8)] at K
    exact K
  · rw [if_pos (Int32.not_lt.mp c5)] at K
    exact K
theorem xw_pk {o arg : Int32} {Q : Int32 → Prop} (h14 : o = 14 → ∃ g, g < 4 ∧ arg = nI g) (K : Q (hp_kI (hp_pk o arg))) : wpX_pushedKind Q (f_callLimit, f_depthLimit, f_draft, f_height, f_guarded, f_consCount, f_outKind, f_outValue, f_outCalls, f_outPeak, f_cells, f_top, f_nextF, f_nextN, f_nextXs, f_nextYs, f_holePos, f_holeMul, f_holeAdd, f_holeFirst, f_holeLast, f_running, f_ending, f_entered, f_deepest, a_ops, a_args, a_passed, a_length, a_heldCount, a_kinds, a_items, a_itemCount, a_outList, a_head, a_tail, a_fn, a_pc, a_argN, a_argXs, a_argYs, a_sp, a_values, a_mul, a_add, a_first, a_last) o arg := by
  dsimp only [wpX_pushedKind]
  unfold hp_pk at K
  refine br_c (fun c14 => ?_) (fun c14 => ?_)
  · obtain ⟨g, hg, rfl⟩ := h14 c14
    rw [if_pos c14, nI_clamp (by omega)] at K
    exact xl_kg hg K
  · rw [if_neg c14] at K
    by_cases c : o = 3 ∨ o = 4 ∨ o = 5 ∨ o = 7 ∨ o = 9
    · rw [decide_eq_true c] at K
      have h39 : wX_pushedKind_39 Q f_callLimit f_depthLimit f_draft f_height f_guarded f_consCount f_outKind f_outValue f_outCalls f_outPeak f_cells f_top f_nextF f_nextN f_nextXs f_nextYs f_holePos f_holeMul f_holeAdd f_holeFirst f_holeLast f_running f_ending f_entered f_deepest a_ops a_args a_passed a_length a_heldCount a_kinds a_items a_itemCount a_outList a_head a_tail a_fn a_pc a_argN a_argXs a_argYs a_sp a_values a_mul a_add a_first a_last := br_f (by decide) K
      exact br_c (fun _ => h39) (fun c3 => br_c (fun _ => h39) (fun c4 => br_c (fun _ => h39) (fun c5 => br_c (fun _ => h39) (fun c7 => br_c (fun _ => h39) (fun c9 => absurd c (fun q => q.elim c3 (fun q => q.elim c4 (fun q => q.elim c5 (fun q => q.elim c7 c9)))))))))
    · rw [decide_eq_false c] at K
      exact br_f (fun q => c (Or.inl q)) (br_f (fun q => c (Or.inr (Or.inl q))) (br_f (fun q => c (Or.inr (Or.inr (Or.inl q)))) (br_f (fun q => c (Or.inr (Or.inr (Or.inr (Or.inl q))))) (br_f (fun q => c (Or.inr (Or.inr (Or.inr (Or.inr q))))) (br_t rfl K)))))
theorem xw_101 {st : List Bool} {o arg : Int32} {f n cc : Nat} {g : Bool} {Q : Int32 → SX → Prop} (h1 : 1 ≤ o) (h16 : o ≤ 16) (hf : f < 4) (h6 : st.length ≤ 6) (hk : hp_ks a_kinds st) (hn : n < 48) (hl : a_length f = nI n) (h14 : o = 14 → ∃ g, g < 4 ∧ arg = nI g)
    (hr : ∀ i, i < n → a_ops (f * 48 + i) ≤ 16) (hfit : hp_fit o f st g) (hfu : ¬ hp_fu' o st cc)
    (K1 : o = 16 → g = false → ∀ P, (∀ i, i < n + 1 → upd a_ops (f * 48 + n) o (f * 48 + i) = 14 → P (f * 48 + i) = hp_bI (hp_pa (hp_o (upd a_ops (f * 48 + n) o) f) (n + 1) i)) → (∀ j, j < f * 48 ∨ f * 48 + 48 ≤ j → P j = a_passed j) →
      Q 1 (f_callLimit, f_depthLimit, -1, 0, hp_bI g, nI (if o = 9 then cc + 1 else cc), f_outKind, f_outValue, f_outCalls, f_outPeak, f_cells, f_top, f_nextF, f_nextN, f_nextXs, f_nextYs, f_holePos, f_holeMul, f_holeAdd, f_holeFirst, f_holeLast, f_running, f_ending, f_entered, f_deepest, upd a_ops (f * 48 + n) o, upd a_args (f * 48 + n) (hp_aw o arg), P, upd a_length f (nI (n + 1)), upd a_heldCount f (nI (hp_hc (hp_o (upd a_ops (f * 48 + n) o) f) (n + 1) (n + 1))), a_kinds, a_items, a_itemCount, a_outList, a_head, a_tail, a_fn, a_pc, a_argN, a_argXs, a_argYs, a_sp, a_values, a_mul, a_add, a_first, a_last))
    (K2 : o = 16 → g = true → Q 0 (f_callLimit, f_depthLimit, nI f, 0, 0, nI (if o = 9 then cc + 1 else cc), f_outKind, f_outValue, f_outCalls, f_outPeak, f_cells, f_top, f_nextF, f_nextN, f_nextXs, f_nextYs, f_holePos, f_holeMul, f_holeAdd, f_holeFirst, f_holeLast, f_running, f_ending, f_entered, f_deepest, upd a_ops (f * 48 + n) o, upd a_args (f * 48 + n) (hp_aw o arg), a_passed, upd a_length f (nI (n + 1)), a_heldCount, a_kinds, a_items, a_itemCount, a_outList, a_head, a_tail, a_fn, a_pc, a_argN, a_argXs, a_argYs, a_sp, a_values, a_mul, a_add, a_first, a_last))
    (K3 : o = 15 → Q 0 (f_callLimit, f_depthLimit, nI f, 0, 1, nI (if o = 9 then cc + 1 else cc), f_outKind, f_outValue, f_outCalls, f_outPeak, f_cells, f_top, f_nextF, f_nextN, f_nextXs, f_nextYs, f_holePos, f_holeMul, f_holeAdd, f_holeFirst, f_holeLast, f_running, f_ending, f_entered, f_deepest, upd a_ops (f * 48 + n) o, upd a_args (f * 48 + n) (hp_aw o arg), a_passed, upd a_length f (nI (n + 1)), a_heldCount, a_kinds, a_items, a_itemCount, a_outList, a_head, a_tail, a_fn, a_pc, a_argN, a_argXs, a_argYs, a_sp, a_values, a_mul, a_add, a_first, a_last))
    (K4 : o ≠ 15 → o ≠ 16 → ∀ kinds, hp_ks kinds (hp_ta o arg st) → Q 0 (f_callLimit, f_depthLimit, nI f, nI (hp_ta o arg st).length, hp_bI g, nI (if o = 9 then cc + 1 else cc), f_outKind, f_outValue, f_outCalls, f_outPeak, f_cells, f_top, f_nextF, f_nextN, f_nextXs, f_nextYs, f_holePos, f_holeMul, f_holeAdd, f_holeFirst, f_holeLast, f_running, f_ending, f_entered, f_deepest, upd a_ops (f * 48 + n) o, upd a_args (f * 48 + n) (hp_aw o arg), a_passed, upd a_length f (nI (n + 1)), a_heldCount, kinds, a_items, a_itemCount, a_outList, a_head, a_tail, a_fn, a_pc, a_argN, a_argXs, a_argYs, a_sp, a_values, a_mul, a_add, a_first, a_last)) :
    wX_word_101 Q o arg f_callLimit f_depthLimit (nI f) (nI st.length) (hp_bI g) (nI cc) f_outKind f_outValue f_outCalls f_outPeak f_cells f_top f_nextF f_nextN f_nextXs f_nextYs f_holePos f_holeMul f_holeAdd f_holeFirst f_holeLast f_running f_ending f_entered f_deepest a_ops a_args a_passed a_length a_heldCount a_kinds a_items a_itemCount a_outList a_head a_tail a_fn a_pc a_argN a_argXs a_argYs a_sp a_values a_mul a_add a_first a_last := by
  unfold wX_word_101
  refine xw_app hf hn hl ?_
  dsimp only
  refine br_c (fun c16 => ?_) (fun c16 => br_c (fun c15 => K3 c15) (fun c15 => ?_))
  · dsimp only [wpX_endClause]
    cases g with
    | true => exact br_f (by decide) (K2 c16 rfl)
    | false =>
      refine br_t rfl ?_
      dsimp only [wpX_markCalls]
      have e1 : (nI f).toNatClampNeg = f := nI_clamp (by omega)
      have i1 : vp_in (nI f) 4 := vp_in_nI hf (by decide)
      have e48 : nI f * 48 = nI (f * 48) := pk_mul f 48
      have e6 : nI (f * 48) + nI (n + 1) = nI (f * 48 + (n + 1)) := nI_add _ _
      rw [e48]
      refine nm_e (And.intro i1 ?_)
      rw [e1, pk_us, e6]
      refine nm_e ⟨n + 1 + 1, ?_⟩
      have hr' : ∀ i, i < n + 1 → upd a_ops (f * 48 + n) o (f * 48 + i) ≤ 16 := by
        intro i hi
        by_cases e : i = n
        · subst e
          rw [pk_us]
          exact h16
        · rw [pk_un (by omega)]
          exact hr i (by omega)
      refine xw_mk (f := f) (n := n + 1) hf (by omega) hr' ?_ (n + 1) 0 (n + 1 + 1) a_passed (by omega) (by omega) (fun j hj => absurd hj (Nat.not_lt_zero j)) (fun _ _ => rfl)
      intro P hP hO
      exact K1 c16 rfl P hP hO
  · refine xw_tk ?_
    have htk := tk_le h1 h16 c15 c16 hfit
    refine nm_r (e' := nI (st.length - hp_tk o)) (pk_sub htk) ?_
    refine xw_pk h14 ?_
    have hta : hp_ta o arg st = hp_pk o arg :: st.drop (hp_tk o) := if_neg (fun q => q.elim c15 c16)
    have htl := ta_len (a := arg) h1 h16 h6 hfit hfu
    have K4' := K4 c15 c16 (upd a_kinds (st.length - hp_tk o) (hp_kI (hp_pk o arg)))
    rw [hta] at K4' htl
    rw [List.length_cons, List.length_drop] at htl K4'
    rw [nI_clamp (by omega)]
    refine And.intro (vp_in_nI (by omega) (by decide)) (nm_e (nm_r (nI_1 _) (K4' ?_)))
    refine ⟨?_, ks_mo (fun j hj => pk_un (by rw [List.length_drop] at hj; omega)) (ks_dr _ hk)⟩
    rw [List.length_drop, pk_us]
end
end
section
def hp_en : List Bool → Nat
  | [] => 0
  | k :: r => hp_en r * 4 + hp_kn k
theorem kn_le (k : Bool) : 1 ≤ hp_kn k ∧ hp_kn k ≤ 2 := by cases k <;> decide
theorem en_m : ∀ (st : List Bool), hp_en st % 4 = hp_kd st 0
  | [] => rfl
  | k :: r => by
    show (hp_en r * 4 + hp_kn k) % 4 = hp_kn k
    have := kn_le k
    omega
theorem en_d : ∀ (st : List Bool), hp_en st / 4 = hp_en (st.drop 1)
  | [] => rfl
  | k :: r => by
    show (hp_en r * 4 + hp_kn k) / 4 = hp_en r
    have := kn_le k
    omega
theorem dr_dr (st : List Bool) : (st.drop 1).drop 1 = st.drop 2 := by rw [List.drop_drop]
theorem dr_dr2 (st : List Bool) : (st.drop 2).drop 1 = st.drop 3 := by rw [List.drop_drop]
theorem en_d2 (st : List Bool) : hp_en st / 16 = hp_en (st.drop 2) := by
  rw [← dr_dr, ← en_d, ← en_d, Nat.div_div_eq_div_mul]
theorem en_d3 (st : List Bool) : hp_en st / 64 = hp_en (st.drop 3) := by
  rw [← dr_dr2, ← en_d, ← en_d2, Nat.div_div_eq_div_mul]
theorem kd_d : ∀ (st : List Bool) (d : Nat), hp_kd (st.drop 1) d = hp_kd st (d + 1)
  | [], _ => rfl
  | _ :: _, _ => rfl
theorem en_m1 (st : List Bool) : hp_en st / 4 % 4 = hp_kd st 1 := by rw [en_d, en_m, kd_d]
theorem en_m2 (st : List Bool) : hp_en st / 16 % 4 = hp_kd st 2 := by rw [en_d2, en_m, ← dr_dr, kd_d, kd_d]
theorem en_lt : ∀ (st : List Bool), hp_en st < 4 ^ st.length
  | [] => by decide
  | k :: r => by
    have h := en_lt r
    have := kn_le k
    show hp_en r * 4 + hp_kn k < 4 ^ (r.length + 1)
    rw [Nat.pow_succ]
    omega
theorem en_ge : ∀ (r : List Bool) (k : Bool), 4 ^ r.length ≤ hp_en (k :: r)
  | [], k => by
    have := kn_le k
    show 1 ≤ 0 * 4 + hp_kn k
    omega
  | k' :: r, k => by
    have h := en_ge r k'
    show 4 ^ (r.length + 1) ≤ hp_en (k' :: r) * 4 + hp_kn k
    rw [Nat.pow_succ]
    omega
theorem en_6 {st : List Bool} (h : st.length ≤ 6) : hp_en st < 4096 :=
  Nat.lt_of_lt_of_le (en_lt st) (Nat.le_trans (Nat.pow_le_pow_right (by decide) h) (by decide))
theorem en_7 {st : List Bool} (h : st.length ≤ 7) : hp_en st < 16384 :=
  Nat.lt_of_lt_of_le (en_lt st) (Nat.le_trans (Nat.pow_le_pow_right (by decide) h) (by decide))
theorem en_46 {st : List Bool} (h : hp_en st < 4096) : st.length ≤ 6 := by
  cases st with
  | nil => exact Nat.zero_le _
  | cons k r =>
    rw [List.length_cons]
    rcases Nat.lt_or_ge r.length 6 with z | z
    · omega
    · have h1 := en_ge r k
      have h2 : 4 ^ 6 ≤ 4 ^ r.length := Nat.pow_le_pow_right (by decide) z
      have h3 : (4 : Nat) ^ 6 = 4096 := by decide
      omega
theorem en_1 {st : List Bool} {c : Nat} (hc : c = 1 ∨ c = 2) : hp_en st = c ↔ (st.length = 1 ∧ hp_kd st 0 = c) := by
  cases st with
  | nil =>
    refine ⟨fun h => ?_, fun h => absurd h.1 (by decide)⟩
    have h' : 0 = c := h
    omega
  | cons k r =>
    have := kn_le k
    show hp_en r * 4 + hp_kn k = c ↔ (r.length + 1 = 1 ∧ hp_kn k = c)
    cases r with
    | nil =>
      show 0 * 4 + hp_kn k = c ↔ (0 + 1 = 1 ∧ hp_kn k = c)
      omega
    | cons k2 r2 =>
      have h1 := en_ge r2 k2
      have h2 : 0 < 4 ^ r2.length := Nat.pow_pos (by decide)
      rw [List.length_cons]
      omega
theorem ys_0 {E : Nat} (k : Nat) : (nI E >>> ((0 : Int32) &&& 31)) * 4 + nI k = nI (E * 4 + k) := by
  rw [sb_shr0, show (4 : Int32) = nI 4 from rfl, pk_mul, nI_add]
theorem ys_2 {E : Nat} (h : E < 2 ^ 31) (k : Nat) : (nI E >>> ((2 : Int32) &&& 31)) * 4 + nI k = nI (E / 4 * 4 + k) := by
  rw [pk_shrN h _ 2 (by decide), show (4 : Int32) = nI 4 from rfl, pk_mul, nI_add]
theorem ys_4 {E : Nat} (h : E < 2 ^ 31) (k : Nat) : (nI E >>> ((4 : Int32) &&& 31)) * 4 + nI k = nI (E / 16 * 4 + k) := by
  rw [pk_shrN h _ 4 (by decide), show (4 : Int32) = nI 4 from rfl, pk_mul, nI_add]
theorem ys_6 {E : Nat} (h : E < 2 ^ 31) (k : Nat) : (nI E >>> ((6 : Int32) &&& 31)) * 4 + nI k = nI (E / 64 * 4 + k) := by
  rw [pk_shrN h _ 6 (by decide), show (4 : Int32) = nI 4 from rfl, pk_mul, nI_add]
theorem ym_0 {E : Nat} : nI E - ((nI E >>> ((0 : Int32) &&& 31)) <<< ((0 : Int32) &&& 31)) = 0 := by
  rw [sb_shr0, sb_shl0, Int32.sub_self]
theorem ym_2 {E : Nat} (h : E < 65536) : nI E - ((nI E >>> ((2 : Int32) &&& 31)) <<< ((2 : Int32) &&& 31)) = nI (E % 4) := by
  rw [pk_shrN (by omega) _ 2 (by decide), pk_shlN _ 2 (by decide) (by omega), pk_sub (by omega)]
  exact congrArg nI (by omega)
theorem ym_4 {E : Nat} (h : E < 65536) : nI E - ((nI E >>> ((4 : Int32) &&& 31)) <<< ((4 : Int32) &&& 31)) = nI (E % 16) := by
  rw [pk_shrN (by omega) _ 4 (by decide), pk_shlN _ 4 (by decide) (by omega), pk_sub (by omega)]
  exact congrArg nI (by omega)
theorem ym_6 {E : Nat} (h : E < 65536) : nI E - ((nI E >>> ((6 : Int32) &&& 31)) <<< ((6 : Int32) &&& 31)) = nI (E % 64) := by
  rw [pk_shrN (by omega) _ 6 (by decide), pk_shlN _ 6 (by decide) (by omega), pk_sub (by omega)]
  exact congrArg nI (by omega)
theorem q_eq {α : Type} {Q : α → Prop} {a b : α} (h : Q b) (e : a = b) : Q a := by rw [e]; exact h
section
variable {f_draft : Int32} {f_outKind : Int32} {f_outCalls : Int32} {f_outPeak : Int32} {f_callLimit : Int32} {f_depthLimit : Int32} {a_ops : Nat → Int32} {a_args : Nat → Int32} {a_length : Nat → Int32} {b_cell : Nat → Int32} {b_len : Nat → Int32} {b_fn : Nat → Int32} {b_pos : Nat → Int32} {b_height : Nat → Int32} {b_depth : Nat → Int32} {n_cell : Nat}
theorem yw_af {st : List Bool} {o a : Int32} {Q : Int32 → Prop} (h1 : 1 ≤ o) (h16 : o ≤ 16) (h14 : o = 14 → ∃ g, g < 4 ∧ a = nI g) (h6 : st.length ≤ 6) (K : Q (nI (hp_en (hp_ta o a st)))) : wpY_after Q (f_draft, f_outKind, f_outCalls, f_outPeak, f_callLimit, f_depthLimit, a_ops, a_args, a_length, b_cell, b_len, b_fn, b_pos, b_height, b_depth, n_cell) (nI (hp_en st)) o a := by
  have hE := en_6 h6
  rcases hp_16 h1 h16 with rfl | rfl | rfl | rfl | rfl | rfl | rfl | rfl | rfl | rfl | rfl | rfl | rfl | rfl | rfl | rfl
  all_goals
    dsimp only [wpY_after]
    repeat first
      | refine br_t (by decide) ?_
      | refine br_f (by decide) ?_
      | refine nm_e ?_
  all_goals try unfold wY_after_75
  all_goals try refine q_eq K ?_
  · exact ys_0 1
  · exact ys_0 1
  · exact ys_0 2
  · exact ys_0 2
  · exact ys_0 2
  · exact (ys_2 (by omega) 1).trans (by rw [en_d]; rfl)
  · exact (ys_2 (by omega) 2).trans (by rw [en_d]; rfl)
  · exact (ys_2 (by omega) 1).trans (by rw [en_d]; rfl)
  · exact (ys_4 (by omega) 2).trans (by rw [en_d2]; rfl)
  · exact (ys_4 (by omega) 1).trans (by rw [en_d2]; rfl)
  · exact (ys_4 (by omega) 1).trans (by rw [en_d2]; rfl)
  · exact (ys_4 (by omega) 1).trans (by rw [en_d2]; rfl)
  · exact (ys_4 (by omega) 1).trans (by rw [en_d2]; rfl)
  · obtain ⟨g, hg, rfl⟩ := h14 rfl
    have eand : nI g &&& 1 = nI (g % 2) := pk_andN (by omega) 1 (by decide)
    have ek : (1 : Int32) + nI (g % 2) = nI (hp_kn (hp_kg g)) := by
      rcases Nat.mod_two_eq_zero_or_one g with z | z
      · have hk0 : hp_kg g = false := by unfold hp_kg; rw [z]; rfl
        rw [hk0, z]
        decide
      · have hk0 : hp_kg g = true := by unfold hp_kg; rw [z]; rfl
        rw [hk0, z]
        decide
    have et : hp_ta 14 (nI g) st = hp_kg g :: st.drop 3 := by
      show hp_kg (nI g).toNatClampNeg :: st.drop 3 = _
      rw [nI_clamp (by omega)]
    rw [eand, ek, et]
    exact (ys_6 (by omega) _).trans (by rw [en_d3]; rfl)
  · exact rfl
  · exact rfl
theorem yw_269 {o arg : Int32} {f n : Nat} {g : Bool} {Q : Int32 → SY → Prop} (hf : f < 4) (hn : n < 48) (hl : a_length f = nI n)
    (K1 : o = 16 → g = false → Q 1 (-1, f_outKind, f_outCalls, f_outPeak, f_callLimit, f_depthLimit, upd a_ops (f * 48 + n) o, upd a_args (f * 48 + n) (hp_aw o arg), upd a_length f (nI (n + 1)), b_cell, b_len, b_fn, b_pos, b_height, b_depth, n_cell))
    (K0 : (o = 16 → g = true) → Q 0 (nI f, f_outKind, f_outCalls, f_outPeak, f_callLimit, f_depthLimit, upd a_ops (f * 48 + n) o, upd a_args (f * 48 + n) (hp_aw o arg), upd a_length f (nI (n + 1)), b_cell, b_len, b_fn, b_pos, b_height, b_depth, n_cell)) : wY_word_269 Q o arg (nI (f * 48)) (hp_bI g) (nI f) f_outKind f_outCalls f_outPeak f_callLimit f_depthLimit a_ops a_args a_length b_cell b_len b_fn b_pos b_height b_depth n_cell := by
  have e1 : (nI f).toNatClampNeg = f := nI_clamp (by omega)
  have i1 : vp_in (nI f) 4 := vp_in_nI hf (by decide)
  have e3 : nI (f * 48) + nI n = nI (f * 48 + n) := nI_add _ _
  have e5 : (nI (f * 48 + n)).toNatClampNeg = f * 48 + n := nI_clamp (by omega)
  have i2 : vp_in (nI (f * 48 + n)) 192 := vp_in_nI (by omega) (by decide)
  have h317 : wY_word_317 Q o (hp_bI g) (hp_aw o arg) (nI (f * 48 + n)) (nI f) f_outKind f_outCalls f_outPeak f_callLimit f_depthLimit (upd a_ops (f * 48 + n) o) a_args a_length b_cell b_len b_fn b_pos b_height b_depth n_cell := by
    unfold wY_word_317
    rw [e5, e1, hl, nI_1 n]
    refine And.intro i2 (nm_e (And.intro i1 (And.intro i1 (nm_e (br_c (fun c => ?_) (fun c => K0 (fun z => absurd z c)))))))
    cases g with
    | true => exact br_f (by decide) (K0 (fun _ => rfl))
    | false => exact br_t rfl (K1 c rfl)
  unfold wY_word_269
  rw [e1, hl, e3, e5]
  refine And.intro i1 (And.intro i2 (nm_e (And.intro i1 (br_c (fun c1 => ?_) (fun c1 => br_c (fun c14 => ?_) (fun c14 => ?_))))))
  · have : hp_aw o arg = arg := if_pos c1
    rw [this] at h317
    exact h317
  · have : hp_aw o arg = arg := (if_neg c1).trans (if_pos c14)
    rw [this] at h317
    exact h317
  · have : hp_aw o arg = 0 := (if_neg c1).trans (if_neg c14)
    rw [this] at h317
    exact h317
theorem yw_233 {st : List Bool} {o arg : Int32} {f cc : Nat} {g : Bool} {Q : Int32 → SY → Prop} (h1 : 1 ≤ o) (h16 : o ≤ 16) (h14 : o = 14 → ∃ g, g < 4 ∧ arg = nI g) (h6 : st.length ≤ 6) (hcc : cc ≤ 3) (hfit : hp_fit o f st g)
    (Kc : hp_fu' o st cc → Q (-5) (f_draft, f_outKind, f_outCalls, f_outPeak, f_callLimit, f_depthLimit, a_ops, a_args, a_length, b_cell, b_len, b_fn, b_pos, b_height, b_depth, n_cell)) (Kd : ¬ hp_fu' o st cc → wY_word_269 Q o arg (nI (f * 48)) (hp_bI g) f_draft f_outKind f_outCalls f_outPeak f_callLimit f_depthLimit a_ops a_args a_length b_cell b_len b_fn b_pos b_height b_depth n_cell) : wY_word_233 Q o arg (nI (f * 48)) (nI (hp_en st)) (nI cc) (hp_bI g) f_draft f_outKind f_outCalls f_outPeak f_callLimit f_depthLimit a_ops a_args a_length b_cell b_len b_fn b_pos b_height b_depth n_cell := by
  unfold wY_word_233
  refine yw_af h1 h16 h14 h6 ?_
  have htl : (hp_ta o arg st).length ≤ 7 := by
    unfold hp_ta
    split
    · exact Nat.zero_le _
    · rw [List.length_cons, List.length_drop]
      omega
  have hE := en_7 htl
  refine br_c (fun z => ?_) (fun z => ?_)
  · have z' : nI (hp_en (hp_ta o arg st)) < nI 4096 := z
    rw [nI_ltI (by omega) (by omega)] at z'
    have hl6 := en_46 z'
    have hno : ¬ (o ≤ 5 ∧ 6 ≤ st.length) := by
      intro q
      have e : (hp_ta o arg st).length = st.length + 1 := by
        rcases hp_5 h1 (Int32.not_lt.mpr q.1) with rfl | rfl | rfl | rfl | rfl <;> rfl
      omega
    refine br_c (fun c9 => br_c (fun z3 => ?_) (fun z3 => ?_)) (fun c9 => ?_)
    · have z3' : nI cc < nI 3 := z3
      rw [nI_ltI (by omega) (by omega)] at z3'
      exact Kd (fun q => q.elim hno (fun r => by omega))
    · have z3' : ¬ nI cc < nI 3 := z3
      rw [nI_ltI (by omega) (by omega)] at z3'
      exact Kc (Or.inr ⟨c9, by omega⟩)
    · exact Kd (fun q => q.elim hno (fun r => c9 r.1))
  · have z' : ¬ nI (hp_en (hp_ta o arg st)) < nI 4096 := z
    rw [nI_ltI (by omega) (by omega)] at z'
    refine Kc (Classical.byContradiction (fun hfu => ?_))
    exact z' (en_6 (ta_len h1 h16 h6 hfit hfu))
/-- the whole of the tests behind the going through -/
theorem yw_fit {st : List Bool} {o arg x3 : Int32} {f : Nat} {x5 : Int32} {g : Bool} {Q : Int32 → SY → Prop} (h1 : 1 ≤ o) (h16 : o ≤ 16) (hf : f < 4) (h6 : st.length ≤ 6) (Kb : ¬ hp_fit o f st g → Q (-4) (nI f, f_outKind, f_outCalls, f_outPeak, f_callLimit, f_depthLimit, a_ops, a_args, a_length, b_cell, b_len, b_fn, b_pos, b_height, b_depth, n_cell)) (Kf : hp_fit o f st g → wY_word_233 Q o arg x3 (nI (hp_en st)) x5 (hp_bI g) (nI f) f_outKind f_outCalls f_outPeak f_callLimit f_depthLimit a_ops a_args a_length b_cell b_len b_fn b_pos b_height b_depth n_cell) :
    wpY_takes (fun r_10 => (wpY_bitsOf (fun r_27 => ((((nI (hp_en st) - ((nI (hp_en st) >>> (r_27 &&& 31)) <<< (r_27 &&& 31))) = r_10 → (((o = 15 → (((hp_bI g = 0 → (((nI (hp_en st) = 1 → (wY_word_211 Q o arg x3 (nI (hp_en st)) x5 (hp_bI g) (nI f) f_outKind f_outCalls f_outPeak f_callLimit f_depthLimit a_ops a_args a_length b_cell b_len b_fn b_pos b_height b_depth n_cell)) ∧ (¬ nI (hp_en st) = 1 → (Q (-4) (nI f, f_outKind, f_outCalls, f_outPeak, f_callLimit, f_depthLimit, a_ops, a_args, a_length, b_cell, b_len, b_fn, b_pos, b_height, b_depth, n_cell)))))) ∧ (¬ hp_bI g = 0 → (Q (-4) (nI f, f_outKind, f_outCalls, f_outPeak, f_callLimit, f_depthLimit, a_ops, a_args, a_length, b_cell, b_len, b_fn, b_pos, b_height, b_depth, n_cell)))))) ∧ (¬ o = 15 → (wY_word_211 Q o arg x3 (nI (hp_en st)) x5 (hp_bI g) (nI f) f_outKind f_outCalls f_outPeak f_callLimit f_depthLimit a_ops a_args a_length b_cell b_len b_fn b_pos b_height b_depth n_cell))))) ∧ (¬ (nI (hp_en st) - ((nI (hp_en st) >>> (r_27 &&& 31)) <<< (r_27 &&& 31))) = r_10 → (Q (-4) (nI f, f_outKind, f_outCalls, f_outPeak, f_callLimit, f_depthLimit, a_ops, a_args, a_length, b_cell, b_len, b_fn, b_pos, b_height, b_depth, n_cell)))))) (nI f, f_outKind, f_outCalls, f_outPeak, f_callLimit, f_depthLimit, a_ops, a_args, a_length, b_cell, b_len, b_fn, b_pos, b_height, b_depth, n_cell) r_10)) (nI f, f_outKind, f_outCalls, f_outPeak, f_callLimit, f_depthLimit, a_ops, a_args, a_length, b_cell, b_len, b_fn, b_pos, b_height, b_depth, n_cell) o := by
  have hE := en_6 h6
  have k0 := kd_le st 0
  have k1 := kd_le st 1
  have k2 := kd_le st 2
  have m0 := en_m st
  have m1 := en_m1 st
  have m2 := en_m2 st
  have c211 : o ≠ 16 → hp_fit o f st g → wY_word_211 Q o arg x3 (nI (hp_en st)) x5 (hp_bI g) (nI f) f_outKind f_outCalls f_outPeak f_callLimit f_depthLimit a_ops a_args a_length b_cell b_len b_fn b_pos b_height b_depth n_cell := fun c q => br_f c (Kf q)
  by_cases c5 : 5 < o
  · by_cases c8 : 8 < o
    · by_cases c13 : 13 < o
      · by_cases c14 : o = 14
        · subst c14
          dsimp only [wpY_takes]
          repeat first
            | refine br_t (by decide) ?_
            | refine br_f (by decide) ?_
          dsimp only
          rw [ym_6 (E := hp_en st) (by omega)]
          refine br_c (fun z => br_f (by decide) (c211 (by decide) ?_)) (fun z => Kb ?_)
          · have z' : nI (hp_en st % 64) = nI 26 := z
            rw [nI_eq (by omega) (by omega)] at z'
            exact fit_14.mpr ⟨by omega, by omega, by omega⟩
          · have z' : ¬ nI (hp_en st % 64) = nI 26 := z
            rw [nI_eq (by omega) (by omega)] at z'
            intro q
            have := fit_14.mp q
            omega
        · by_cases c15 : o = 15
          · subst c15
            dsimp only [wpY_takes]
            repeat first
              | refine br_t (by decide) ?_
              | refine br_f (by decide) ?_
            dsimp only
            rw [ym_0 (E := hp_en st)]
            have ce : nI (hp_en st) = 1 ↔ hp_en st = 1 := nI_eq (b := 1) (by omega) (by decide)
            refine br_t rfl (br_t rfl (br_c (fun z => br_c (fun z2 => c211 (by decide) ?_) (fun z2 => Kb ?_)) (fun z => Kb ?_)))
            · refine fit_15.mpr ⟨?_, (en_1 (Or.inl rfl)).mp (ce.mp z2)⟩
              cases g with
              | false => rfl
              | true => exact absurd z (by decide)
            · exact fun q => z2 (ce.mpr ((en_1 (Or.inl rfl)).mpr (fit_15.mp q).2))
            · exact fun q => z (by rw [(fit_15.mp q).1]; rfl)
          · have c16 : o = 16 := by
              rcases hp_16 h1 h16 with h | h | h | h | h | h | h | h | h | h | h | h | h | h | h | h
              all_goals first
                | exact h
                | exact absurd h c14
                | exact absurd h c15
                | (rw [h] at c13; exact absurd c13 (by decide))
            subst c16
            dsimp only [wpY_takes]
            repeat first
              | refine br_t (by decide) ?_
              | refine br_f (by decide) ?_
            dsimp only
            rw [ym_0 (E := hp_en st)]
            have eand : nI f &&& 1 = nI (f % 2) := pk_andN (by omega) 1 (by decide)
            have ek : (1 : Int32) + (nI f &&& 1) = nI (hp_kn (hp_kg f)) := by
              rw [eand]
              rcases Nat.mod_two_eq_zero_or_one f with z | z
              · have hk0 : hp_kg f = false := by unfold hp_kg; rw [z]; rfl
                rw [hk0, z]
                decide
              · have hk0 : hp_kg f = true := by unfold hp_kg; rw [z]; rfl
                rw [hk0, z]
                decide
            have hkn := kn_le (hp_kg f)
            refine br_t rfl (br_f (by decide) (br_t rfl ?_))
            rw [ek]
            refine br_c (fun z => Kf (fit_16.mpr ?_)) (fun z => Kb (fun q => z ?_))
            · rw [nI_eq (by omega) (by omega)] at z
              exact (en_1 (by omega)).mp z
            · rw [nI_eq (by omega) (by omega)]
              exact (en_1 (by omega)).mpr (fit_16.mp q)
      · have n16 : o ≠ 16 := fun z => by rw [z] at c13; exact absurd c13 (by decide)
        rcases hp_13 c8 c13 with rfl | ⟨h9, h13, h4⟩
        · dsimp only [wpY_takes]
          repeat first
            | refine br_t (by decide) ?_
            | refine br_f (by decide) ?_
          dsimp only
          rw [ym_4 (E := hp_en st) (by omega)]
          refine br_c (fun z => br_f (by decide) (c211 (by decide) ?_)) (fun z => Kb ?_)
          · have z' : nI (hp_en st % 16) = nI 6 := z
            rw [nI_eq (by omega) (by omega)] at z'
            exact fit_9.mpr ⟨by omega, by omega⟩
          · have z' : ¬ nI (hp_en st % 16) = nI 6 := z
            rw [nI_eq (by omega) (by omega)] at z'
            intro q
            have := fit_9.mp q
            omega
        · have fb := fit_b (f := f) (st := st) (g := g) h4
          rcases h4 with rfl | rfl | rfl | rfl
          all_goals
            dsimp only [wpY_takes]
            repeat first
              | refine br_t (by decide) ?_
              | refine br_f (by decide) ?_
            dsimp only
            rw [ym_4 (E := hp_en st) (by omega)]
            refine br_c (fun z => br_f (by decide) (c211 (by decide) ?_)) (fun z => Kb ?_)
            · have z' : nI (hp_en st % 16) = nI 5 := z
              rw [nI_eq (by omega) (by omega)] at z'
              exact fb.mpr ⟨by omega, by omega⟩
            · have z' : ¬ nI (hp_en st % 16) = nI 5 := z
              rw [nI_eq (by omega) (by omega)] at z'
              intro q
              have := fb.mp q
              omega
    · have h3 := hp_8 c5 c8
      have fu := fit_un (f := f) (st := st) (g := g) h3
      rcases h3 with rfl | rfl | rfl
      all_goals
        dsimp only [wpY_takes]
        repeat first
          | refine br_t (by decide) ?_
          | refine br_f (by decide) ?_
        dsimp only
        rw [ym_2 (E := hp_en st) (by omega)]
        refine br_c (fun z => br_f (by decide) (c211 (by decide) ?_)) (fun z => Kb ?_)
        · have z' : nI (hp_en st % 4) = nI 2 := z
          rw [nI_eq (by omega) (by omega)] at z'
          exact fu.mpr (by omega)
        · have z' : ¬ nI (hp_en st % 4) = nI 2 := z
          rw [nI_eq (by omega) (by omega)] at z'
          intro q
          have := fu.mp q
          omega
  · have h5 := hp_5 h1 c5
    have fl := fit_lo (f := f) (st := st) (g := g) h5
    rcases h5 with rfl | rfl | rfl | rfl | rfl
    all_goals
      dsimp only [wpY_takes]
      repeat first
        | refine br_t (by decide) ?_
        | refine br_f (by decide) ?_
      dsimp only
      rw [ym_0 (E := hp_en st)]
      exact br_t rfl (br_f (by decide) (c211 (by decide) fl))
theorem yw_77 {o arg : Int32} {f n : Nat} {Q : Int32 → SY → Prop} (h1 : 1 ≤ o) (h16 : o ≤ 16) (hf : f < 4) (hn : n < 48) (hl : a_length f = nI n) (hWd : hp_Wd (hp_o a_ops f) (hp_o a_args f) f n)
    (Kb : ¬ hp_fit o f (hp_sc (hp_o a_ops f) (hp_o a_args f) n) (hp_gd (hp_o a_ops f) n) → Q (-4) (nI f, f_outKind, f_outCalls, f_outPeak, f_callLimit, f_depthLimit, a_ops, a_args, a_length, b_cell, b_len, b_fn, b_pos, b_height, b_depth, n_cell))
    (Kf : hp_fit o f (hp_sc (hp_o a_ops f) (hp_o a_args f) n) (hp_gd (hp_o a_ops f) n) → wY_word_233 Q o arg (nI (f * 48)) (nI (hp_en (hp_sc (hp_o a_ops f) (hp_o a_args f) n))) (nI (hp_cc (hp_o a_ops f) n)) (hp_bI (hp_gd (hp_o a_ops f) n)) (nI f) f_outKind f_outCalls f_outPeak f_callLimit f_depthLimit a_ops a_args a_length b_cell b_len b_fn b_pos b_height b_depth n_cell) :
    ∀ d i k, i + d = n → d < k → wY_word_77 Q o arg (nI (f * 48)) (nI f) f_outKind f_outCalls f_outPeak f_callLimit f_depthLimit a_ops a_args a_length b_cell b_len b_fn b_pos b_height b_depth n_cell k (nI (hp_en (hp_sc (hp_o a_ops f) (hp_o a_args f) i))) (nI (hp_cc (hp_o a_ops f) i)) (hp_bI (hp_gd (hp_o a_ops f) i)) (nI i) := by
  have e1 : (nI f).toNatClampNeg = f := nI_clamp (by omega)
  have i1 : vp_in (nI f) 4 := vp_in_nI hf (by decide)
  have hlen6 : ∀ i, i ≤ n → (hp_sc (hp_o a_ops f) (hp_o a_args f) i).length ≤ 6 := by
    intro i hi
    cases i with
    | zero => exact Nat.zero_le _
    | succ q => exact (hWd q (by omega)).2.2.2.2
  intro d
  induction d with
  | zero =>
    intro i k hi hk
    obtain ⟨k, rfl⟩ : ∃ k', k = k' + 1 := ⟨k - 1, by omega⟩
    have : i = n := by omega
    subst this
    rw [wY_word_77]
    dsimp only
    rw [e1, hl]
    exact And.intro i1 (br_t (nI_le (Nat.le_refl _) (by omega)) (yw_fit h1 h16 hf (hlen6 i (Nat.le_refl _)) Kb Kf))
  | succ d ih =>
    intro i k hi hk
    obtain ⟨k, rfl⟩ : ∃ k', k = k' + 1 := ⟨k - 1, by omega⟩
    have e3 : nI (f * 48) + nI i = nI (f * 48 + i) := nI_add _ _
    have e5 : (nI (f * 48 + i)).toNatClampNeg = f * 48 + i := nI_clamp (by omega)
    have i2 : vp_in (nI (f * 48 + i)) 192 := vp_in_nI (by omega) (by decide)
    obtain ⟨w1, w2, w3, w4, w5⟩ := hWd i (by omega)
    obtain ⟨w, hw⟩ : ∃ w, a_ops (f * 48 + i) = w := ⟨_, rfl⟩
    have hw' : hp_o a_ops f i = w := hw
    rw [hw'] at w1 w2 w3
    have ih' := ih (i + 1) k (by omega) (by omega)
    have es : hp_sc (hp_o a_ops f) (hp_o a_args f) (i + 1) = hp_ta w (a_args (f * 48 + i)) (hp_sc (hp_o a_ops f) (hp_o a_args f) i) := by rw [hp_sc, hw']
    have eg : hp_gd (hp_o a_ops f) (i + 1) = if w = 15 then true else if w = 16 then false else hp_gd (hp_o a_ops f) i := by rw [hp_gd, hw']
    have ec : hp_cc (hp_o a_ops f) (i + 1) = if w = 9 then hp_cc (hp_o a_ops f) i + 1 else hp_cc (hp_o a_ops f) i := by rw [hp_cc, hw']
    rw [es, eg, ec] at ih'
    rw [wY_word_77]
    dsimp only
    rw [e1, hl, e3, e5, hw]
    refine And.intro i1 (br_f (nI_ge (by omega) (by omega)) (And.intro i2 (nm_e (And.intro i2 ?_))))
    refine yw_af w1 w2 w3 (hlen6 i (by omega)) ?_
    refine br_c (fun c15 => ?_) (fun c15 => ?_)
    · subst c15
      exact br_f (by decide) (br_f (by decide) (nm_r (nI_1 i) ih'))
    · rw [if_neg c15] at ih'
      refine br_c (fun c16 => ?_) (fun c16 => ?_)
      · subst c16
        exact br_f (by decide) (nm_r (nI_1 i) ih')
      · rw [if_neg c16] at ih'
        refine br_c (fun c9 => ?_) (fun c9 => ?_)
        · rw [if_pos c9] at ih'
          exact nm_r (nI_1 _) (nm_r (nI_1 i) ih')
        · rw [if_neg c9] at ih'
          exact nm_r (nI_1 i) ih'
theorem yw_40 {o arg : Int32} {f n : Nat} {Q : Int32 → SY → Prop} (h1 : 1 ≤ o) (h16 : o ≤ 16) (h14 : o = 14 → ∃ g, g < 4 ∧ arg = nI g) (hf : f < 4) (hn : n ≤ 48) (hl : a_length f = nI n) (hWd : hp_Wd (hp_o a_ops f) (hp_o a_args f) f n) (hcc : hp_cc (hp_o a_ops f) n ≤ 3)
    (Ka : 48 ≤ n → Q (-5) (nI f, f_outKind, f_outCalls, f_outPeak, f_callLimit, f_depthLimit, a_ops, a_args, a_length, b_cell, b_len, b_fn, b_pos, b_height, b_depth, n_cell)) (Kb : n < 48 → ¬ hp_fit o f (hp_sc (hp_o a_ops f) (hp_o a_args f) n) (hp_gd (hp_o a_ops f) n) → Q (-4) (nI f, f_outKind, f_outCalls, f_outPeak, f_callLimit, f_depthLimit, a_ops, a_args, a_length, b_cell, b_len, b_fn, b_pos, b_height, b_depth, n_cell))
    (Kc : n < 48 → hp_fit o f (hp_sc (hp_o a_ops f) (hp_o a_args f) n) (hp_gd (hp_o a_ops f) n) → hp_fu' o (hp_sc (hp_o a_ops f) (hp_o a_args f) n) (hp_cc (hp_o a_ops f) n) → Q (-5) (nI f, f_outKind, f_outCalls, f_outPeak, f_callLimit, f_depthLimit, a_ops, a_args, a_length, b_cell, b_len, b_fn, b_pos, b_height, b_depth, n_cell))
    (Kd : n < 48 → hp_fit o f (hp_sc (hp_o a_ops f) (hp_o a_args f) n) (hp_gd (hp_o a_ops f) n) → ¬ hp_fu' o (hp_sc (hp_o a_ops f) (hp_o a_args f) n) (hp_cc (hp_o a_ops f) n) → wY_word_269 Q o arg (nI (f * 48)) (hp_bI (hp_gd (hp_o a_ops f) n)) (nI f) f_outKind f_outCalls f_outPeak f_callLimit f_depthLimit a_ops a_args a_length b_cell b_len b_fn b_pos b_height b_depth n_cell) :
    wY_word_40 Q o arg (nI f) f_outKind f_outCalls f_outPeak f_callLimit f_depthLimit a_ops a_args a_length b_cell b_len b_fn b_pos b_height b_depth n_cell := by
  have e1 : (nI f).toNatClampNeg = f := nI_clamp (by omega)
  have i1 : vp_in (nI f) 4 := vp_in_nI hf (by decide)
  have e48 : nI f * 48 = nI (f * 48) := pk_mul f 48
  have h6 : (hp_sc (hp_o a_ops f) (hp_o a_args f) n).length ≤ 6 := by
    cases n with
    | zero => exact Nat.zero_le _
    | succ q => exact (hWd q (by omega)).2.2.2.2
  unfold wY_word_40
  rw [e1, hl]
  refine And.intro i1 (br_c (fun z => ?_) (fun z => ?_))
  · have z' : nI n < nI 48 := z
    rw [nI_ltI (by omega) (by omega)] at z'
    refine nm_r e48 ⟨n + 1, ?_⟩
    exact yw_77 h1 h16 hf z' hl hWd (Kb z') (fun q => yw_233 h1 h16 h14 h6 hcc q (Kc z' q) (Kd z' q)) n 0 (n + 1) (by omega) (by omega)
  · have z' : ¬ nI n < nI 48 := z
    rw [nI_ltI (by omega) (by omega)] at z'
    exact Ka (by omega)
end
end
section
theorem ta_aw {o arg : Int32} {st : List Bool} : hp_ta o (hp_aw o arg) st = hp_ta o arg st := by
  by_cases c : o = 14
  · subst c
    rfl
  · unfold hp_ta hp_pk
    rw [if_neg c, if_neg c]
section
variable {ops args : Nat → Int32} {f n : Nat} {o aw : Int32}
theorem ap_o {i : Nat} (hi : i < n) : hp_o (upd ops (f * 48 + n) o) f i = hp_o ops f i := pk_un (by omega)
theorem ap_on : hp_o (upd ops (f * 48 + n) o) f n = o := pk_us
theorem ap_sc : hp_sc (hp_o (upd ops (f * 48 + n) o) f) (hp_o (upd args (f * 48 + n) aw) f) n = hp_sc (hp_o ops f) (hp_o args f) n := hp_sc_c (n := n) (fun i hi => ⟨ap_o hi, ap_o hi⟩) n (Nat.le_refl _)
theorem ap_gd : hp_gd (hp_o (upd ops (f * 48 + n) o) f) n = hp_gd (hp_o ops f) n := hp_gd_c (n := n) (fun i hi => ap_o hi) n (Nat.le_refl _)
theorem ap_cc : hp_cc (hp_o (upd ops (f * 48 + n) o) f) n = hp_cc (hp_o ops f) n := hp_cc_c (n := n) (fun i hi => ap_o hi) n (Nat.le_refl _)
theorem ap_sc1 : hp_sc (hp_o (upd ops (f * 48 + n) o) f) (hp_o (upd args (f * 48 + n) aw) f) (n + 1) = hp_ta o aw (hp_sc (hp_o ops f) (hp_o args f) n) := by
  rw [hp_sc, ap_sc, ap_on, ap_on]
theorem ap_gd1 : hp_gd (hp_o (upd ops (f * 48 + n) o) f) (n + 1) = if o = 15 then true else if o = 16 then false else hp_gd (hp_o ops f) n := by
  rw [hp_gd, ap_gd, ap_on]
theorem ap_cc1 : hp_cc (hp_o (upd ops (f * 48 + n) o) f) (n + 1) = if o = 9 then hp_cc (hp_o ops f) n + 1 else hp_cc (hp_o ops f) n := by
  rw [hp_cc, ap_cc, ap_on]
theorem rt_app {passed passed' length held held' : Nat → Int32} {dr' : Int32} (hf : f < 4) (hRT : hp_RT (nI f) ops args passed length held) (hn : hp_N length f = n) (hn48 : n < 48) (h1 : 1 ≤ o) (h16 : o ≤ 16) (h14 : o = 14 → ∃ g, g < 4 ∧ aw = nI g)
    (hfit : hp_fit o f (hp_sc (hp_o ops f) (hp_o args f) n) (hp_gd (hp_o ops f) n)) (hta : (hp_ta o aw (hp_sc (hp_o ops f) (hp_o args f) n)).length ≤ 6) (hcc : (if o = 9 then hp_cc (hp_o ops f) n + 1 else hp_cc (hp_o ops f) n) ≤ 3)
    (hp' : ∀ j, j < f * 48 ∨ f * 48 + 48 ≤ j → passed' j = passed j) (hh' : ∀ j, j ≠ f → held' j = held j)
    (hd : dr' ≠ nI f → hp_Cm (hp_o (upd ops (f * 48 + n) o) f) (n + 1) ∧ held' f = nI (hp_hc (hp_o (upd ops (f * 48 + n) o) f) (n + 1) (n + 1)) ∧ ∀ i, i < n + 1 → upd ops (f * 48 + n) o (f * 48 + i) = 14 → passed' (f * 48 + i) = hp_bI (hp_pa (hp_o (upd ops (f * 48 + n) o) f) (n + 1) i)) :
    hp_RT dr' (upd ops (f * 48 + n) o) (upd args (f * 48 + n) aw) passed' (upd length f (nI (n + 1))) held' := by
  intro f' hf'
  by_cases e : f' = f
  · subst e
    have en : hp_N (upd length f' (nI (n + 1))) f' = n + 1 := hp_N_s (by omega)
    obtain ⟨t1, t2, t3, t4, t5⟩ := hRT f' hf'
    rw [hn] at t3
    rw [en]
    refine ⟨pk_us, by omega, ?_, by rw [ap_cc1]; exact hcc, hd⟩
    intro i hi
    by_cases ei : i = n
    · subst ei
      rw [ap_on, ap_sc, ap_gd, ap_sc1]
      exact ⟨h1, h16, fun z => by rw [show hp_o (upd args (f' * 48 + i) aw) f' i = aw from pk_us]; exact h14 z, hfit, hta⟩
    · exact (hp_Wd_c (n := n) (fun j hj => ⟨(ap_o hj).symm, (ap_o hj).symm⟩) t3) i (by omega)
  · rw [hp_N_n e, pk_un e]
    obtain ⟨t1, t2, t3, t4, t5⟩ := hRT f' hf'
    have ne : nI f ≠ nI f' := fun z => e ((nI_eq (by omega) (by omega)).mp z).symm
    obtain ⟨s1, s2, s3⟩ := t5 ne
    have eo : ∀ i, i < hp_N length f' → hp_o ops f' i = hp_o (upd ops (f * 48 + n) o) f' i := fun i hi => by
      show ops (f' * 48 + i) = upd ops (f * 48 + n) o (f' * 48 + i)
      rw [pk_un (by omega)]
    have ea : ∀ i, i < hp_N length f' → hp_o args f' i = hp_o (upd args (f * 48 + n) aw) f' i := fun i hi => by
      show args (f' * 48 + i) = upd args (f * 48 + n) aw (f' * 48 + i)
      rw [pk_un (by omega)]
    refine ⟨t1, t2, hp_Wd_c (fun i hi => ⟨eo i hi, ea i hi⟩) t3, ?_, fun _ => ⟨hp_Cm_c eo s1, ?_, ?_⟩⟩
    · rw [← hp_cc_c eo _ (Nat.le_refl _)]
      exact t4
    · rw [hh' f' e, s2, hp_hc_c eo _ (Nat.le_refl _)]
    · intro i hi ho
      have ho2 : ops (f' * 48 + i) = 14 := (eo i hi).trans ho
      rw [hp' _ (by omega), s3 i hi ho2, hp_pa_c eo i]
end
theorem i_vc_word {k : Nat} {u : SX} {v : SY} (I : i_Rel k u v) (hk : k + 3 ≤ 1538) (v1 : Int32) (v2 : Int32) : wpX_word (fun r u' => wpY_word (fun r' v' => r' = r ∧ i_Rel (k + 3) u' v') v v1 v2) u v1 v2 := by
  refine zz_el (P := fun u v => wpX_word (fun r u' => wpY_word (fun r' v' => r' = r ∧ i_Rel (k + 3) u' v') v v1 v2) u v1 v2) I ?_
  intro f_callLimit f_depthLimit f_draft f_height f_guarded f_consCount f_outKind f_outValue f_outCalls f_outPeak f_cells f_top f_nextF f_nextN f_nextXs f_nextYs f_holePos f_holeMul f_holeAdd f_holeFirst f_holeLast f_running f_ending f_entered f_deepest a_ops a_args a_passed a_length a_heldCount a_kinds a_items a_itemCount a_outList a_head a_tail a_fn a_pc a_argN a_argXs a_argYs a_sp a_values a_mul a_add a_first a_last b_cell b_len b_fn b_pos b_height b_depth h1 h2 h3 h4 h5 h6 h7
  have hz : ∀ j, i_Rel j (f_callLimit, f_depthLimit, f_draft, f_height, f_guarded, f_consCount, f_outKind, f_outValue, f_outCalls, f_outPeak, f_cells, f_top, f_nextF, f_nextN, f_nextXs, f_nextYs, f_holePos, f_holeMul, f_holeAdd, f_holeFirst, f_holeLast, f_running, f_ending, f_entered, f_deepest, a_ops, a_args, a_passed, a_length, a_heldCount, a_kinds, a_items, a_itemCount, a_outList, a_head, a_tail, a_fn, a_pc, a_argN, a_argXs, a_argYs, a_sp, a_values, a_mul, a_add, a_first, a_last) (f_draft, f_outKind, f_outCalls, f_outPeak, f_callLimit, f_depthLimit, a_ops, a_args, a_length, b_cell, b_len, b_fn, b_pos, b_height, b_depth, 120432) := fun j => zz_in h1 h2 h3 h4 h5 h6 h7
  rcases h3 with rfl | ⟨f, hf, rfl, hheld, rfl, hks, rfl, rfl⟩
  · exact br_f (by decide) (br_f (by decide) ⟨rfl, hz _⟩)
  · have z1 : 0 ≤ nI f := nI_pos' (by omega)
    obtain ⟨t1, t2, t3, t4, _⟩ := h2 f hf
    refine br_t z1 ?_
    by_cases c1 : v1 < 1
    · exact br_t c1 (br_t z1 (br_t c1 ⟨rfl, hz _⟩))
    refine br_f c1 ?_
    by_cases c16 : v1 ≤ 16
    · refine br_t c16 ?_
      have hv1 : 1 ≤ v1 := Int32.not_lt.mp c1
      have h6' : (hp_sc (hp_o a_ops f) (hp_o a_args f) (hp_N a_length f)).length ≤ 6 := by
        cases hq : hp_N a_length f with
        | zero => exact Nat.zero_le _
        | succ q => exact (t3 q (by omega)).2.2.2.2
      have core : (v1 = 14 → ∃ g, g < 4 ∧ v2 = nI g) → wX_word_39 (fun r u' => wpY_word (fun r' v' => r' = r ∧ i_Rel (k + 3) u' v') (nI f, f_outKind, f_outCalls, f_outPeak, f_callLimit, f_depthLimit, a_ops, a_args, a_length, b_cell, b_len, b_fn, b_pos, b_height, b_depth, 120432) v1 v2) v1 v2 f_callLimit f_depthLimit (nI f) (nI (hp_sc (hp_o a_ops f) (hp_o a_args f) (hp_N a_length f)).length) (hp_bI (hp_gd (hp_o a_ops f) (hp_N a_length f))) (nI (hp_cc (hp_o a_ops f) (hp_N a_length f))) f_outKind f_outValue f_outCalls f_outPeak f_cells f_top f_nextF f_nextN f_nextXs f_nextYs f_holePos f_holeMul f_holeAdd f_holeFirst f_holeLast f_running f_ending f_entered f_deepest a_ops a_args a_passed a_length a_heldCount a_kinds a_items a_itemCount a_outList a_head a_tail a_fn a_pc a_argN a_argXs a_argYs a_sp a_values a_mul a_add a_first a_last := by
        intro h14
        have h14a : v1 = 14 → ∃ g, g < 4 ∧ hp_aw v1 v2 = nI g := fun c => by
          obtain ⟨g, hg, e⟩ := h14 c
          exact ⟨g, hg, by rw [← e]; subst c; rfl⟩
        have yW : ∀ Q : Int32 → SY → Prop, wY_word_40 Q v1 v2 (nI f) f_outKind f_outCalls f_outPeak f_callLimit f_depthLimit a_ops a_args a_length b_cell b_len b_fn b_pos b_height b_depth 120432 → wpY_word Q (nI f, f_outKind, f_outCalls, f_outPeak, f_callLimit, f_depthLimit, a_ops, a_args, a_length, b_cell, b_len, b_fn, b_pos, b_height, b_depth, 120432) v1 v2 := by
          intro Q h40
          refine br_t z1 (br_f c1 (br_t c16 (br_c (fun c14 => ?_) (fun _ => h40))))
          obtain ⟨g, hg, rfl⟩ := h14 c14
          exact br_f (nI_pos (by omega)) (br_t (nI_lt (b := 4) hg (by decide)) h40)
        refine xw_39 hv1 c16 hf h6' hks t2 t1 t4 (fun hn => ?_) (fun hn hfit => ?_) (fun hn hfit hfu => ?_) (fun hn hfit hfu => ?_)
        · exact yW _ (yw_40 hv1 c16 h14 hf t2 t1 t3 t4 (fun _ => ⟨rfl, hz _⟩) (fun q => by omega) (fun q => by omega) (fun q => by omega))
        · exact yW _ (yw_40 hv1 c16 h14 hf t2 t1 t3 t4 (fun q => by omega) (fun _ _ => ⟨rfl, hz _⟩) (fun _ q => absurd q hfit) (fun _ q => absurd q hfit))
        · exact yW _ (yw_40 hv1 c16 h14 hf t2 t1 t3 t4 (fun q => by omega) (fun _ q => absurd hfit q) (fun _ _ _ => ⟨rfl, hz _⟩) (fun _ _ q => absurd hfu q))
        · have htl : (hp_ta v1 (hp_aw v1 v2) (hp_sc (hp_o a_ops f) (hp_o a_args f) (hp_N a_length f))).length ≤ 6 := by
            rw [ta_aw]
            exact ta_len hv1 c16 h6' hfit hfu
          have hcc3 : (if v1 = 9 then hp_cc (hp_o a_ops f) (hp_N a_length f) + 1 else hp_cc (hp_o a_ops f) (hp_N a_length f)) ≤ 3 := by
            split
            · rename_i c9
              have : ¬ 3 ≤ hp_cc (hp_o a_ops f) (hp_N a_length f) := fun q => hfu (Or.inr ⟨c9, q⟩)
              omega
            · exact t4
          have en : hp_N (upd a_length f (nI (hp_N a_length f + 1))) f = hp_N a_length f + 1 := hp_N_s (by omega)
          have y0 : ∀ Q : Int32 → SY → Prop, (v1 = 16 → hp_gd (hp_o a_ops f) (hp_N a_length f) = true) → Q 0 (nI f, f_outKind, f_outCalls, f_outPeak, f_callLimit, f_depthLimit, upd a_ops (f * 48 + hp_N a_length f) v1, upd a_args (f * 48 + hp_N a_length f) (hp_aw v1 v2), upd a_length f (nI (hp_N a_length f + 1)), b_cell, b_len, b_fn, b_pos, b_height, b_depth, 120432) → wpY_word Q (nI f, f_outKind, f_outCalls, f_outPeak, f_callLimit, f_depthLimit, a_ops, a_args, a_length, b_cell, b_len, b_fn, b_pos, b_height, b_depth, 120432) v1 v2 := by
            intro Q hg hQ
            exact yW _ (yw_40 hv1 c16 h14 hf t2 t1 t3 t4 (fun q => by omega) (fun _ q => absurd hfit q) (fun _ _ q => absurd q hfu) (fun _ _ _ => yw_269 hf hn t1 (fun q1 q2 => absurd (q2.symm.trans (hg q1)) (by decide)) (fun _ => hQ)))
          have hRTd : hp_RT (nI f) (upd a_ops (f * 48 + hp_N a_length f) v1) (upd a_args (f * 48 + hp_N a_length f) (hp_aw v1 v2)) a_passed (upd a_length f (nI (hp_N a_length f + 1))) a_heldCount :=
            rt_app hf h2 rfl hn hv1 c16 h14a hfit htl hcc3 (fun _ _ => rfl) (fun _ _ => rfl) (fun q => absurd rfl q)
          refine xw_101 hv1 c16 hf h6' hks hn t1 h14 (fun i hi => (t3 i hi).2.1) hfit hfu (fun e16 eg P hP hO => ?_) (fun e16 eg => ?_) (fun e15 => ?_) (fun e15 e16 kinds hkn => ?_)
          · refine yW _ (yw_40 hv1 c16 h14 hf t2 t1 t3 t4 (fun q => by omega) (fun _ q => absurd hfit q) (fun _ _ q => absurd q hfu) (fun _ _ _ => yw_269 hf hn t1 (fun _ _ => ⟨rfl, ?_⟩) (fun q => absurd (eg.symm.trans (q e16)) (by decide))))
            refine zz_in h1 (rt_app hf h2 rfl hn hv1 c16 h14a hfit htl hcc3 hO (fun j hj => pk_un hj) (fun _ => ⟨Or.inr ⟨?_, ?_⟩, pk_us, hP⟩)) (Or.inl rfl) h4 h5 h6 h7
            · rw [Nat.add_sub_cancel, ap_on]
              exact e16
            · rw [Nat.add_sub_cancel, ap_gd]
              exact eg
          · refine y0 _ (fun _ => eg) ⟨rfl, zz_in h1 hRTd (Or.inr ⟨f, hf, rfl, hheld, ?_⟩) h4 h5 h6 h7⟩
            rw [en, ap_sc1, ap_gd1, ap_cc1]
            subst e16
            exact ⟨rfl, trivial, rfl, rfl⟩
          · refine y0 _ (fun q => by rw [e15] at q; exact absurd q (by decide)) ⟨rfl, zz_in h1 hRTd (Or.inr ⟨f, hf, rfl, hheld, ?_⟩) h4 h5 h6 h7⟩
            rw [en, ap_sc1, ap_gd1, ap_cc1]
            subst e15
            exact ⟨rfl, trivial, rfl, rfl⟩
          · refine y0 _ (fun q => absurd q e16) ⟨rfl, zz_in h1 hRTd (Or.inr ⟨f, hf, rfl, hheld, ?_⟩) h4 h5 h6 h7⟩
            rw [en, ap_sc1, ap_gd1, ap_cc1, ta_aw, if_neg e15, if_neg e16]
            exact ⟨rfl, hkn, rfl, rfl⟩
      refine br_c (fun c14 => ?_) (fun c14 => core (fun q => absurd q c14))
      rcases hp_f4 v2 with z | ⟨g, hg, rfl, w1, w2, w3⟩
      · refine xl_isf (fun _ => br_t rfl ?_) (fun a b => (z.elim a b).elim)
        refine br_t z1 (br_f c1 (br_t c16 (br_t c14 ?_)))
        rcases z with z | z
        · exact br_t z ⟨rfl, hz _⟩
        · exact br_f (Int32.not_lt.mpr (Int32.le_trans (by decide) z)) (br_f (Int32.not_lt.mpr z) ⟨rfl, hz _⟩)
      · exact xl_isf (fun z => (z.elim w1 w2).elim) (fun _ _ => br_f (by decide) (core (fun _ => ⟨g, hg, rfl⟩)))
    · exact br_f c16 (br_t z1 (br_f c1 (br_f c16 ⟨rfl, hz _⟩)))
end
