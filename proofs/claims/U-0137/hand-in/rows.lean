section
/-! pure rows to paste: stores, nI and lN arithmetic, masks, shifts, narrowing, branches by naturals (pk_le, pk_lt, pk_eq), loops (lp1 .. lp16: the measure of the state; rp1 ..: recursion), negatives. Take what you need -/
theorem pk_us {f : Nat → Int32} {k : Nat} {x : Int32} : upd f k x k = x := if_pos rfl
theorem pk_un {f : Nat → Int32} {k j : Nat} {x : Int32} (h : j ≠ k) : upd f k x j = f j := if_neg h
theorem pk_sub {a b : Nat} (h : b ≤ a) : nI a - nI b = nI (a - b) := by
  obtain ⟨c, rfl⟩ : ∃ c, a = c + b := ⟨a - b, by omega⟩
  rw [← nI_add, Int32.add_sub_cancel, Nat.add_sub_cancel]
theorem pk_m1 (n : Nat) : nI (n + 1) + (-1) = nI n := by
  rw [← nI_1, Int32.add_assoc, show (1 : Int32) + (-1) = 0 from rfl, Int32.add_zero]
theorem pk_mul (a b : Nat) : nI a * nI b = nI (a * b) := (Int32.ofNat_mul a b).symm
theorem pk_sub_toInt {a b : Nat} (ha : a < 2 ^ 30) (hb : b < 2 ^ 30) : (nI a - nI b).toInt = (a : Int) - b := by
  rw [Int32.toInt_sub, nI_toInt (by omega), nI_toInt (by omega)]
  exact Int.bmod_eq_of_le (by omega) (by omega)
theorem pk_sneg {a b : Nat} (hb : b < 2 ^ 30) (h : a < b) : nI a - nI b < 0 := by
  rw [Int32.lt_iff_toInt_lt, pk_sub_toInt (by omega) hb, show (0 : Int32).toInt = 0 from by decide]
  omega
theorem pk_ix (x : Int32) {n : Nat} (hn : n < 2 ^ 31) : x < 0 ∨ nI n ≤ x ∨ ∃ j : Nat, j < n ∧ x = nI j := by
  by_cases h : x < 0
  · exact Or.inl h
  · obtain ⟨j, hj, rfl⟩ := nI_of h
    by_cases h2 : j < n
    · exact Or.inr (Or.inr ⟨j, h2, rfl⟩)
    · exact Or.inr (Or.inl (nI_le (by omega) hj))
theorem pk_le {x y : Int32} {A B : Prop} (a b : Nat) (f : a ≤ b → A) (g : b < a → B) (hx : x = nI a := by rfl) (hy : y = nI b := by rfl) (ha : a < 2 ^ 31 := by omega) (hb : b < 2 ^ 31 := by omega) : (x ≤ y → A) ∧ (¬ x ≤ y → B) := by
  subst hx hy
  rw [nI_leI ha hb]
  exact ⟨f, fun z => g (by omega)⟩
theorem pk_lt {x y : Int32} {A B : Prop} (a b : Nat) (f : a < b → A) (g : b ≤ a → B) (hx : x = nI a := by rfl) (hy : y = nI b := by rfl) (ha : a < 2 ^ 31 := by omega) (hb : b < 2 ^ 31 := by omega) : (x < y → A) ∧ (¬ x < y → B) := by
  subst hx hy
  rw [nI_ltI ha hb]
  exact ⟨f, fun z => g (by omega)⟩
theorem pk_eq {x y : Int32} {A B : Prop} (a b : Nat) (f : a = b → A) (g : a ≠ b → B) (hx : x = nI a := by rfl) (hy : y = nI b := by rfl) (ha : a < 2 ^ 31 := by omega) (hb : b < 2 ^ 31 := by omega) : (x = y → A) ∧ (¬ x = y → B) := by
  subst hx hy
  rw [nI_eq ha hb]
  exact ⟨f, g⟩
theorem pk_in {x : Int32} (n N : Nat) (h : n < N) (hx : x = nI n := by rfl) (hN : N < 2 ^ 31 := by omega) : vp_in x N := by
  subst hx
  exact vp_in_nI h hN
theorem pk_cl {x : Int32} (n : Nat) (hx : x = nI n := by rfl) (h : n < 2 ^ 31 := by omega) : x.toNatClampNeg = n := by
  subst hx
  exact nI_clamp h
theorem pk_tn {n : Nat} (h : n < 2 ^ 32) : (nI n).toBitVec.toNat = n := Nat.mod_eq_of_lt h
theorem pk_and (x : Int32) {m : Int32} (k : Nat) (hm : m.toBitVec.toNat = 2 ^ k - 1) : x &&& m = nI (x.toBitVec.toNat % 2 ^ k) := by
  apply Int32.toBitVec_inj.mp
  apply BitVec.eq_of_toNat_eq
  rw [Int32.toBitVec_and, BitVec.toNat_and, hm, Nat.and_two_pow_sub_one_eq_mod]
  show _ = (BitVec.ofNat 32 _).toNat
  rw [BitVec.toNat_ofNat]
  exact (Nat.mod_eq_of_lt (Nat.lt_of_le_of_lt (Nat.mod_le _ _) x.toBitVec.isLt)).symm
theorem pk_andN {n : Nat} (h : n < 2 ^ 32) {m : Int32} (k : Nat) (hm : m.toBitVec.toNat = 2 ^ k - 1) : nI n &&& m = nI (n % 2 ^ k) := by
  rw [pk_and _ k hm, pk_tn h]
theorem pk_shr (a s : Int32) (k : Nat) (hs : (s.toBitVec.smod 32).toNat = k) : (a >>> s).toInt = a.toInt >>> k := by
  show (a.toBitVec.sshiftRight (s.toBitVec.smod 32).toNat).toInt = _
  rw [hs, BitVec.toInt_sshiftRight]
  rfl
theorem pk_shrN {n : Nat} (h : n < 2 ^ 31) (s : Int32) (k : Nat) (hs : (s.toBitVec.smod 32).toNat = k) : nI n >>> s = nI (n / 2 ^ k) := by
  apply Int32.toInt_inj.mp
  have h2 : n / 2 ^ k ≤ n := Nat.div_le_self _ _
  rw [pk_shr _ _ k hs, nI_toInt h, nI_toInt (by omega), Int.shiftRight_eq_div_pow]
  rfl
end
section
section QA
/-! numbers -/
theorem qa_0 : (0 : Int32).toInt = 0 := by decide
theorem qa_1 : (1 : Int32).toInt = 1 := by decide
theorem qa_m1 : (-1 : Int32).toInt = -1 := by decide
theorem qa_31 : (31 : Int32).toInt = 31 := by decide
theorem qa_16 : (16 : Int32).toInt = 16 := by decide
theorem qa_add {x y : Int32} (h1 : -2147483648 ≤ x.toInt + y.toInt) (h2 : x.toInt + y.toInt < 2147483648) : (x + y).toInt = x.toInt + y.toInt := by
  rw [Int32.toInt_add]
  exact Int.bmod_eq_of_le (by omega) (by omega)
theorem qa_sub {x y : Int32} (h1 : -2147483648 ≤ x.toInt - y.toInt) (h2 : x.toInt - y.toInt < 2147483648) : (x - y).toInt = x.toInt - y.toInt := by
  rw [Int32.toInt_sub]
  exact Int.bmod_eq_of_le (by omega) (by omega)
theorem qa_le {x y : Int32} : x ≤ y ↔ x.toInt ≤ y.toInt := Int32.le_iff_toInt_le
theorem qa_lt {x y : Int32} : x < y ↔ x.toInt < y.toInt := Int32.lt_iff_toInt_lt
theorem qa_nle {x y : Int32} : ¬ x ≤ y ↔ y.toInt < x.toInt := by rw [qa_le]; omega
theorem qa_nlt {x y : Int32} : ¬ x < y ↔ y.toInt ≤ x.toInt := by rw [qa_lt]; omega
theorem qa_ext {x y : Int32} (h : x.toInt = y.toInt) : x = y := Int32.toInt_inj.mp h
theorem qa_inj {a b : Nat} (h : nI a = nI b) (ha : a < 2 ^ 31) (hb : b < 2 ^ 31) : a = b := (nI_eq ha hb).mp h
def qa_mx (a b : Int32) : Int32 := if a ≤ b then b else a
theorem qa_mxT (a b : Int32) : a.toInt ≤ (qa_mx a b).toInt ∧ b.toInt ≤ (qa_mx a b).toInt ∧ ((qa_mx a b).toInt = a.toInt ∨ (qa_mx a b).toInt = b.toInt) := by
  unfold qa_mx
  by_cases h : a ≤ b
  · rw [if_pos h]; rw [qa_le] at h; omega
  · rw [if_neg h]; rw [qa_le] at h; omega
theorem qa_nm1 {a : Nat} (h : a < 2 ^ 31) : ¬ nI a = -1 := by
  intro e
  have h1 := nI_toInt h
  rw [e, qa_m1] at h1
  omega
theorem qa_ix (c a : Nat) : nI c * 8 + nI a = nI (c * 8 + a) := by
  rw [show (8 : Int32) = nI 8 from rfl, pk_mul, nI_add]
theorem qa_x8 (c : Nat) : nI c * 8 = nI (c * 8) := by
  rw [show (8 : Int32) = nI 8 from rfl, pk_mul]
theorem qa_ring {h m : Nat} (hb : h + m < 2 ^ 31) : (nI h + nI m) &&& 31 = nI ((h + m) % 32) := by
  rw [nI_add]
  exact pk_andN (by omega) 5 (by decide)
theorem qa_ring1 {h m : Nat} (h1 : 1 ≤ m) (hb : h + m < 2 ^ 31) : ((nI h + nI m) - 1) &&& 31 = nI ((h + (m - 1)) % 32) := by
  obtain ⟨j, rfl⟩ : ∃ j, m = j + 1 := ⟨m - 1, by omega⟩
  rw [nI_add, show h + (j + 1) = (h + j) + 1 by omega, nI_pred, Nat.add_sub_cancel]
  exact pk_andN (by omega) 5 (by decide)
theorem qa_u {f : Nat → Int32} {c : Nat} {x : Int32} (h : c < 2 ^ 31) : upd f (nI c).toNatClampNeg x = upd f c x := by rw [nI_clamp h]
theorem qa_half {m : Nat} (h : m < 2 ^ 31) : nI m >>> ((1 : Int32) &&& 31) = nI (m / 2) := by
  have := pk_shrN h ((1 : Int32) &&& 31) 1 (by decide)
  rw [this]
/-- a branch over an Int32 that is nI of something or outside -/
theorem qa_cs (x : Int32) {n : Nat} (hn : n < 2 ^ 31) : (∃ j : Nat, j < n ∧ x = nI j) ∨ (x < 0 ∨ (¬ x < 0 ∧ ¬ x < nI n)) := by
  by_cases h : x < 0
  · exact Or.inr (Or.inl h)
  · obtain ⟨j, hj, rfl⟩ := nI_of h
    by_cases h2 : j < n
    · exact Or.inl ⟨j, h2, rfl⟩
    · exact Or.inr (Or.inr ⟨h, nI_nlt (by omega) hj⟩)
end QA
end
section
section QL
/-! the history: entries, their order, the value of a line at a time -/
abbrev ql_E : Type := Int32 × Int32 × Int32 × Int32 × Int32 × Int32
def ql_s (x : ql_E) : Int := x.1.toInt
def ql_t (x : ql_E) : Int := x.2.2.2.2.2.toInt
def ql_lt (x y : ql_E) : Prop := ql_t x < ql_t y ∨ (ql_t x = ql_t y ∧ ql_s x < ql_s y)
def ql_ltb (x y : ql_E) : Bool := decide (ql_t x < ql_t y) || (decide (ql_t x = ql_t y) && decide (ql_s x < ql_s y))
theorem ql_ltb_iff {x y : ql_E} : ql_ltb x y = true ↔ ql_lt x y := by simp [ql_ltb, ql_lt]
theorem ql_irr {x : ql_E} : ¬ ql_lt x x := by unfold ql_lt; omega
theorem ql_asy {x y : ql_E} (h : ql_lt x y) : ¬ ql_lt y x := by unfold ql_lt at *; omega
def ql_hit (a : Nat) (t : Int) (x : ql_E) : Bool := decide (x.2.2.1 = 2) && (decide (x.2.2.2.1 = nI a) && decide (ql_t x ≤ t))
theorem ql_hit_iff {a : Nat} {t : Int} {x : ql_E} : ql_hit a t x = true ↔ x.2.2.1 = 2 ∧ x.2.2.2.1 = nI a ∧ ql_t x ≤ t := by simp [ql_hit]
def ql_V (l : List ql_E) (d : Int32) (a : Nat) (t : Int) : Int32 := l.foldl (fun acc x => if ql_hit a t x = true then x.2.2.2.2.1 else acc) d
theorem ql_V_app (l1 l2 : List ql_E) (d : Int32) (a : Nat) (t : Int) : ql_V (l1 ++ l2) d a t = ql_V l2 (ql_V l1 d a t) a t := List.foldl_append
theorem ql_V_cons (x : ql_E) (l : List ql_E) (d : Int32) (a : Nat) (t : Int) : ql_V (x :: l) d a t = ql_V l (if ql_hit a t x = true then x.2.2.2.2.1 else d) a t := rfl
theorem ql_V_no {l : List ql_E} {d : Int32} {a : Nat} {t : Int} (h : ∀ x, x ∈ l → ¬ ql_hit a t x = true) : ql_V l d a t = d := by
  induction l generalizing d with
  | nil => rfl
  | cons x l ih => rw [ql_V_cons, if_neg (h x (by simp)), ih (fun y hy => h y (by simp [hy]))]
theorem ql_V_cg {l : List ql_E} {d : Int32} {a : Nat} {t t' : Int} (h : ∀ x, x ∈ l → ql_hit a t x = ql_hit a t' x) : ql_V l d a t = ql_V l d a t' := by
  induction l generalizing d with
  | nil => rfl
  | cons x l ih => rw [ql_V_cons, ql_V_cons, h x (by simp), ih (fun y hy => h y (by simp [hy]))]
theorem ql_V_max {l : List ql_E} {d : Int32} {a : Nat} {t : Int} {x : ql_E} (hs : l.Pairwise ql_lt) (hx : x ∈ l) (hh : ql_hit a t x = true) (hm : ∀ y, y ∈ l → ql_hit a t y = true → y = x ∨ ql_lt y x) : ql_V l d a t = x.2.2.2.2.1 := by
  obtain ⟨l1, l2, rfl⟩ := List.append_of_mem hx
  rw [ql_V_app, ql_V_cons, if_pos hh]
  apply ql_V_no
  intro y hy hc
  have h2 := (List.pairwise_cons.mp (List.pairwise_append.mp hs).2.1).1 y hy
  rcases hm y (by simp [hy]) hc with e | e
  · rw [e] at h2; exact ql_irr h2
  · exact ql_asy h2 e
theorem ql_cnt {l1 l2 : List ql_E} {x : ql_E} (hs : (l1 ++ x :: l2).Pairwise ql_lt) : (l1 ++ x :: l2).countP (fun y => ql_ltb y x) = l1.length := by
  rw [List.countP_append]
  have h := List.pairwise_append.mp hs
  have h1 : l1.countP (fun y => ql_ltb y x) = l1.length := List.countP_eq_length.mpr (fun y hy => ql_ltb_iff.mpr (h.2.2 y hy x (by simp)))
  have h2 : (x :: l2).countP (fun y => ql_ltb y x) = 0 := List.countP_eq_zero.mpr (fun y hy hc => by
    have hc := ql_ltb_iff.mp hc
    rcases List.mem_cons.mp hy with e | e
    · rw [e] at hc; exact ql_irr hc
    · exact ql_asy hc ((List.pairwise_cons.mp h.2.1).1 y e))
  omega
/-- the list of the first n values of a function -/
def ql_L (f : Nat → ql_E) : Nat → List ql_E
  | 0 => []
  | n + 1 => ql_L f n ++ [f n]
theorem ql_L_s (f : Nat → ql_E) (n : Nat) : ql_L f (n + 1) = ql_L f n ++ [f n] := rfl
theorem ql_L_mem {f : Nat → ql_E} {n : Nat} {x : ql_E} : x ∈ ql_L f n ↔ ∃ k, k < n ∧ x = f k := by
  induction n with
  | zero => exact ⟨fun h => by simp [ql_L] at h, fun ⟨k, hk, _⟩ => by omega⟩
  | succ n ih =>
    rw [ql_L_s, List.mem_append, ih, List.mem_singleton]
    constructor
    · intro h
      rcases h with ⟨k, hk, e⟩ | e
      · exact ⟨k, by omega, e⟩
      · exact ⟨n, by omega, e⟩
    · intro ⟨k, hk, e⟩
      by_cases h : k = n
      · exact Or.inr (by rw [e, h])
      · exact Or.inl ⟨k, by omega, e⟩
theorem ql_L_in {f : Nat → ql_E} {n k : Nat} (h : k < n) : f k ∈ ql_L f n := ql_L_mem.mpr ⟨k, h, rfl⟩
theorem ql_L_len (f : Nat → ql_E) (n : Nat) : (ql_L f n).length = n := by
  induction n with
  | zero => rfl
  | succ n ih => rw [ql_L_s, List.length_append, ih]; rfl
theorem ql_L_add (f : Nat → ql_E) (m n : Nat) : ql_L f (m + n) = ql_L f m ++ ql_L (fun k => f (m + k)) n := by
  induction n with
  | zero => simp [ql_L]
  | succ n ih =>
    show ql_L f (m + n) ++ [f (m + n)] = _
    rw [ih, ql_L_s, List.append_assoc]
theorem ql_L_cg {f g : Nat → ql_E} {n : Nat} (h : ∀ k, k < n → f k = g k) : ql_L f n = ql_L g n := by
  induction n with
  | zero => rfl
  | succ n ih => rw [ql_L_s, ql_L_s, ih (fun k hk => h k (by omega)), h n (by omega)]
theorem ql_L_split (f : Nat → ql_E) {n c : Nat} (h : c ≤ n) : ql_L f n = ql_L f c ++ ql_L (fun k => f (c + k)) (n - c) := by
  obtain ⟨m, rfl⟩ : ∃ m, n = c + m := ⟨n - c, by omega⟩
  rw [ql_L_add, Nat.add_sub_cancel_left]
theorem ql_L_at (f : Nat → ql_E) {n k : Nat} (h : k < n) : ql_L f n = ql_L f k ++ f k :: ql_L (fun j => f (k + 1 + j)) (n - (k + 1)) := by
  rw [ql_L_split f (show k + 1 ≤ n by omega), ql_L_s, List.append_assoc]
  rfl
theorem ql_L_pw {f : Nat → ql_E} {n : Nat} : (∀ i j, i < j → j < n → ql_lt (f i) (f j)) → (ql_L f n).Pairwise ql_lt := by
  induction n with
  | zero => intro _; exact List.Pairwise.nil
  | succ n ih =>
    intro h
    rw [ql_L_s, List.pairwise_append]
    refine ⟨ih (fun i j hi hj => h i j hi (by omega)), by simp, ?_⟩
    intro x hx y hy
    obtain ⟨k, hk, rfl⟩ := ql_L_mem.mp hx
    rw [List.mem_singleton] at hy
    rw [hy]
    exact h k n hk (by omega)
theorem ql_ins {f f' : Nat → ql_E} {x : ql_E} {c e : Nat} (hc : c ≤ e) (h1 : ∀ k, k < c → f' k = f k) (h2 : f' c = x) (h3 : ∀ k, c ≤ k → k < e → f' (k + 1) = f k) : ql_L f' (e + 1) = ql_L f c ++ x :: ql_L (fun k => f (c + k)) (e - c) := by
  rw [ql_L_at f' (show c < e + 1 by omega), h2, ql_L_cg h1, show e + 1 - (c + 1) = e - c by omega]
  congr 2
  apply ql_L_cg
  intro k hk
  rw [show c + 1 + k = (c + k) + 1 by omega]
  exact h3 _ (by omega) (by omega)
theorem ql_ins_perm {f f' fy fy' : Nat → ql_E} {x : ql_E} {c e : Nat} (hc : c ≤ e) (h1 : ∀ k, k < c → f' k = f k) (h2 : f' c = x) (h3 : ∀ k, c ≤ k → k < e → f' (k + 1) = f k) (hy : ∀ k, k < e → fy' k = fy k) (hy2 : fy' e = x) (hp : (ql_L f e).Perm (ql_L fy e)) : (ql_L f' (e + 1)).Perm (ql_L fy' (e + 1)) := by
  rw [ql_ins hc h1 h2 h3, ql_L_s fy', ql_L_cg hy, hy2]
  refine List.Perm.trans List.perm_middle ?_
  rw [← ql_L_split f hc]
  exact List.Perm.trans (List.Perm.cons x hp) (List.perm_append_singleton x _).symm
theorem ql_cut {T : Nat → Int} {t : Int} : ∀ e : Nat, (∀ i j, i < j → j < e → T i ≤ T j) → ∃ c, c ≤ e ∧ ∀ k, k < e → (T k ≤ t ↔ k < c) := by
  intro e
  induction e with
  | zero => intro _; exact ⟨0, by omega, fun k hk => by omega⟩
  | succ e ih =>
    intro h
    by_cases ht : T e ≤ t
    · refine ⟨e + 1, by omega, fun k hk => ⟨fun _ => hk, fun _ => ?_⟩⟩
      by_cases hk2 : k = e
      · rw [hk2]; exact ht
      · have := h k e (by omega) (by omega); omega
    · obtain ⟨c, hc, hh⟩ := ih (fun i j hi hj => h i j hi (by omega))
      refine ⟨c, by omega, fun k hk => ?_⟩
      by_cases hk2 : k = e
      · rw [hk2]; exact ⟨fun z => absurd z ht, fun z => by omega⟩
      · exact hh k (by omega)
/-- a store behind all stores of its line -/
theorem ql_V_ins {l1 l2 : List ql_E} {x : ql_E} {d : Int32} {a : Nat} {s : Int} (hn : ql_hit a s x = true → ∀ y, y ∈ l2 → ¬ ql_hit a s y = true) : ql_V (l1 ++ x :: l2) d a s = if ql_hit a s x = true then x.2.2.2.2.1 else ql_V (l1 ++ l2) d a s := by
  rw [ql_V_app, ql_V_cons]
  by_cases h : ql_hit a s x = true
  · rw [if_pos h, if_pos h, ql_V_no (hn h)]
  · rw [if_neg h, if_neg h, ql_V_app]
end QL
end
section
section QP
/-! the relation's parts -/
def ql_en (lS lC lK lL lV lT : Nat → Int32) (j : Nat) : ql_E := (lS j, lC j, lK j, lL j, lV j, lT j)
def ql_p (h : Nat) (rg : Nat → Int32) (k : Nat) : Nat := (rg ((h + k) % 32)).toNatClampNeg
def ql_x (h : Nat) (rg lS lC lK lL lV lT : Nat → Int32) (k : Nat) : ql_E := ql_en lS lC lK lL lV lT (ql_p h rg k)
def qp_V (h e : Nat) (rg lS lC lK lL lV lT im : Nat → Int32) (a : Nat) (t : Int) : Int32 := ql_V (ql_L (ql_x h rg lS lC lK lL lV lT) e) (im a) a t
def qp_A (C N : Nat) (ls : Int32) : Prop := 2 ≤ C ∧ C ≤ 4 ∧ 2 ≤ N ∧ N ≤ 8 ∧ 1 ≤ ls.toInt ∧ ls.toInt ≤ 12
def qp_T (C N k : Nat) (g : Int32) (cf ck wr ld : Nat → Int32) : Prop :=
  (0 ≤ g.toInt ∧ g.toInt + 16 ≤ 4 * k) ∧
  (∀ c, c < C → 0 ≤ (cf c).toInt ∧ (cf c).toInt ≤ g.toInt ∧ g.toInt ≤ (cf c).toInt + 16) ∧
  (∀ c, c < C → (cf c).toInt ≤ (ck c).toInt ∧ ∀ d, d < C → (ck c).toInt ≤ (cf d).toInt + 31) ∧
  (∀ a, a < N → g.toInt ≤ (wr a).toInt ∧ (wr a).toInt ≤ (ld a).toInt ∧ ∀ d, d < C → (ld a).toInt ≤ (cf d).toInt + 31)
def qp_P (C N : Nat) (st kd tg : Nat → Int32) : Prop := ∀ c, c < C →
  (st c = 0 ∧ kd c = 0 ∧ tg c = -1) ∨ (∃ a, a < N ∧ tg c = nI a ∧ (((st c = 1 ∨ st c = 2 ∨ st c = 4) ∧ (kd c = 1 ∨ kd c = 2)) ∨ (st c = 3 ∧ (kd c = 1 ∨ kd c = 2 ∨ kd c = 3))))
def qp_cnt (kd : Nat → Int32) : Nat → Nat
  | 0 => 0
  | n + 1 => qp_cnt kd n + (if kd n = 1 ∨ kd n = 2 then 1 else 0)
def qp_Q (C e : Nat) (kd : Nat → Int32) : Prop := e + qp_cnt kd C ≤ 32
def qp_S (C N : Nat) (g : Int32) (cf sa fr un bf bu da ld : Nat → Int32) (V : Nat → Int → Int32) : Prop := ∀ c, c < C → ∀ a, a < N →
  (sa (c * 8 + a) = 0 ∨ sa (c * 8 + a) = 1 ∨ sa (c * 8 + a) = 2) ∧
  (sa (c * 8 + a) = 0 → fr (c * 8 + a) = 0 ∧ un (c * 8 + a) = 0) ∧
  (sa (c * 8 + a) = 1 → bf (c * 8 + a) = fr (c * 8 + a) ∧ bu (c * 8 + a) = un (c * 8 + a) ∧ 0 ≤ (fr (c * 8 + a)).toInt ∧ (fr (c * 8 + a)).toInt ≤ (un (c * 8 + a)).toInt ∧ (un (c * 8 + a)).toInt ≤ (ld a).toInt ∧ (cf c = g → g.toInt ≤ (fr (c * 8 + a)).toInt) ∧ ∀ t : Int, (fr (c * 8 + a)).toInt ≤ t → t ≤ (un (c * 8 + a)).toInt → da (c * 8 + a) = V a t)
def qp_mv (st kd tg : Nat → Int32) (c a : Nat) : Prop := tg c = nI a ∧ (st c = 2 ∨ st c = 3 ∨ (st c = 4 ∧ kd c = 2))
def qp_M1 (C a : Nat) (st kd tg ow sa cr da me wr ld cf : Nat → Int32) (V : Nat → Int → Int32) : Prop :=
  (ow a = -1 → me a = V a (wr a).toInt ∧ ∀ c, c < C → ¬ qp_mv st kd tg c a) ∧
  (ow a = -1 ∨ ∃ o, o < C ∧ ow a = nI o ∧ (sa (o * 8 + a) = 2 ∨ ∃ c, c < C ∧ tg c = nI a ∧ (st c = 3 ∨ (st c = 4 ∧ kd c = 2)))) ∧
  (∀ c d, c < C → d < C → qp_mv st kd tg c a → qp_mv st kd tg d a → c = d) ∧
  (∀ c, c < C → tg c = nI a → sa (c * 8 + a) ≠ 2 ∧
    (st c = 2 → ∃ o, o < C ∧ ow a = nI o ∧ sa (o * 8 + a) = 2) ∧
    (st c = 3 → cr c = V a (wr a).toInt ∧ ∀ d, d < C → sa (d * 8 + a) ≠ 2) ∧
    (st c = 4 → kd c = 2 → ow a = nI c ∧ (∀ d, d < C → sa (d * 8 + a) ≠ 2) ∧ ∀ d, d < C → (ld a).toInt < (cf d).toInt + 31)) ∧
  (∀ c, c < C → sa (c * 8 + a) = 2 → ow a = nI c ∧ da (c * 8 + a) = V a (wr a).toInt)
def qp_M (C N : Nat) (st kd tg ow sa cr da me wr ld cf : Nat → Int32) (V : Nat → Int → Int32) : Prop := ∀ a, a < N → qp_M1 C a st kd tg ow sa cr da me wr ld cf V
def qp_G (C N : Nat) (g : Int32) (cf ck st kd tg gF gU cr ld : Nat → Int32) (V : Nat → Int → Int32) : Prop := ∀ c, c < C → ∀ a, a < N →
  tg c = nI a → st c = 4 → kd c = 1 → 0 ≤ (gF c).toInt ∧ (gF c).toInt ≤ (gU c).toInt ∧ (gU c).toInt ≤ (ld a).toInt ∧ (ck c).toInt ≤ (gU c).toInt ∧ (cf c = g → g.toInt ≤ (gF c).toInt) ∧ ∀ t : Int, (gF c).toInt ≤ t → t ≤ (gU c).toInt → cr c = V a t
def qp_R (h : Nat) (rg : Nat → Int32) : Prop := h < 32 ∧ (∀ i, i < 32 → (rg i).toNatClampNeg < 32 ∧ rg i = nI (rg i).toNatClampNeg) ∧ (∀ i j, i < 32 → j < 32 → (rg i).toNatClampNeg = (rg j).toNatClampNeg → i = j)
def qp_L (N k h e : Nat) (sp : Int32) (rg lS lC lK lL lV lT mS mC mK mL mV mT wr : Nat → Int32) : Prop :=
  e ≤ 32 ∧ (0 ≤ sp.toInt ∧ sp.toInt ≤ k) ∧ qp_R h rg ∧
  (ql_L (ql_x h rg lS lC lK lL lV lT) e).Perm (ql_L (ql_en mS mC mK mL mV mT) e) ∧
  (∀ i j, i < j → j < e → ql_lt (ql_x h rg lS lC lK lL lV lT i) (ql_x h rg lS lC lK lL lV lT j)) ∧
  (∀ i, i < e → ql_s (ql_x h rg lS lC lK lL lV lT i) ≤ sp.toInt ∧ ∃ a, a < N ∧ (ql_x h rg lS lC lK lL lV lT i).2.2.2.1 = nI a ∧ ((ql_x h rg lS lC lK lL lV lT i).2.2.1 = 2 → ql_t (ql_x h rg lS lC lK lL lV lT i) ≤ (wr a).toInt))
theorem qp_pos {h : Nat} {rg : Nat → Int32} (R : qp_R h rg) {i j : Nat} (hi : i < 32) (hj : j < 32) (e : ql_p h rg i = ql_p h rg j) : i = j := by
  have hh := R.1
  have := R.2.2 ((h + i) % 32) ((h + j) % 32) (Nat.mod_lt _ (by omega)) (Nat.mod_lt _ (by omega)) e
  omega
theorem qp_plt {h : Nat} {rg : Nat → Int32} (R : qp_R h rg) (i : Nat) : ql_p h rg i < 32 := (R.2.1 _ (Nat.mod_lt _ (by omega))).1
theorem qp_peq {h : Nat} {rg : Nat → Int32} (R : qp_R h rg) (i : Nat) : rg ((h + i) % 32) = nI (ql_p h rg i) := (R.2.1 _ (Nat.mod_lt _ (by omega))).2
/-- where the slots stand after an insertion at place c -/
def qp_ip (h e c : Nat) (rg rg' : Nat → Int32) : Prop := ∀ k, k < 32 → rg' ((h + k) % 32) = (if k < c then rg ((h + k) % 32) else if k = c then rg ((h + e) % 32) else if k ≤ e then rg ((h + (k - 1)) % 32) else rg ((h + k) % 32))
theorem qp_ip_p {h e c : Nat} {rg rg' : Nat → Int32} (H : qp_ip h e c rg rg') {k : Nat} (hk : k < 32) : ql_p h rg' k = (if k < c then ql_p h rg k else if k = c then ql_p h rg e else if k ≤ e then ql_p h rg (k - 1) else ql_p h rg k) := by
  unfold ql_p
  rw [H k hk]
  split
  · rfl
  · split
    · rfl
    · split <;> rfl
theorem qp_ip_R {h e c : Nat} {rg rg' : Nat → Int32} (he : e < 32) (hc : c ≤ e) (H : qp_ip h e c rg rg') (R : qp_R h rg) : qp_R h rg' := by
  have hh := R.1
  have key : ∀ i, i < 32 → ∃ k, k < 32 ∧ i = (h + k) % 32 := fun i hi => ⟨(i + 32 - h) % 32, by omega, by omega⟩
  refine ⟨hh, ?_, ?_⟩
  · intro i hi
    obtain ⟨k, hk, rfl⟩ := key i hi
    rw [H k hk]
    split
    · exact R.2.1 _ (by omega)
    · split
      · exact R.2.1 _ (by omega)
      · split <;> exact R.2.1 _ (by omega)
  · intro i j hi hj heq
    obtain ⟨k, hk, rfl⟩ := key i hi
    obtain ⟨l, hl, rfl⟩ := key j hj
    have heq : ql_p h rg' k = ql_p h rg' l := heq
    rw [qp_ip_p H hk, qp_ip_p H hl] at heq
    have : k = l := by
      have A : ∀ i j, i < 32 → j < 32 → ql_p h rg i = ql_p h rg j → i = j := fun i j hi hj => qp_pos R hi hj
      split at heq <;> split at heq <;> (try split at heq) <;> (try split at heq) <;> (try split at heq) <;> (try split at heq) <;> (have := A _ _ (by omega) (by omega) heq; omega)
    rw [this]
end QP
end
section
section QPA
theorem ql_en_u {lS lC lK lL lV lT : Nat → Int32} {z j : Nat} {a1 a2 a3 a4 a5 a6 : Int32} (h : j ≠ z) : ql_en (upd lS z a1) (upd lC z a2) (upd lK z a3) (upd lL z a4) (upd lV z a5) (upd lT z a6) j = ql_en lS lC lK lL lV lT j := by
  unfold ql_en
  rw [pk_un h, pk_un h, pk_un h, pk_un h, pk_un h, pk_un h]
theorem ql_en_s {lS lC lK lL lV lT : Nat → Int32} {z : Nat} {a1 a2 a3 a4 a5 a6 : Int32} : ql_en (upd lS z a1) (upd lC z a2) (upd lK z a3) (upd lL z a4) (upd lV z a5) (upd lT z a6) z = (a1, a2, a3, a4, a5, a6) := by
  unfold ql_en
  rw [pk_us, pk_us, pk_us, pk_us, pk_us, pk_us]
theorem qp_addL {N k h e c a : Nat} {sp kk cc v t : Int32} {rg rg' lS lC lK lL lV lT mS mC mK mL mV mT wr wr' : Nat → Int32} (L : (qp_L N k h e sp rg lS lC lK lL lV lT mS mC mK mL mV mT wr)) (hk : k ≤ 2052) (he : e < 32) (hN : N ≤ 8) (hc : c ≤ e) (H : qp_ip h e c rg rg') (hcut : ∀ i, i < e → (ql_t ((ql_x h rg lS lC lK lL lV lT) i) ≤ t.toInt ↔ i < c)) (ha : a < N) (hw : ∀ b, b < N → (wr b).toInt ≤ (wr' b).toInt) (h2 : kk = 2 → t.toInt ≤ (wr' a).toInt ∧ (wr a).toInt < t.toInt) :
    (qp_L N (k + 4) h (e + 1) (sp + 1) rg' (upd lS (ql_p h rg e) (sp + 1)) (upd lC (ql_p h rg e) cc) (upd lK (ql_p h rg e) kk) (upd lL (ql_p h rg e) (nI a)) (upd lV (ql_p h rg e) v) (upd lT (ql_p h rg e) t) (upd mS e (sp + 1)) (upd mC e cc) (upd mK e kk) (upd mL e (nI a)) (upd mV e v) (upd mT e t) wr') ∧
    ∀ im : Nat → Int32, ∀ b, b < N → ∀ s : Int, (qp_V h (e + 1) rg' (upd lS (ql_p h rg e) (sp + 1)) (upd lC (ql_p h rg e) cc) (upd lK (ql_p h rg e) kk) (upd lL (ql_p h rg e) (nI a)) (upd lV (ql_p h rg e) v) (upd lT (ql_p h rg e) t) im) b s = (if kk = 2 ∧ b = a ∧ t.toInt ≤ s then v else (qp_V h e rg lS lC lK lL lV lT im) b s) := by
  obtain ⟨he32, ⟨hsp0, hspk⟩, R, hperm, hsort, hall⟩ := L
  have hsp : (sp + 1).toInt = sp.toInt + 1 := by
    rw [qa_add (by rw [qa_1]; omega) (by rw [qa_1]; omega), qa_1]
  have hf1 : ∀ i, i < c → (ql_x h rg' (upd lS (ql_p h rg e) (sp + 1)) (upd lC (ql_p h rg e) cc) (upd lK (ql_p h rg e) kk) (upd lL (ql_p h rg e) (nI a)) (upd lV (ql_p h rg e) v) (upd lT (ql_p h rg e) t)) i = (ql_x h rg lS lC lK lL lV lT) i := by
    intro i hi
    unfold ql_x
    rw [qp_ip_p H (show i < 32 by omega), if_pos hi]
    apply ql_en_u
    intro z
    have := qp_pos R (show i < 32 by omega) he z
    omega
  have hf2 : (ql_x h rg' (upd lS (ql_p h rg e) (sp + 1)) (upd lC (ql_p h rg e) cc) (upd lK (ql_p h rg e) kk) (upd lL (ql_p h rg e) (nI a)) (upd lV (ql_p h rg e) v) (upd lT (ql_p h rg e) t)) c = (sp + 1, cc, kk, nI a, v, t) := by
    unfold ql_x
    rw [qp_ip_p H (show c < 32 by omega), if_neg (by omega), if_pos rfl]
    exact ql_en_s
  have hf3 : ∀ i, c ≤ i → i < e → (ql_x h rg' (upd lS (ql_p h rg e) (sp + 1)) (upd lC (ql_p h rg e) cc) (upd lK (ql_p h rg e) kk) (upd lL (ql_p h rg e) (nI a)) (upd lV (ql_p h rg e) v) (upd lT (ql_p h rg e) t)) (i + 1) = (ql_x h rg lS lC lK lL lV lT) i := by
    intro i hi hie
    unfold ql_x
    rw [qp_ip_p H (show i + 1 < 32 by omega), if_neg (by omega), if_neg (by omega), if_pos (by omega), Nat.add_sub_cancel]
    apply ql_en_u
    intro z
    have := qp_pos R (show i < 32 by omega) he z
    omega
  have hx1 : ql_t (sp + 1, cc, kk, nI a, v, t) = t.toInt := rfl
  have hx2 : ql_s (sp + 1, cc, kk, nI a, v, t) = sp.toInt + 1 := hsp
  unfold qp_V qp_L
  revert hf1 hf2 hf3 hcut hperm hsort hall
  generalize (ql_x h rg' (upd lS (ql_p h rg e) (sp + 1)) (upd lC (ql_p h rg e) cc) (upd lK (ql_p h rg e) kk) (upd lL (ql_p h rg e) (nI a)) (upd lV (ql_p h rg e) v) (upd lT (ql_p h rg e) t)) = f'
  generalize (ql_x h rg lS lC lK lL lV lT) = f
  intro hcut hperm hsort hall hf1 hf2 hf3
  refine ⟨⟨by omega, ⟨by omega, by omega⟩, qp_ip_R he hc H R, ?_, ?_, ?_⟩, ?_⟩
  · exact ql_ins_perm hc hf1 hf2 hf3 (fun i hi => ql_en_u (by omega)) ql_en_s hperm
  · intro i j hij hj
    by_cases hjc : j < c
    · rw [hf1 i (by omega), hf1 j hjc]; exact hsort i j hij (by omega)
    · by_cases hjc2 : j = c
      · rw [hjc2, hf2, hf1 i (by omega)]
        have h1 := (hcut i (by omega)).mpr (by omega)
        have h3 := (hall i (by omega)).1
        unfold ql_lt; omega
      · obtain ⟨j', rfl⟩ : ∃ j', j = j' + 1 := ⟨j - 1, by omega⟩
        rw [hf3 j' (by omega) (by omega)]
        by_cases hic : i < c
        · rw [hf1 i hic]; exact hsort i j' (by omega) (by omega)
        · by_cases hic2 : i = c
          · rw [hic2, hf2]
            have h1 : ¬ ql_t (f j') ≤ t.toInt := fun z => by have := (hcut j' (by omega)).mp z; omega
            unfold ql_lt; omega
          · obtain ⟨i', rfl⟩ : ∃ i', i = i' + 1 := ⟨i - 1, by omega⟩
            rw [hf3 i' (by omega) (by omega)]; exact hsort i' j' (by omega) (by omega)
  · have old : ∀ i, i < e → ql_s (f i) ≤ (sp + 1).toInt ∧ ∃ a, a < N ∧ (f i).2.2.2.1 = nI a ∧ ((f i).2.2.1 = 2 → ql_t (f i) ≤ (wr' a).toInt) := by
      intro i hi
      obtain ⟨h1, b, hb, h3, h4⟩ := hall i hi
      refine ⟨by omega, b, hb, h3, fun z => ?_⟩
      have := h4 z
      have := hw b hb
      omega
    intro i hi
    by_cases hic : i < c
    · rw [hf1 i hic]; exact old i (by omega)
    · by_cases hic2 : i = c
      · rw [hic2, hf2]
        exact ⟨by rw [hx2, hsp]; omega, a, ha, rfl, fun z => (h2 z).1⟩
      · obtain ⟨i', rfl⟩ : ∃ i', i = i' + 1 := ⟨i - 1, by omega⟩
        rw [hf3 i' (by omega) (by omega)]
        exact old i' (by omega)
  · intro im b hb s
    rw [ql_ins hc hf1 hf2 hf3, ql_V_ins, ← ql_L_split f hc]
    · have hi : ql_hit b s (sp + 1, cc, kk, nI a, v, t) = true ↔ (kk = 2 ∧ b = a ∧ t.toInt ≤ s) := by
        rw [ql_hit_iff]
        show kk = 2 ∧ nI a = nI b ∧ t.toInt ≤ s ↔ _
        rw [nI_eq (show a < 2 ^ 31 by omega) (show b < 2 ^ 31 by omega)]
        constructor
        · intro ⟨h1, h3, h4⟩; exact ⟨h1, h3.symm, h4⟩
        · intro ⟨h1, h3, h4⟩; exact ⟨h1, h3.symm, h4⟩
      by_cases hq : kk = 2 ∧ b = a ∧ t.toInt ≤ s
      · rw [if_pos hq, if_pos (hi.mpr hq)]
      · rw [if_neg hq, if_neg (fun z => hq (hi.mp z))]
    · intro hx y hy hyh
      obtain ⟨h1, h3, h4⟩ := ql_hit_iff.mp hx
      obtain ⟨h5, h6, h7⟩ := ql_hit_iff.mp hyh
      obtain ⟨i, hi, rfl⟩ := ql_L_mem.mp hy
      obtain ⟨_, b', hb', h8, h9⟩ := hall (c + i) (by omega)
      have e1 : b' = b := qa_inj (h8.symm.trans h6) (by omega) (by omega)
      have e2 : a = b := qa_inj h3 (by omega) (by omega)
      have h10 := h9 h5
      have h11 := (h2 h1).2
      rw [e1] at h10
      rw [e2] at h11
      have h12 : ¬ ql_t (f (c + i)) ≤ t.toInt := fun z => by have := (hcut (c + i) (by omega)).mp z; omega
      omega
end QPA
end
section
section QX
/-! loop laws, arrays built by loops, small methods -/
theorem qx_scan {W : Nat → Nat → Prop} {D : Nat → Prop} {C : Nat} (hend : (∀ i, i < C → ¬ D i) → ∀ n, W (n + 1) C) (hhit : ∀ n j, j < C → D j → W (n + 1) j) (hstep : ∀ n j, j < C → ¬ D j → W n (j + 1) → W (n + 1) j) : ∃ n, W n 0 := by
  have key : ∀ d j, j + d = C → (∀ i, i < j → ¬ D i) → W (d + 1) j := by
    intro d
    induction d with
    | zero =>
      intro j hj hd
      have e : j = C := by omega
      rw [e]
      exact hend (fun i hi => hd i (by omega)) 0
    | succ d ih =>
      intro j hj hd
      by_cases hD : D j
      · exact hhit _ j (by omega) hD
      · refine hstep _ j (by omega) hD (ih (j + 1) (by omega) ?_)
        intro i hi
        by_cases hij : i = j
        · rw [hij]; exact hD
        · exact hd i (by omega)
  exact ⟨C + 1, key C 0 (by omega) (fun i hi => by omega)⟩
theorem qx_fold {σ : Type} {W : Nat → Nat → σ → Prop} (F : Nat → σ) (C : Nat) (hend : ∀ n, W (n + 1) C (F C)) (hstep : ∀ n j, j < C → W n (j + 1) (F (j + 1)) → W (n + 1) j (F j)) : ∃ n, W n 0 (F 0) := by
  have key : ∀ d j, j + d = C → W (d + 1) j (F j) := by
    intro d
    induction d with
    | zero =>
      intro j hj
      have e : j = C := by omega
      rw [e]
      exact hend 0
    | succ d ih =>
      intro j hj
      exact hstep _ j (by omega) (ih (j + 1) (by omega))
  exact ⟨C + 1, key C 0 (by omega)⟩
def qs_F (b j : Nat) (P : Nat → Bool) (v f : Nat → Int32) : Nat → Int32 := fun i => if b ≤ i ∧ i < b + j ∧ P i = true then v i else f i
theorem qs_F0 (b : Nat) (P : Nat → Bool) (v f : Nat → Int32) : qs_F b 0 P v f = f := by
  funext i
  exact if_neg (fun z => by omega)
theorem qs_FT {b j : Nat} {P : Nat → Bool} {v f : Nat → Int32} (h : P (b + j) = true) : upd (qs_F b j P v f) (b + j) (v (b + j)) = qs_F b (j + 1) P v f := by
  funext i
  unfold upd qs_F
  by_cases e : i = b + j
  · rw [if_pos e, if_pos ⟨by omega, by omega, by rw [e]; exact h⟩, e]
  · rw [if_neg e]
    by_cases z : b ≤ i ∧ i < b + j ∧ P i = true
    · rw [if_pos z, if_pos ⟨z.1, by omega, z.2.2⟩]
    · rw [if_neg z, if_neg (fun w => z ⟨w.1, by omega, w.2.2⟩)]
theorem qs_FN {b j : Nat} {P : Nat → Bool} {v f : Nat → Int32} (h : P (b + j) = false) : qs_F b j P v f = qs_F b (j + 1) P v f := by
  funext i
  unfold qs_F
  by_cases z : b ≤ i ∧ i < b + j ∧ P i = true
  · rw [if_pos z, if_pos ⟨z.1, by omega, z.2.2⟩]
  · rw [if_neg z, if_neg (fun w => z ⟨w.1, ?_, w.2.2⟩)]
    by_cases e : i = b + j
    · have := w.2.2
      rw [e, h] at this
      cases this
    · omega
theorem qs_Fr {b j : Nat} {P : Nat → Bool} {v f : Nat → Int32} : qs_F b j P v f (b + j) = f (b + j) := if_neg (fun z => by omega)
theorem qs_FP {b j i : Nat} {P : Nat → Bool} {v f : Nat → Int32} (h1 : b ≤ i) (h2 : i < b + j) (h3 : P i = true) : qs_F b j P v f i = v i := if_pos ⟨h1, h2, h3⟩
theorem qs_FO {b j i : Nat} {P : Nat → Bool} {v f : Nat → Int32} (h : i < b ∨ b + j ≤ i ∨ P i = false) : qs_F b j P v f i = f i := if_neg (fun z => by
  rcases h with h | h | h
  · omega
  · omega
  · rw [h] at z; cases z.2.2)
variable {C N h e : Nat} {wy ls sp g : Int32} {ck cf rs st kd tg vl gF gU cr sa fr un da wr ld ow im me lS lC lK lL lV lT rg bf bu mS mC mK mL mV mT : Nat → Int32}
theorem qx_max {post : Int32 → Prop} {u : SX} {a b : Int32} (hp : post (qa_mx a b)) : wpX_max post u a b := by
  unfold qa_mx at hp
  by_cases h : a ≤ b
  · rw [if_pos h] at hp; exact br_t h hp
  · rw [if_neg h] at hp; exact br_f h hp
theorem qy_max {post : Int32 → Prop} {u : SY} {a b : Int32} (hp : post (qa_mx a b)) : wpY_max post u a b := by
  unfold qa_mx at hp
  by_cases h : a ≤ b
  · rw [if_pos h] at hp; exact br_t h hp
  · rw [if_neg h] at hp; exact br_f h hp
theorem qx_bcT {post : Int32 → Prop} {x : Int32} (hb : x < 0 ∨ (¬ x < 0 ∧ ¬ x < nI C)) (hp : post 1) : wpX_isBadCore post ((nI C), (nI N), wy, ls, (nI h), (nI e), sp, g, ck, cf, rs, st, kd, tg, vl, gF, gU, cr, sa, fr, un, da, wr, ld, ow, im, me, lS, lC, lK, lL, lV, lT, rg) x := by
  rcases hb with h | ⟨h1, h2⟩
  · exact br_t h hp
  · exact br_f h1 (br_f h2 hp)
theorem qx_bcF {post : Int32 → Prop} {c : Nat} (hc : c < C) (hC : C ≤ 4) (hp : post 0) : wpX_isBadCore post ((nI C), (nI N), wy, ls, (nI h), (nI e), sp, g, ck, cf, rs, st, kd, tg, vl, gF, gU, cr, sa, fr, un, da, wr, ld, ow, im, me, lS, lC, lK, lL, lV, lT, rg) (nI c) := br_f (nI_pos (by omega)) (br_t (nI_lt hc (by omega)) hp)
theorem qx_blT {post : Int32 → Prop} {x : Int32} (hb : x < 0 ∨ (¬ x < 0 ∧ ¬ x < nI N)) (hp : post 1) : wpX_isBadLine post ((nI C), (nI N), wy, ls, (nI h), (nI e), sp, g, ck, cf, rs, st, kd, tg, vl, gF, gU, cr, sa, fr, un, da, wr, ld, ow, im, me, lS, lC, lK, lL, lV, lT, rg) x := by
  rcases hb with h | ⟨h1, h2⟩
  · exact br_t h hp
  · exact br_f h1 (br_f h2 hp)
theorem qx_blF {post : Int32 → Prop} {a : Nat} (ha : a < N) (hN : N ≤ 8) (hp : post 0) : wpX_isBadLine post ((nI C), (nI N), wy, ls, (nI h), (nI e), sp, g, ck, cf, rs, st, kd, tg, vl, gF, gU, cr, sa, fr, un, da, wr, ld, ow, im, me, lS, lC, lK, lL, lV, lT, rg) (nI a) := br_f (nI_pos (by omega)) (br_t (nI_lt ha (by omega)) hp)
theorem qy_bcT {post : Int32 → Prop} {x : Int32} (hb : x < 0 ∨ (¬ x < 0 ∧ ¬ x < nI C)) (hp : post 1) : wpY_badCore post ((nI C), (nI N), wy, ls, g, sp, (nI e), ck, cf, rs, st, kd, tg, vl, gF, gU, wr, ld, ow, im, sa, bf, bu, mS, mC, mK, mL, mV, mT) x := by
  rcases hb with h | ⟨h1, h2⟩
  · exact br_t h hp
  · exact br_f h1 (br_f h2 hp)
theorem qy_bcF {post : Int32 → Prop} {c : Nat} (hc : c < C) (hC : C ≤ 4) (hp : post 0) : wpY_badCore post ((nI C), (nI N), wy, ls, g, sp, (nI e), ck, cf, rs, st, kd, tg, vl, gF, gU, wr, ld, ow, im, sa, bf, bu, mS, mC, mK, mL, mV, mT) (nI c) := br_f (nI_pos (by omega)) (br_t (nI_lt hc (by omega)) hp)
theorem qy_blT {post : Int32 → Prop} {x : Int32} (hb : x < 0 ∨ (¬ x < 0 ∧ ¬ x < nI N)) (hp : post 1) : wpY_badLine post ((nI C), (nI N), wy, ls, g, sp, (nI e), ck, cf, rs, st, kd, tg, vl, gF, gU, wr, ld, ow, im, sa, bf, bu, mS, mC, mK, mL, mV, mT) x := by
  rcases hb with h | ⟨h1, h2⟩
  · exact br_t h hp
  · exact br_f h1 (br_f h2 hp)
theorem qy_blF {post : Int32 → Prop} {a : Nat} (ha : a < N) (hN : N ≤ 8) (hp : post 0) : wpY_badLine post ((nI C), (nI N), wy, ls, g, sp, (nI e), ck, cf, rs, st, kd, tg, vl, gF, gU, wr, ld, ow, im, sa, bf, bu, mS, mC, mK, mL, mV, mT) (nI a) := br_f (nI_pos (by omega)) (br_t (nI_lt ha (by omega)) hp)
/-! the limit -/
def qx_lim (cf : Nat → Int32) : Nat → Int32
  | 0 => cf 0
  | n + 1 => if qx_lim cf n ≤ cf (n + 1) then qx_lim cf n else cf (n + 1)
theorem qx_lim_s (cf : Nat → Int32) (n : Nat) : qx_lim cf (n + 1) = if qx_lim cf n ≤ cf (n + 1) then qx_lim cf n else cf (n + 1) := rfl
def qx_LM (cf : Nat → Int32) (C : Nat) : Int32 := qx_lim cf (C - 1) + 31
theorem qx_limF (cf : Nat → Int32) : ∀ n : Nat, (∀ c, c ≤ n → (qx_lim cf n).toInt ≤ (cf c).toInt) ∧ ∃ c, c ≤ n ∧ qx_lim cf n = cf c := by
  intro n
  induction n with
  | zero =>
    refine ⟨fun c hc => ?_, 0, by omega, rfl⟩
    have : c = 0 := by omega
    rw [this]
    exact Int.le_refl _
  | succ n ih =>
    obtain ⟨h1, c, hc, h2⟩ := ih
    rw [qx_lim_s]
    by_cases hb : qx_lim cf n ≤ cf (n + 1)
    · rw [if_pos hb]
      refine ⟨fun d hd => ?_, c, by omega, h2⟩
      by_cases e : d = n + 1
      · rw [e]; exact qa_le.mp hb
      · exact h1 d (by omega)
    · rw [if_neg hb]
      refine ⟨fun d hd => ?_, n + 1, by omega, rfl⟩
      rw [qa_le] at hb
      by_cases e : d = n + 1
      · rw [e]; exact Int.le_refl _
      · have := h1 d (by omega); omega
theorem qx_LMT {k : Nat} (hk : k ≤ 2052) (A : (qp_A C N ls)) (T : (qp_T C N k g cf ck wr ld)) : ∃ b, b < C ∧ (qx_LM cf C).toInt = (cf b).toInt + 31 ∧ ∀ d, d < C → (qx_LM cf C).toInt ≤ (cf d).toInt + 31 := by
  obtain ⟨h1, c, hc, h2⟩ := qx_limF cf (C - 1)
  obtain ⟨a1, a2, _⟩ := A
  obtain ⟨⟨t0, t1⟩, t2, _⟩ := T
  have hcc := t2 c (by omega)
  have e : (qx_LM cf C).toInt = (cf c).toInt + 31 := by
    unfold qx_LM
    rw [h2, qa_add (by rw [qa_31]; omega) (by rw [qa_31]; omega), qa_31]
  refine ⟨c, by omega, e, fun d hd => ?_⟩
  have := h1 d (by omega)
  rw [h2] at this
  omega
theorem qx_lim9 {post : Int32 → Prop} (hC : C ≤ 4) (hp : post (qx_lim cf (C - 1) + 31)) : ∀ d j n : Nat, j + 1 + d = C → d < n → wX_limit_9 post (nI C) (nI N) wy ls (nI h) (nI e) sp g ck cf rs st kd tg vl gF gU cr sa fr un da wr ld ow im me lS lC lK lL lV lT rg n (qx_lim cf j) (nI (j + 1)) := by
  intro d
  induction d with
  | zero =>
    intro j n hj hn
    obtain ⟨m, rfl⟩ : ∃ m, n = m + 1 := ⟨n - 1, by omega⟩
    have ej : j = C - 1 := by omega
    refine br_t (nI_le (by omega) (by omega)) ?_
    rw [ej]; exact hp
  | succ d ih =>
    intro j n hj hn
    obtain ⟨m, rfl⟩ : ∃ m, n = m + 1 := ⟨n - 1, by omega⟩
    have hcl : (nI (j + 1)).toNatClampNeg = j + 1 := nI_clamp (by omega)
    refine br_f (nI_ge (by omega) (by omega)) ⟨vp_in_nI (by omega) (by omega), ?_⟩
    rw [hcl]
    have hi := ih (j + 1) m (by omega) (by omega)
    rw [qx_lim_s] at hi
    by_cases hb : qx_lim cf j ≤ cf (j + 1)
    · refine br_t hb (fun y ey => ?_)
      rw [ey, nI_1]
      rw [if_pos hb] at hi
      exact hi
    · refine br_f hb ⟨vp_in_nI (by omega) (by omega), fun y ey z ez => ?_⟩
      rw [ez, nI_1, ey]
      rw [if_neg hb] at hi
      exact hi
theorem qx_limit {post : Int32 → Prop} (hC2 : 2 ≤ C) (hC : C ≤ 4) (hp : post (qx_LM cf C)) : wpX_limit post ((nI C), (nI N), wy, ls, (nI h), (nI e), sp, g, ck, cf, rs, st, kd, tg, vl, gF, gU, cr, sa, fr, un, da, wr, ld, ow, im, me, lS, lC, lK, lL, lV, lT, rg) := fun y ey => ⟨C, by rw [ey]; exact qx_lim9 hC hp (C - 1) 0 C (by omega) (by omega)⟩
theorem qy_lim9 {post : Int32 → Prop} (hC : C ≤ 4) (hp : post (qx_lim cf (C - 1) + 31)) : ∀ d j n : Nat, j + 1 + d = C → d < n → wY_limit_9 post (nI C) (nI N) wy ls g sp (nI e) ck cf rs st kd tg vl gF gU wr ld ow im sa bf bu mS mC mK mL mV mT n (qx_lim cf j) (nI (j + 1)) := by
  intro d
  induction d with
  | zero =>
    intro j n hj hn
    obtain ⟨m, rfl⟩ : ∃ m, n = m + 1 := ⟨n - 1, by omega⟩
    have ej : j = C - 1 := by omega
    refine br_t (nI_le (by omega) (by omega)) ?_
    rw [ej]; exact hp
  | succ d ih =>
    intro j n hj hn
    obtain ⟨m, rfl⟩ : ∃ m, n = m + 1 := ⟨n - 1, by omega⟩
    have hcl : (nI (j + 1)).toNatClampNeg = j + 1 := nI_clamp (by omega)
    refine br_f (nI_ge (by omega) (by omega)) ⟨vp_in_nI (by omega) (by omega), ?_⟩
    rw [hcl]
    have hi := ih (j + 1) m (by omega) (by omega)
    rw [qx_lim_s] at hi
    by_cases hb : qx_lim cf j ≤ cf (j + 1)
    · refine br_t hb (fun y ey => ?_)
      rw [ey, nI_1]
      rw [if_pos hb] at hi
      exact hi
    · refine br_f hb ⟨vp_in_nI (by omega) (by omega), fun y ey z ez => ?_⟩
      rw [ez, nI_1, ey]
      rw [if_neg hb] at hi
      exact hi
theorem qy_limit {post : Int32 → Prop} (hC2 : 2 ≤ C) (hC : C ≤ 4) (hp : post (qx_LM cf C)) : wpY_limit post ((nI C), (nI N), wy, ls, g, sp, (nI e), ck, cf, rs, st, kd, tg, vl, gF, gU, wr, ld, ow, im, sa, bf, bu, mS, mC, mK, mL, mV, mT) := fun y ey => ⟨C, by rw [ey]; exact qy_lim9 hC hp (C - 1) 0 C (by omega) (by omega)⟩
theorem qx_win0 {post : Int32 → Prop} {a : Nat} (hC2 : 2 ≤ C) (hC : C ≤ 4) (ha : a < 8) (hl : ld a < qx_LM cf C) (hp : post 0) : wpX_isWindowUsedUp post ((nI C), (nI N), wy, ls, (nI h), (nI e), sp, g, ck, cf, rs, st, kd, tg, vl, gF, gU, cr, sa, fr, un, da, wr, ld, ow, im, me, lS, lC, lK, lL, lV, lT, rg) (nI a) :=
  ⟨vp_in_nI ha (by omega), qx_limit hC2 hC (by rw [nI_clamp (by omega)]; exact br_t hl hp)⟩
theorem qx_win1 {post : Int32 → Prop} {a : Nat} (hC2 : 2 ≤ C) (hC : C ≤ 4) (ha : a < 8) (hl : ¬ ld a < qx_LM cf C) (hp : post 1) : wpX_isWindowUsedUp post ((nI C), (nI N), wy, ls, (nI h), (nI e), sp, g, ck, cf, rs, st, kd, tg, vl, gF, gU, cr, sa, fr, un, da, wr, ld, ow, im, me, lS, lC, lK, lL, lV, lT, rg) (nI a) :=
  ⟨vp_in_nI ha (by omega), qx_limit hC2 hC (by rw [nI_clamp (by omega)]; exact br_f hl hp)⟩
end QX
end
section
section QS
variable {C N h e : Nat} {wy ls sp g : Int32} {ck cf rs st kd tg vl gF gU cr sa fr un da wr ld ow im me lS lC lK lL lV lT rg bf bu mS mC mK mL mV mT : Nat → Int32}
/-! reserve -/
theorem qx_resv {post : Int32 → Prop} (hC : C ≤ 4) (he : e ≤ 32) (hp : post (if e + qp_cnt kd C < 32 then 0 else 1)) : wpX_isLogReserved post ((nI C), (nI N), wy, ls, (nI h), (nI e), sp, g, ck, cf, rs, st, kd, tg, vl, gF, gU, cr, sa, fr, un, da, wr, ld, ow, im, me, lS, lC, lK, lL, lV, lT, rg) := by
  have hcb : ∀ n, qp_cnt kd n ≤ n := by
    intro n
    induction n with
    | zero => exact Nat.le_refl _
    | succ n ih => unfold qp_cnt; split <;> omega
  have key := qx_fold (W := fun n j (s : Nat) => wX_isLogReserved_7 post (nI C) (nI N) wy ls (nI h) (nI e) sp g ck cf rs st kd tg vl gF gU cr sa fr un da wr ld ow im me lS lC lK lL lV lT rg n (nI s) (nI j)) (fun j => e + qp_cnt kd j) C ?_ ?_
  · exact key
  · intro n
    have := hcb C
    refine br_t (nI_le (by omega) (by omega)) ?_
    by_cases hb : e + qp_cnt kd C < 32
    · rw [if_pos hb] at hp
      exact br_t (nI_lt (b := 32) hb (by decide)) hp
    · rw [if_neg hb] at hp
      exact br_f (nI_nlt (b := 32) (by omega) (by omega)) hp
  · intro n j hj hi
    have hcl : (nI j).toNatClampNeg = j := nI_clamp (by omega)
    have hs : qp_cnt kd (j + 1) = qp_cnt kd j + (if kd j = 1 ∨ kd j = 2 then 1 else 0) := rfl
    refine br_f (nI_ge hj (by omega)) ⟨vp_in_nI (by omega) (by omega), ?_⟩
    rw [hcl]
    by_cases h1 : kd j = 1
    · rw [hs, if_pos (Or.inl h1), ← Nat.add_assoc] at hi
      refine br_t h1 (fun y ey z ez => ?_)
      rw [ey, ez, nI_1, nI_1]
      exact hi
    · by_cases h2 : kd j = 2
      · rw [hs, if_pos (Or.inr h2), ← Nat.add_assoc] at hi
        refine br_f h1 ⟨vp_in_nI (by omega) (by omega), br_t h2 (fun y ey z ez => ?_)⟩
        rw [ey, ez, nI_1, nI_1]
        exact hi
      · rw [hs, if_neg (by rintro (z | z); exact h1 z; exact h2 z), Nat.add_zero] at hi
        refine br_f h1 ⟨vp_in_nI (by omega) (by omega), br_f h2 (fun z ez => ?_)⟩
        rw [ez, nI_1]
        exact hi
theorem qy_check37 {post : Int32 → Prop} (hC : C ≤ 4) (he : e ≤ 32) (hp : post (if e + qp_cnt kd C < 32 then 1 else 5)) : ∃ n, wY_check_37 post (nI C) (nI N) wy ls g sp (nI e) ck cf rs st kd tg vl gF gU wr ld ow im sa bf bu mS mC mK mL mV mT n (nI e) 0 := by
  have hcb : ∀ n, qp_cnt kd n ≤ n := by
    intro n
    induction n with
    | zero => exact Nat.le_refl _
    | succ n ih => unfold qp_cnt; split <;> omega
  have key := qx_fold (W := fun n j (s : Nat) => wY_check_37 post (nI C) (nI N) wy ls g sp (nI e) ck cf rs st kd tg vl gF gU wr ld ow im sa bf bu mS mC mK mL mV mT n (nI s) (nI j)) (fun j => e + qp_cnt kd j) C ?_ ?_
  · exact key
  · intro n
    have := hcb C
    refine br_t (nI_le (by omega) (by omega)) ?_
    by_cases hb : e + qp_cnt kd C < 32
    · rw [if_pos hb] at hp
      exact br_t (nI_lt (b := 32) hb (by decide)) hp
    · rw [if_neg hb] at hp
      exact br_f (nI_nlt (b := 32) (by omega) (by omega)) hp
  · intro n j hj hi
    have hcl : (nI j).toNatClampNeg = j := nI_clamp (by omega)
    have hs : qp_cnt kd (j + 1) = qp_cnt kd j + (if kd j = 1 ∨ kd j = 2 then 1 else 0) := rfl
    refine br_f (nI_ge hj (by omega)) ⟨vp_in_nI (by omega) (by omega), ?_⟩
    rw [hcl]
    by_cases h1 : kd j = 1
    · rw [hs, if_pos (Or.inl h1), ← Nat.add_assoc] at hi
      refine br_t h1 (fun y ey z ez => ?_)
      rw [ey, ez, nI_1, nI_1]
      exact hi
    · by_cases h2 : kd j = 2
      · rw [hs, if_pos (Or.inr h2), ← Nat.add_assoc] at hi
        refine br_f h1 ⟨vp_in_nI (by omega) (by omega), br_t h2 (fun y ey z ez => ?_)⟩
        rw [ey, ez, nI_1, nI_1]
        exact hi
      · rw [hs, if_neg (by rintro (z | z); exact h1 z; exact h2 z), Nat.add_zero] at hi
        refine br_f h1 ⟨vp_in_nI (by omega) (by omega), br_f h2 (fun z ez => ?_)⟩
        rw [ez, nI_1]
        exact hi
/-- both sides open load and store with one verdict -/
theorem qs_open (A : (qp_A C N ls)) (he : e ≤ 32) (v1 v2 : Int32) : ∃ r : Int32, (∀ post : Int32 → Prop, post r → wpX_admit post ((nI C), (nI N), wy, ls, (nI h), (nI e), sp, g, ck, cf, rs, st, kd, tg, vl, gF, gU, cr, sa, fr, un, da, wr, ld, ow, im, me, lS, lC, lK, lL, lV, lT, rg) v1 v2) ∧ (∀ post : Int32 → Prop, post r → wpY_check post ((nI C), (nI N), wy, ls, g, sp, (nI e), ck, cf, rs, st, kd, tg, vl, gF, gU, wr, ld, ow, im, sa, bf, bu, mS, mC, mK, mL, mV, mT) v1 v2) ∧ (¬ r = 1 ∨ (r = 1 ∧ ∃ c a, c < C ∧ a < N ∧ v1 = nI c ∧ v2 = nI a ∧ st c = 0 ∧ e + qp_cnt kd C < 32)) := by
  obtain ⟨a1, a2, a3, a4, _⟩ := A
  rcases qa_cs v1 (show C < 2 ^ 31 by omega) with ⟨c, hc, rfl⟩ | hb
  · rcases qa_cs v2 (show N < 2 ^ 31 by omega) with ⟨a, ha, rfl⟩ | hb
    · have hcl : (nI c).toNatClampNeg = c := nI_clamp (by omega)
      have hin : vp_in (nI c) 4 := vp_in_nI (by omega) (by omega)
      by_cases hs : st c = 0
      · have hs' : st (nI c).toNatClampNeg = 0 := by rw [hcl]; exact hs
        by_cases hq : e + qp_cnt kd C < 32
        · refine ⟨1, fun post hp => ?_, fun post hp => ?_, Or.inr ⟨rfl, c, a, hc, ha, rfl, rfl, hs, hq⟩⟩
          · unfold wpX_admit
            dsimp only
            exact qx_bcF hc a2 (br_t rfl (qx_blF ha a4 (br_t rfl ⟨hin, br_t hs' (qx_resv a2 he (by rw [if_pos hq]; exact br_t rfl hp))⟩)))
          · unfold wpY_check
            dsimp only
            exact qy_bcF hc a2 (br_t rfl (qy_blF ha a4 (br_t rfl ⟨hin, br_t hs' (qy_check37 a2 he (by rw [if_pos hq]; exact hp))⟩)))
        · refine ⟨5, fun post hp => ?_, fun post hp => ?_, Or.inl (by decide)⟩
          · unfold wpX_admit
            dsimp only
            exact qx_bcF hc a2 (br_t rfl (qx_blF ha a4 (br_t rfl ⟨hin, br_t hs' (qx_resv a2 he (by rw [if_neg hq]; exact br_f (by decide) hp))⟩)))
          · unfold wpY_check
            dsimp only
            exact qy_bcF hc a2 (br_t rfl (qy_blF ha a4 (br_t rfl ⟨hin, br_t hs' (qy_check37 a2 he (by rw [if_neg hq]; exact hp))⟩)))
      · have hs' : ¬ st (nI c).toNatClampNeg = 0 := by rw [hcl]; exact hs
        refine ⟨4, fun post hp => ?_, fun post hp => ?_, Or.inl (by decide)⟩
        · unfold wpX_admit
          dsimp only
          exact qx_bcF hc a2 (br_t rfl (qx_blF ha a4 (br_t rfl ⟨hin, br_f hs' hp⟩)))
        · unfold wpY_check
          dsimp only
          exact qy_bcF hc a2 (br_t rfl (qy_blF ha a4 (br_t rfl ⟨hin, br_f hs' hp⟩)))
    · refine ⟨-1, fun post hp => ?_, fun post hp => ?_, Or.inl (by decide)⟩
      · unfold wpX_admit
        dsimp only
        exact qx_bcF hc a2 (br_t rfl (qx_blT hb (br_f (by decide) hp)))
      · unfold wpY_check
        dsimp only
        exact qy_bcF hc a2 (br_t rfl (qy_blT hb (br_f (by decide) hp)))
  · refine ⟨-1, fun post hp => ?_, fun post hp => ?_, Or.inl (by decide)⟩
    · unfold wpX_admit
      dsimp only
      exact qx_bcT hb (br_f (by decide) hp)
    · unfold wpY_check
      dsimp only
      exact qy_bcT hb (br_f (by decide) hp)
/-! another core's access has the line on the move -/
def qs_tr (st kd tg : Nat → Int32) (c a j : Nat) : Prop := j ≠ c ∧ qp_mv st kd tg j a
theorem qx_transit {post : Int32 → Prop} {c a : Nat} (hC : C ≤ 4) (hc : c < C) (h0 : (∀ j, j < C → ¬ qs_tr st kd tg c a j) → post 0) (h1 : (∃ j, j < C ∧ qs_tr st kd tg c a j) → post 1) : wpX_isLineInTransit post ((nI C), (nI N), wy, ls, (nI h), (nI e), sp, g, ck, cf, rs, st, kd, tg, vl, gF, gU, cr, sa, fr, un, da, wr, ld, ow, im, me, lS, lC, lK, lL, lV, lT, rg) (nI c) (nI a) := by
  refine qx_scan (W := fun n j => wX_isLineInTransit_2 post (nI c) (nI a) (nI C) (nI N) wy ls (nI h) (nI e) sp g ck cf rs st kd tg vl gF gU cr sa fr un da wr ld ow im me lS lC lK lL lV lT rg n (nI j)) (D := qs_tr st kd tg c a) (C := C) ?_ ?_ ?_
  · intro hn n
    exact br_t (nI_le (by omega) (by omega)) (h0 hn)
  · intro n j hj hD
    have hp := h1 ⟨j, hj, hD⟩
    obtain ⟨hne, ht, hm⟩ := hD
    have hin : vp_in (nI j) 4 := vp_in_nI (by omega) (by omega)
    have hcl : (nI j).toNatClampNeg = j := nI_clamp (by omega)
    have hne' : ¬ nI j = nI c := fun z => hne (qa_inj z (by omega) (by omega))
    have d1 : ¬ (1 : Int32) = 0 := by decide
    rw [← hcl] at ht hm
    refine br_f (nI_ge hj (by omega)) (br_f hne' ⟨hin, br_t ht ⟨hin, ?_⟩⟩)
    rcases hm with h2 | h3 | ⟨h4, hk⟩
    · refine br_t h2 (And.intro hin (br_f ?_ (br_f d1 hp)))
      rw [h2]; decide
    · refine br_f ?_ ⟨hin, br_t h3 (And.intro hin (br_f ?_ (br_f d1 hp)))⟩
      · rw [h3]; decide
      · rw [h3]; decide
    · refine br_f ?_ ⟨hin, br_f ?_ (And.intro hin (br_t h4 ⟨hin, br_t hk (br_t rfl (br_f d1 hp))⟩))⟩
      · rw [h4]; decide
      · rw [h4]; decide
  · intro n j hj hD hi
    have hin : vp_in (nI j) 4 := vp_in_nI (by omega) (by omega)
    have hcl : (nI j).toNatClampNeg = j := nI_clamp (by omega)
    have hnx : ∀ y, y = nI j + 1 → wX_isLineInTransit_2 post (nI c) (nI a) (nI C) (nI N) wy ls (nI h) (nI e) sp g ck cf rs st kd tg vl gF gU cr sa fr un da wr ld ow im me lS lC lK lL lV lT rg n y := fun y ey => by rw [ey, nI_1]; exact hi
    refine br_f (nI_ge hj (by omega)) ?_
    by_cases hjc : j = c
    · exact br_t (by rw [hjc]) hnx
    · refine br_f (fun z => hjc (qa_inj z (by omega) (by omega))) ⟨hin, ?_⟩
      by_cases ht : tg j = nI a
      · have h2 : ¬ st j = 2 := fun z => hD ⟨hjc, ht, Or.inl z⟩
        have h3 : ¬ st j = 3 := fun z => hD ⟨hjc, ht, Or.inr (Or.inl z)⟩
        have ht' : tg (nI j).toNatClampNeg = nI a := by rw [hcl]; exact ht
        have h2' : ¬ st (nI j).toNatClampNeg = 2 := by rw [hcl]; exact h2
        have h3' : ¬ st (nI j).toNatClampNeg = 3 := by rw [hcl]; exact h3
        refine br_t ht' ⟨hin, br_f h2' ⟨hin, br_f h3' (And.intro hin ?_)⟩⟩
        by_cases h4 : st j = 4
        · have hk : ¬ kd (nI j).toNatClampNeg = 2 := by rw [hcl]; exact fun z => hD ⟨hjc, ht, Or.inr (Or.inr ⟨h4, z⟩)⟩
          have h4' : st (nI j).toNatClampNeg = 4 := by rw [hcl]; exact h4
          exact br_t h4' ⟨hin, br_f hk (br_t rfl (br_t rfl hnx))⟩
        · have h4' : ¬ st (nI j).toNatClampNeg = 4 := by rw [hcl]; exact h4
          exact br_f h4' (br_t rfl (br_t rfl hnx))
      · have ht' : ¬ tg (nI j).toNatClampNeg = nI a := by rw [hcl]; exact ht
        exact br_f ht' hnx
theorem qx_recalled {post : Int32 → Prop} {c a : Nat} (hC : C ≤ 4) (hc : c < C) (h0 : (∀ j, j < C → ¬ (j ≠ c ∧ tg j = nI a ∧ st j = 2)) → post 0) (h1 : (∃ j, j < C ∧ (j ≠ c ∧ tg j = nI a ∧ st j = 2)) → post 1) : wpX_isRecalled post ((nI C), (nI N), wy, ls, (nI h), (nI e), sp, g, ck, cf, rs, st, kd, tg, vl, gF, gU, cr, sa, fr, un, da, wr, ld, ow, im, me, lS, lC, lK, lL, lV, lT, rg) (nI c) (nI a) := by
  refine qx_scan (W := fun n j => wX_isRecalled_2 post (nI c) (nI a) (nI C) (nI N) wy ls (nI h) (nI e) sp g ck cf rs st kd tg vl gF gU cr sa fr un da wr ld ow im me lS lC lK lL lV lT rg n (nI j)) (D := fun j => j ≠ c ∧ tg j = nI a ∧ st j = 2) (C := C) ?_ ?_ ?_
  · intro hn n
    exact br_t (nI_le (by omega) (by omega)) (h0 hn)
  · intro n j hj hD
    have hp := h1 ⟨j, hj, hD⟩
    obtain ⟨hne, ht, h2⟩ := hD
    have hin : vp_in (nI j) 4 := vp_in_nI (by omega) (by omega)
    have hcl : (nI j).toNatClampNeg = j := nI_clamp (by omega)
    have hne' : ¬ nI j = nI c := fun z => hne (qa_inj z (by omega) (by omega))
    rw [← hcl] at ht h2
    exact br_f (nI_ge hj (by omega)) (br_f hne' ⟨hin, br_t ht ⟨hin, br_t h2 hp⟩⟩)
  · intro n j hj hD hi
    have hin : vp_in (nI j) 4 := vp_in_nI (by omega) (by omega)
    have hcl : (nI j).toNatClampNeg = j := nI_clamp (by omega)
    have hnx : ∀ y, y = nI j + 1 → wX_isRecalled_2 post (nI c) (nI a) (nI C) (nI N) wy ls (nI h) (nI e) sp g ck cf rs st kd tg vl gF gU cr sa fr un da wr ld ow im me lS lC lK lL lV lT rg n y := fun y ey => by rw [ey, nI_1]; exact hi
    refine br_f (nI_ge hj (by omega)) ?_
    by_cases hjc : j = c
    · exact br_t (by rw [hjc]) hnx
    · refine br_f (fun z => hjc (qa_inj z (by omega) (by omega))) ⟨hin, ?_⟩
      by_cases ht : tg j = nI a
      · have h2 : ¬ st j = 2 := fun z => hD ⟨hjc, ht, z⟩
        rw [← hcl] at ht h2
        exact br_t ht ⟨hin, br_f h2 hnx⟩
      · rw [← hcl] at ht
        exact br_f ht hnx
theorem qy_evict70 {post : Int32 → SY → Prop} {c a : Nat} {x3 : Int32} (hC : C ≤ 4) (hc : c < C) (h0 : (∀ j, j < C → ¬ (j ≠ c ∧ tg j = nI a ∧ st j = 2)) → ∀ n, wY_evict_70 post (nI c) (nI a) x3 (nI C) (nI N) wy ls g sp (nI e) ck cf rs st kd tg vl gF gU wr ld ow im sa bf bu mS mC mK mL mV mT (n + 1) (nI C)) (h1 : (∃ j, j < C ∧ (j ≠ c ∧ tg j = nI a ∧ st j = 2)) → post 7 ((nI C), (nI N), wy, ls, g, sp, (nI e), ck, cf, rs, st, kd, tg, vl, gF, gU, wr, ld, ow, im, sa, bf, bu, mS, mC, mK, mL, mV, mT)) : ∃ n, wY_evict_70 post (nI c) (nI a) x3 (nI C) (nI N) wy ls g sp (nI e) ck cf rs st kd tg vl gF gU wr ld ow im sa bf bu mS mC mK mL mV mT n 0 := by
  refine qx_scan (W := fun n j => wY_evict_70 post (nI c) (nI a) x3 (nI C) (nI N) wy ls g sp (nI e) ck cf rs st kd tg vl gF gU wr ld ow im sa bf bu mS mC mK mL mV mT n (nI j)) (D := fun j => j ≠ c ∧ tg j = nI a ∧ st j = 2) (C := C) ?_ ?_ ?_
  · intro hn n
    exact h0 hn n
  · intro n j hj hD
    have hp := h1 ⟨j, hj, hD⟩
    obtain ⟨hne, ht, h2⟩ := hD
    have hin : vp_in (nI j) 4 := vp_in_nI (by omega) (by omega)
    have hcl : (nI j).toNatClampNeg = j := nI_clamp (by omega)
    have hne' : ¬ nI j = nI c := fun z => hne (qa_inj z (by omega) (by omega))
    rw [← hcl] at ht h2
    exact br_f (nI_ge hj (by omega)) (br_f hne' ⟨hin, br_t ht ⟨hin, br_t h2 hp⟩⟩)
  · intro n j hj hD hi
    have hin : vp_in (nI j) 4 := vp_in_nI (by omega) (by omega)
    have hcl : (nI j).toNatClampNeg = j := nI_clamp (by omega)
    have hnx : ∀ y, y = nI j + 1 → wY_evict_70 post (nI c) (nI a) x3 (nI C) (nI N) wy ls g sp (nI e) ck cf rs st kd tg vl gF gU wr ld ow im sa bf bu mS mC mK mL mV mT n y := fun y ey => by rw [ey, nI_1]; exact hi
    refine br_f (nI_ge hj (by omega)) ?_
    by_cases hjc : j = c
    · exact br_t (by rw [hjc]) hnx
    · refine br_f (fun z => hjc (qa_inj z (by omega) (by omega))) ⟨hin, ?_⟩
      by_cases ht : tg j = nI a
      · have h2 : ¬ st j = 2 := fun z => hD ⟨hjc, ht, z⟩
        rw [← hcl] at ht h2
        exact br_t ht ⟨hin, br_f h2 hnx⟩
      · rw [← hcl] at ht
        exact br_f ht hnx
theorem qy_deliver82 {post : Int32 → SY → Prop} {c a : Nat} {x4 : Int32} (hC : C ≤ 4) (hc : c < C) (h0 : (∀ j, j < C → ¬ qs_tr st kd tg c a j) → ∀ n, wY_deliver_82 post (nI c) (nI a) x4 (nI C) (nI N) wy ls g sp (nI e) ck cf rs st kd tg vl gF gU wr ld ow im sa bf bu mS mC mK mL mV mT (n + 1) (nI C)) (h1 : (∃ j, j < C ∧ qs_tr st kd tg c a j) → post 7 ((nI C), (nI N), wy, ls, g, sp, (nI e), ck, cf, rs, st, kd, tg, vl, gF, gU, wr, ld, ow, im, sa, bf, bu, mS, mC, mK, mL, mV, mT)) : ∃ n, wY_deliver_82 post (nI c) (nI a) x4 (nI C) (nI N) wy ls g sp (nI e) ck cf rs st kd tg vl gF gU wr ld ow im sa bf bu mS mC mK mL mV mT n 0 := by
  refine qx_scan (W := fun n j => wY_deliver_82 post (nI c) (nI a) x4 (nI C) (nI N) wy ls g sp (nI e) ck cf rs st kd tg vl gF gU wr ld ow im sa bf bu mS mC mK mL mV mT n (nI j)) (D := qs_tr st kd tg c a) (C := C) ?_ ?_ ?_
  · intro hn n
    exact h0 hn n
  · intro n j hj hD
    have hp := h1 ⟨j, hj, hD⟩
    obtain ⟨hne, ht, hm⟩ := hD
    have hin : vp_in (nI j) 4 := vp_in_nI (by omega) (by omega)
    have hcl : (nI j).toNatClampNeg = j := nI_clamp (by omega)
    have hne' : ¬ nI j = nI c := fun z => hne (qa_inj z (by omega) (by omega))
    rw [← hcl] at ht hm
    refine br_f (nI_ge hj (by omega)) (br_f hne' ⟨hin, br_t ht ⟨hin, ?_⟩⟩)
    rcases hm with h2 | h3 | ⟨h4, hk⟩
    · exact br_t h2 hp
    · refine br_f ?_ ⟨hin, br_t h3 hp⟩
      rw [h3]; decide
    · refine br_f ?_ ⟨hin, br_f ?_ ⟨hin, br_t h4 ⟨hin, br_t hk hp⟩⟩⟩
      · rw [h4]; decide
      · rw [h4]; decide
  · intro n j hj hD hi
    have hin : vp_in (nI j) 4 := vp_in_nI (by omega) (by omega)
    have hcl : (nI j).toNatClampNeg = j := nI_clamp (by omega)
    have hnx : ∀ y, y = nI j + 1 → wY_deliver_82 post (nI c) (nI a) x4 (nI C) (nI N) wy ls g sp (nI e) ck cf rs st kd tg vl gF gU wr ld ow im sa bf bu mS mC mK mL mV mT n y := fun y ey => by rw [ey, nI_1]; exact hi
    refine br_f (nI_ge hj (by omega)) ?_
    by_cases hjc : j = c
    · exact br_t (by rw [hjc]) hnx
    · refine br_f (fun z => hjc (qa_inj z (by omega) (by omega))) ⟨hin, ?_⟩
      by_cases ht : tg j = nI a
      · have h2 : ¬ st j = 2 := fun z => hD ⟨hjc, ht, Or.inl z⟩
        have h3 : ¬ st j = 3 := fun z => hD ⟨hjc, ht, Or.inr (Or.inl z)⟩
        have ht' : tg (nI j).toNatClampNeg = nI a := by rw [hcl]; exact ht
        have h2' : ¬ st (nI j).toNatClampNeg = 2 := by rw [hcl]; exact h2
        have h3' : ¬ st (nI j).toNatClampNeg = 3 := by rw [hcl]; exact h3
        refine br_t ht' ⟨hin, br_f h2' ⟨hin, br_f h3' ⟨hin, ?_⟩⟩⟩
        by_cases h4 : st j = 4
        · have hk : ¬ kd (nI j).toNatClampNeg = 2 := by rw [hcl]; exact fun z => hD ⟨hjc, ht, Or.inr (Or.inr ⟨h4, z⟩)⟩
          have h4' : st (nI j).toNatClampNeg = 4 := by rw [hcl]; exact h4
          exact br_t h4' ⟨hin, br_f hk hnx⟩
        · have h4' : ¬ st (nI j).toNatClampNeg = 4 := by rw [hcl]; exact h4
          exact br_f h4' hnx
      · have ht' : ¬ tg (nI j).toNatClampNeg = nI a := by rw [hcl]; exact ht
        exact br_f ht' hnx
end QS
end
section
section QLX
variable {C N h e : Nat} {wy ls sp g : Int32} {ck cf rs st kd tg vl gF gU cr sa fr un da wr ld ow im me lS lC lK lL lV lT rg bf bu mS mC mK mL mV mT : Nat → Int32}
/-! the component's history -/
def qx_j : Nat → Nat
  | 0 => 0
  | m + 1 => 2 ^ m
theorem qx_jh : ∀ m, 2 ^ m / 2 = qx_j m := by
  intro m
  cases m with
  | zero => rfl
  | succ m =>
    show 2 ^ (m + 1) / 2 = 2 ^ m
    rw [Nat.pow_succ]; omega
theorem qx_cut5 {post : Int32 → Prop} {t : Int32} {c : Nat} (R : qp_R h rg) (he : e ≤ 32) (hc : c ≤ e) (hT : ∀ k, k < e → ((lT (ql_p h rg k)).toInt ≤ t.toInt ↔ k < c)) (hp : post (nI c)) : ∀ m f : Nat, m ≤ 6 → f ≤ c → c < f + 2 ^ m → wX_countUpTo_5 post t (nI C) (nI N) wy ls (nI h) (nI e) sp g ck cf rs st kd tg vl gF gU cr sa fr un da wr ld ow im me lS lC lK lL lV lT rg (m + 1) (nI f) (nI (qx_j m)) := by
  intro m
  induction m with
  | zero =>
    intro f _ h1 h2
    have ef : f = c := by rw [Nat.pow_zero] at h2; omega
    rw [ef]
    exact br_t (Int32.le_refl 0) hp
  | succ m ih =>
    intro f hm h1 h2
    have hh := R.1
    have hpw : 2 ^ m ≤ 32 := by
      have : 2 ^ m ≤ 2 ^ 5 := Nat.pow_le_pow_right (by decide) (by omega)
      omega
    have hp0 : 0 < 2 ^ m := Nat.two_pow_pos m
    have h2' : c < f + 2 ^ m + 2 ^ m := by rw [Nat.pow_succ] at h2; omega
    show wX_countUpTo_5 post t (nI C) (nI N) wy ls (nI h) (nI e) sp g ck cf rs st kd tg vl gF gU cr sa fr un da wr ld ow im me lS lC lK lL lV lT rg (m + 1 + 1) (nI f) (nI (2 ^ m))
    have ihm := fun f' => ih f' (by omega)
    rw [← qx_jh m] at ihm
    revert ihm h2' hp0 hpw
    generalize 2 ^ m = w
    intro hpw hp0 h2' ihm
    refine br_f (nI_nle hp0 (by omega)) (fun y ey => ?_)
    rw [nI_add] at ey
    subst ey
    by_cases hle : f + w ≤ e
    · have ix := qa_ring1 (h := h) (m := f + w) (by omega) (by omega)
      refine br_f (nI_nlt hle (by omega)) ?_
      rw [ix, nI_clamp (by omega), qp_peq R, nI_clamp (show ql_p h rg (f + w - 1) < 2 ^ 31 by have := qp_plt R (f + w - 1); omega)]
      refine ⟨vp_in_nI (by omega) (by omega), vp_in_nI (qp_plt R _) (by omega), ?_⟩
      have hk := hT (f + w - 1) (by omega)
      by_cases hb : t < lT (ql_p h rg (f + w - 1))
      · refine br_t hb (fun z ez => ?_)
        rw [qa_half (by omega)] at ez
        rw [ez]
        rw [qa_lt] at hb
        exact ihm f h1 (by have : ¬ (f + w - 1 < c) := fun z => by have := hk.mpr z; omega
                           omega)
      · refine br_f hb (fun z ez => ?_)
        rw [qa_half (by omega)] at ez
        rw [ez]
        rw [qa_lt] at hb
        have := hk.mp (by omega)
        exact ihm (f + w) (by omega) (by omega)
    · refine br_t (nI_lt (by omega) (by omega)) (fun z ez => ?_)
      rw [qa_half (by omega)] at ez
      rw [ez]
      exact ihm f h1 (by omega)
theorem qx_cut {post : Int32 → Prop} {t : Int32} {c : Nat} (R : qp_R h rg) (he : e ≤ 32) (hc : c ≤ e) (hT : ∀ k, k < e → ((lT (ql_p h rg k)).toInt ≤ t.toInt ↔ k < c)) (hp : post (nI c)) : wpX_countUpTo post ((nI C), (nI N), wy, ls, (nI h), (nI e), sp, g, ck, cf, rs, st, kd, tg, vl, gF, gU, cr, sa, fr, un, da, wr, ld, ow, im, me, lS, lC, lK, lL, lV, lT, rg) t :=
  ⟨7, qx_cut5 R he hc hT hp 6 0 (by omega) (by omega) (by omega)⟩
theorem qx_slot {post : Int32 → Prop} {k : Nat} (R : qp_R h rg) (hk : k < 64) (hp : post (nI (ql_p h rg k))) : wpX_slotAt post ((nI C), (nI N), wy, ls, (nI h), (nI e), sp, g, ck, cf, rs, st, kd, tg, vl, gF, gU, cr, sa, fr, un, da, wr, ld, ow, im, me, lS, lC, lK, lL, lV, lT, rg) (nI k) := by
  have hh := R.1
  show vp_in ((nI h + nI k) &&& 31) 32 ∧ post (rg ((nI h + nI k) &&& 31).toNatClampNeg)
  rw [qa_ring (by omega), nI_clamp (by omega), qp_peq R]
  exact ⟨vp_in_nI (by omega) (by omega), hp⟩
/-- the shifted ring -/
def qx_sh (h e m : Nat) (rg rg' : Nat → Int32) : Prop := ∀ k, k < 32 → rg' ((h + k) % 32) = (if m < k ∧ k ≤ e then rg ((h + (k - 1)) % 32) else rg ((h + k) % 32))
theorem qx_ins21 {post : Int32 → SX → Prop} {c : Nat} {rg0 : Nat → Int32} (hh : h < 32) (he : e < 32) (hc : c ≤ e) (hp : ∀ rg', qp_ip h e c rg0 rg' → post (rg0 ((h + e) % 32)) ((nI C), (nI N), wy, ls, (nI h), (nI (e + 1)), sp, g, ck, cf, rs, st, kd, tg, vl, gF, gU, cr, sa, fr, un, da, wr, ld, ow, im, me, lS, lC, lK, lL, lV, lT, rg')) : ∀ m n : Nat, c ≤ m → m ≤ e → m < n → ∀ rg, qx_sh h e m rg0 rg → wX_insert_21 post (nI c) (rg0 ((h + e) % 32)) (nI C) (nI N) wy ls (nI h) (nI e) sp g n (nI m) ck cf rs st kd tg vl gF gU cr sa fr un da wr ld ow im me lS lC lK lL lV lT rg := by
  intro m
  induction m with
  | zero =>
    intro n h1 h2 h3 rg H
    obtain ⟨n', rfl⟩ : ∃ n', n = n' + 1 := ⟨n - 1, by omega⟩
    have ec : c = 0 := by omega
    refine br_t (nI_le (by omega) (by omega)) ?_
    rw [qa_ring (by omega), nI_clamp (by omega)]
    refine ⟨vp_in_nI (by omega) (by omega), fun y ey z ez => ?_⟩
    rw [nI_1] at ez
    rw [ez, ey]
    refine hp _ (fun k hk => ?_)
    unfold upd
    have := H k hk
    by_cases hkc : k = c
    · rw [if_pos (by rw [hkc]), if_neg (by omega), if_pos hkc]
    · rw [if_neg (by omega), this, if_neg (show ¬ k < c by omega), if_neg hkc]
      by_cases hke : k ≤ e
      · rw [if_pos ⟨by omega, hke⟩, if_pos hke]
      · rw [if_neg (by omega), if_neg hke]
  | succ m ih =>
    intro n h1 h2 h3 rg H
    obtain ⟨n', rfl⟩ : ∃ n', n = n' + 1 := ⟨n - 1, by omega⟩
    by_cases hcm : c = m + 1
    · refine br_t (nI_le (by omega) (by omega)) ?_
      rw [qa_ring (by omega), nI_clamp (by omega)]
      refine ⟨vp_in_nI (by omega) (by omega), fun y ey z ez => ?_⟩
      rw [nI_1] at ez
      rw [ez, ey]
      refine hp _ (fun k hk => ?_)
      unfold upd
      have := H k hk
      by_cases hkc : k = c
      · rw [if_pos (by rw [hkc]), if_neg (by omega), if_pos hkc]
      · rw [if_neg (by omega), this]
        by_cases hlt : k < c
        · rw [if_pos hlt, if_neg (by omega)]
        · rw [if_neg hlt, if_neg hkc]
          by_cases hke : k ≤ e
          · rw [if_pos ⟨by omega, hke⟩, if_pos hke]
          · rw [if_neg (by omega), if_neg hke]
    · refine br_f (nI_ge (by omega) (by omega)) ?_
      rw [qa_ring1 (by omega) (by omega), qa_ring (by omega), nI_clamp (by omega), nI_clamp (by omega)]
      refine ⟨vp_in_nI (by omega) (by omega), vp_in_nI (by omega) (by omega), fun y ey z ez => ?_⟩
      rw [pk_m1] at ez
      rw [ez, ey]
      refine ih n' (by omega) (by omega) (by omega) _ (fun k hk => ?_)
      unfold upd
      by_cases hkm : k = m + 1
      · rw [if_pos (by rw [hkm]), if_pos (by omega), hkm]
        have := H m (by omega)
        rw [if_neg (by omega)] at this
        exact this
      · rw [if_neg (by omega), H k hk]
        by_cases hz : m + 1 < k ∧ k ≤ e
        · rw [if_pos hz, if_pos (by omega)]
        · rw [if_neg hz, if_neg (by omega)]
theorem qx_insert {post : Int32 → SX → Prop} {c : Nat} {t : Int32} (R : qp_R h rg) (he : e < 32) (hc : c ≤ e) (hT : ∀ k, k < e → ((lT (ql_p h rg k)).toInt ≤ t.toInt ↔ k < c)) (hp : ∀ rg', qp_ip h e c rg rg' → post (nI (ql_p h rg e)) ((nI C), (nI N), wy, ls, (nI h), (nI (e + 1)), sp, g, ck, cf, rs, st, kd, tg, vl, gF, gU, cr, sa, fr, un, da, wr, ld, ow, im, me, lS, lC, lK, lL, lV, lT, rg')) : wpX_insert post ((nI C), (nI N), wy, ls, (nI h), (nI e), sp, g, ck, cf, rs, st, kd, tg, vl, gF, gU, cr, sa, fr, un, da, wr, ld, ow, im, me, lS, lC, lK, lL, lV, lT, rg) t := by
  refine qx_cut R (by omega) hc hT (qx_slot R (by omega) ⟨e + 1, ?_⟩)
  rw [← qp_peq R]
  rw [← qp_peq R] at hp
  refine qx_ins21 R.1 he hc hp e (e + 1) hc (Nat.le_refl _) (by omega) rg (fun k hk => ?_)
  rw [if_neg (by omega)]
theorem qx_addlog {post : SX → Prop} {c c0 a : Nat} {kk v t : Int32} (R : qp_R h rg) (he : e < 32) (hc0 : c0 < 4) (hc : c ≤ e) (hT : ∀ k, k < e → ((lT (ql_p h rg k)).toInt ≤ t.toInt ↔ k < c)) (hp : ∀ rg', qp_ip h e c rg rg' → post ((nI C), (nI N), wy, ls, (nI h), (nI (e + 1)), (sp + 1), g, (upd ck c0 t), cf, rs, st, kd, tg, vl, gF, gU, cr, sa, fr, un, da, wr, ld, ow, im, me, (upd lS (ql_p h rg e) (sp + 1)), (upd lC (ql_p h rg e) (nI c0)), (upd lK (ql_p h rg e) kk), (upd lL (ql_p h rg e) (nI a)), (upd lV (ql_p h rg e) v), (upd lT (ql_p h rg e) t), rg')) : wpX_addToLog post ((nI C), (nI N), wy, ls, (nI h), (nI e), sp, g, ck, cf, rs, st, kd, tg, vl, gF, gU, cr, sa, fr, un, da, wr, ld, ow, im, me, lS, lC, lK, lL, lV, lT, rg) (nI c0) kk (nI a) v t := by
  have hz := qp_plt R e
  have hin : vp_in (nI (ql_p h rg e)) 32 := vp_in_nI hz (by omega)
  have hcl : (nI (ql_p h rg e)).toNatClampNeg = ql_p h rg e := nI_clamp (by omega)
  refine ⟨vp_in_nI hc0 (by omega), fun y ey z ez => br_t (nI_lt (b := 32) he (by decide)) ?_⟩
  rw [nI_clamp (by omega)] at ey
  rw [ey, ez]
  refine qx_insert R he hc hT (fun rg' H => ?_)
  refine ⟨hin, nm_r (by rw [hcl]) ⟨hin, nm_r (by rw [hcl]) ⟨hin, nm_r (by rw [hcl]) ⟨hin, nm_r (by rw [hcl]) ⟨hin, nm_r (by rw [hcl]) ⟨hin, nm_r (by rw [hcl]) (hp rg' H)⟩⟩⟩⟩⟩⟩
/-- the value of a line at a time -/
theorem qx_val21 {post : Int32 → Prop} {a : Nat} {t : Int} (R : qp_R h rg) (ha : a < 8) : ∀ m n : Nat, m ≤ 32 → m < n → (∀ i, i < m → ql_t ((ql_x h rg lS lC lK lL lV lT) i) ≤ t) → post (ql_V (ql_L (ql_x h rg lS lC lK lL lV lT) m) (im a) a t) → wX_valueAt_21 post (nI a) (nI C) (nI N) wy ls (nI h) (nI e) sp g ck cf rs st kd tg vl gF gU cr sa fr un da wr ld ow im me lS lC lK lL lV lT rg n (nI m - 1) := by
  intro m
  induction m with
  | zero =>
    intro n _ hn _ hp
    obtain ⟨n', rfl⟩ : ∃ n', n = n' + 1 := ⟨n - 1, by omega⟩
    refine br_t (by decide) ⟨vp_in_nI ha (by omega), ?_⟩
    rw [nI_clamp (by omega)]
    exact hp
  | succ m ih =>
    intro n hm hn hle hp
    obtain ⟨n', rfl⟩ : ∃ n', n = n' + 1 := ⟨n - 1, by omega⟩
    rw [ql_L_s, ql_V_app, ql_V_cons] at hp
    have hz := qp_plt R m
    have hin : vp_in (nI (ql_p h rg m)) 32 := vp_in_nI hz (by omega)
    have hcl : (nI (ql_p h rg m)).toNatClampNeg = ql_p h rg m := nI_clamp (by omega)
    have hnx : ¬ ql_hit a t ((ql_x h rg lS lC lK lL lV lT) m) = true → ∀ y, y = nI m + (-1) → wX_valueAt_21 post (nI a) (nI C) (nI N) wy ls (nI h) (nI e) sp g ck cf rs st kd tg vl gF gU cr sa fr un da wr ld ow im me lS lC lK lL lV lT rg n' y := by
      intro hh y ey
      rw [if_neg hh] at hp
      rw [ey, ← Int32.sub_eq_add_neg]
      exact ih n' (by omega) (by omega) (fun i hi => hle i (by omega)) hp
    rw [nI_pred]
    refine br_f (nI_pos (by omega)) (qx_slot R (by omega) ⟨hin, ?_⟩)
    rw [hcl]
    by_cases hk : lK (ql_p h rg m) = 2
    · refine br_t hk ⟨hin, ?_⟩
      by_cases hl : lL (ql_p h rg m) = nI a
      · have hh : ql_hit a t ((ql_x h rg lS lC lK lL lV lT) m) = true := ql_hit_iff.mpr ⟨hk, hl, hle m (by omega)⟩
        rw [if_pos hh] at hp
        exact br_t hl ⟨hin, hp⟩
      · exact br_f hl (hnx (fun z => hl (ql_hit_iff.mp z).2.1))
    · exact br_f hk (hnx (fun z => hk (ql_hit_iff.mp z).1))
end QLX
end
section
section QLY
variable {C N h e : Nat} {wy ls sp g : Int32} {ck cf rs st kd tg vl gF gU cr sa fr un da wr ld ow im me lS lC lK lL lV lT rg bf bu mS mC mK mL mV mT : Nat → Int32}
/-! the reference's log -/
theorem qy_after {post : Int32 → Prop} {i j : Nat} (hi : i < 32) (hj : j < 32) (h1 : ql_lt ((ql_en mS mC mK mL mV mT) j) ((ql_en mS mC mK mL mV mT) i) → post 1) (h0 : ¬ ql_lt ((ql_en mS mC mK mL mV mT) j) ((ql_en mS mC mK mL mV mT) i) → post 0) : wpY_after post ((nI C), (nI N), wy, ls, g, sp, (nI e), ck, cf, rs, st, kd, tg, vl, gF, gU, wr, ld, ow, im, sa, bf, bu, mS, mC, mK, mL, mV, mT) (nI i) (nI j) := by
  have hin : vp_in (nI i) 32 := vp_in_nI hi (by omega)
  have hjn : vp_in (nI j) 32 := vp_in_nI hj (by omega)
  have ci : (nI i).toNatClampNeg = i := nI_clamp (by omega)
  have cj : (nI j).toNatClampNeg = j := nI_clamp (by omega)
  have H1 : (mT j).toInt < (mT i).toInt ∨ ((mT j).toInt = (mT i).toInt ∧ (mS j).toInt < (mS i).toInt) → post 1 := h1
  have H0 : ¬ ((mT j).toInt < (mT i).toInt ∨ ((mT j).toInt = (mT i).toInt ∧ (mS j).toInt < (mS i).toInt)) → post 0 := h0
  refine ⟨hin, hjn, ?_⟩
  rw [ci, cj]
  by_cases a1 : mT j < mT i
  · exact br_t a1 (H1 (Or.inl (qa_lt.mp a1)))
  · refine br_f a1 ⟨hin, hjn, ?_⟩
    rw [qa_lt] at a1
    by_cases a2 : mT i = mT j
    · refine br_t a2 ⟨hin, hjn, ?_⟩
      by_cases a3 : mS i ≤ mS j
      · rw [qa_le] at a3
        exact br_t (qa_le.mpr a3) (H0 (by omega))
      · refine br_f a3 (H1 ?_)
        rw [qa_le] at a3
        rw [a2]
        omega
    · refine br_f a2 (H0 ?_)
      have : (mT i).toInt ≠ (mT j).toInt := fun z => a2 (qa_ext z)
      omega
theorem ql_trans {x y z : ql_E} (h1 : ql_lt x y) (h2 : ql_lt y z) : ql_lt x z := by unfold ql_lt at *; omega
def qy_best (f : Nat → ql_E) (a : Nat) (t : Int) (j : Nat) (x : Int32) : Prop :=
  (x = -1 ∧ ∀ i, i < j → ¬ ql_hit a t (f i) = true) ∨ (∃ b, b < j ∧ x = nI b ∧ ql_hit a t (f b) = true ∧ ∀ i, i < j → ql_hit a t (f i) = true → f i = f b ∨ ql_lt (f i) (f b))
/-- any two of the log are comparable -/
def qy_tot (f : Nat → ql_E) (e : Nat) : Prop := ∀ i j, i < e → j < e → f i = f j ∨ ql_lt (f i) (f j) ∨ ql_lt (f j) (f i)
theorem qy_best_no {f : Nat → ql_E} {a j : Nat} {t : Int} {x : Int32} (B : qy_best f a t j x) (hn : ¬ ql_hit a t (f j) = true) : qy_best f a t (j + 1) x := by
  rcases B with ⟨h1, h2⟩ | ⟨b, hb, h1, h2, h3⟩
  · refine Or.inl ⟨h1, fun i hi => ?_⟩
    by_cases hij : i = j
    · rw [hij]; exact hn
    · exact h2 i (by omega)
  · refine Or.inr ⟨b, by omega, h1, h2, fun i hi hh => ?_⟩
    by_cases hij : i = j
    · rw [hij] at hh; exact absurd hh hn
    · exact h3 i (by omega) hh
theorem qy_val15 {post : Int32 → Prop} {a : Nat} {t : Int32} (ha : a < 8) (he : e ≤ 32) (tot : qy_tot (ql_en mS mC mK mL mV mT) e) (hp : ∀ v : Int32, ((∀ i, i < e → ¬ ql_hit a t.toInt ((ql_en mS mC mK mL mV mT) i) = true) → v = im a) → (∀ b, b < e → ql_hit a t.toInt ((ql_en mS mC mK mL mV mT) b) = true → (∀ i, i < e → ql_hit a t.toInt ((ql_en mS mC mK mL mV mT) i) = true → (ql_en mS mC mK mL mV mT) i = (ql_en mS mC mK mL mV mT) b ∨ ql_lt ((ql_en mS mC mK mL mV mT) i) ((ql_en mS mC mK mL mV mT) b)) → v = mV b) → post v) : ∃ n, wY_valueAt_15 post (nI a) t (nI C) (nI N) wy ls g sp (nI e) ck cf rs st kd tg vl gF gU wr ld ow im sa bf bu mS mC mK mL mV mT n (-1) 0 := by
  refine loop_0 (fun n j (x : Int32) => wY_valueAt_15 post (nI a) t (nI C) (nI N) wy ls g sp (nI e) ck cf rs st kd tg vl gF gU wr ld ow im sa bf bu mS mC mK mL mV mT n x (nI j)) (fun j x => qy_best (ql_en mS mC mK mL mV mT) a t.toInt j x) e (-1) (Or.inl ⟨rfl, fun i hi => by omega⟩) ?_ ?_
  · intro n x B
    refine br_t (nI_le (Nat.le_refl _) (by omega)) ?_
    rcases B with ⟨rfl, hno⟩ | ⟨b, hb, rfl, hh, hm⟩
    · refine br_f (by decide) ⟨vp_in_nI ha (by omega), ?_⟩
      rw [nI_clamp (by omega)]
      refine hp _ (fun _ => rfl) (fun b hb hh _ => absurd hh (hno b hb))
    · refine br_t (nI_pos' (by omega)) ⟨vp_in_nI (by omega) (by omega), ?_⟩
      rw [nI_clamp (by omega)]
      refine hp _ (fun hno => absurd hh (hno b hb)) (fun b' hb' hh' hm' => ?_)
      have e1 : (ql_en mS mC mK mL mV mT) b = (ql_en mS mC mK mL mV mT) b' := by
        rcases hm b' hb' hh' with z | z
        · exact z.symm
        · rcases hm' b hb hh with w | w
          · exact w
          · exact absurd z (ql_asy w)
      exact congrArg (fun x : ql_E => x.2.2.2.2.1) e1
  · intro n j x hj B hn
    have hin : vp_in (nI j) 32 := vp_in_nI (by omega) (by omega)
    have hcl : (nI j).toNatClampNeg = j := nI_clamp (by omega)
    have hnx : ∀ x', qy_best (ql_en mS mC mK mL mV mT) a t.toInt (j + 1) x' → ∀ y, y = nI j + 1 → wY_valueAt_15 post (nI a) t (nI C) (nI N) wy ls g sp (nI e) ck cf rs st kd tg vl gF gU wr ld ow im sa bf bu mS mC mK mL mV mT n x' y := by
      intro x' B' y ey
      rw [ey, nI_1]
      exact hn x' B'
    have hno : ¬ ql_hit a t.toInt ((ql_en mS mC mK mL mV mT) j) = true → ∀ y, y = nI j + 1 → wY_valueAt_15 post (nI a) t (nI C) (nI N) wy ls g sp (nI e) ck cf rs st kd tg vl gF gU wr ld ow im sa bf bu mS mC mK mL mV mT n x y := fun z => hnx x (qy_best_no B z)
    refine br_f (nI_ge hj (by omega)) ⟨hin, ?_⟩
    rw [hcl]
    by_cases hk : mK j = 2
    · refine br_t hk ⟨hin, ?_⟩
      by_cases hl : mL j = nI a
      · refine br_t hl ⟨hin, ?_⟩
        by_cases ht : t < mT j
        · refine br_t ht (hno (fun z => ?_))
          have h1 : (mT j).toInt ≤ t.toInt := (ql_hit_iff.mp z).2.2
          rw [qa_lt] at ht
          omega
        · have hh : ql_hit a t.toInt ((ql_en mS mC mK mL mV mT) j) = true := by
            refine ql_hit_iff.mpr ⟨hk, hl, ?_⟩
            show (mT j).toInt ≤ t.toInt
            rw [qa_lt] at ht
            omega
          refine br_f ht ?_
          rcases B with ⟨rfl, hB⟩ | ⟨b, hb, rfl, hhb, hm⟩
          · refine br_t (by decide) (hnx (nI j) (Or.inr ⟨j, by omega, rfl, hh, fun i hi hi2 => ?_⟩))
            by_cases hij : i = j
            · rw [hij]; exact Or.inl rfl
            · exact absurd hi2 (hB i (by omega))
          · refine br_f (nI_pos (by omega)) (qy_after (by omega) (by omega) (fun hlt => ?_) (fun hnl => ?_))
            · refine br_f (by decide) (hnx (nI j) (Or.inr ⟨j, by omega, rfl, hh, fun i hi hi2 => ?_⟩))
              by_cases hij : i = j
              · rw [hij]; exact Or.inl rfl
              · rcases hm i (by omega) hi2 with z | z
                · rw [z]; exact Or.inr hlt
                · exact Or.inr (ql_trans z hlt)
            · refine br_t rfl (hnx (nI b) (Or.inr ⟨b, by omega, rfl, hhb, fun i hi hi2 => ?_⟩))
              by_cases hij : i = j
              · rw [hij]
                rcases tot j b hj (by omega) with z | z | z
                · exact Or.inl z
                · exact Or.inr z
                · exact absurd z hnl
              · exact hm i (by omega) hi2
      · exact br_f hl (hno (fun z => hl (ql_hit_iff.mp z).2.1))
    · exact br_f hk (hno (fun z => hk (ql_hit_iff.mp z).1))
theorem qy_totL {f fy : Nat → ql_E} (hp : (ql_L f e).Perm (ql_L fy e)) (hs : ∀ i j, i < j → j < e → ql_lt (f i) (f j)) : qy_tot fy e := by
  intro i j hi hj
  obtain ⟨i', hi', e1⟩ := ql_L_mem.mp ((hp.mem_iff).mpr (ql_L_in hi))
  obtain ⟨j', hj', e2⟩ := ql_L_mem.mp ((hp.mem_iff).mpr (ql_L_in hj))
  rw [e1, e2]
  by_cases h1 : i' < j'
  · exact Or.inr (Or.inl (hs i' j' h1 hj'))
  · by_cases h2 : j' < i'
    · exact Or.inr (Or.inr (hs j' i' h2 hi'))
    · have : i' = j' := by omega
      rw [this]; exact Or.inl rfl
/-- the reference's search gives the value over the sorted history -/
theorem qy_valV {f fy : Nat → ql_E} {a : Nat} {t : Int} {d v : Int32} (hp : (ql_L f e).Perm (ql_L fy e)) (hs : ∀ i j, i < j → j < e → ql_lt (f i) (f j)) (h0 : (∀ i, i < e → ¬ ql_hit a t (fy i) = true) → v = d) (h1 : ∀ b, b < e → ql_hit a t (fy b) = true → (∀ i, i < e → ql_hit a t (fy i) = true → fy i = fy b ∨ ql_lt (fy i) (fy b)) → v = (fy b).2.2.2.2.1) : v = ql_V (ql_L f e) d a t := by
  by_cases hex : ∃ i, i < e ∧ ql_hit a t (f i) = true
  · -- the last hit
    have key : ∀ n, n ≤ e → (∃ i, i < n ∧ ql_hit a t (f i) = true) → ∃ m, m < n ∧ ql_hit a t (f m) = true ∧ ∀ i, m < i → i < n → ¬ ql_hit a t (f i) = true := by
      intro n
      induction n with
      | zero => intro _ ⟨i, hi, _⟩; omega
      | succ n ih =>
        intro hn ⟨i, hi, hh⟩
        by_cases hx : ql_hit a t (f n) = true
        · exact ⟨n, by omega, hx, fun i h1 h2 => by omega⟩
        · have hin : i ≠ n := fun z => by rw [z] at hh; exact hx hh
          obtain ⟨m, hm, h2, h3⟩ := ih (by omega) ⟨i, by omega, hh⟩
          refine ⟨m, by omega, h2, fun j hj1 hj2 => ?_⟩
          by_cases hjn : j = n
          · rw [hjn]; exact hx
          · exact h3 j hj1 (by omega)
    obtain ⟨m, hm, hh, hmax⟩ := key e (Nat.le_refl _) hex
    have hmax' : ∀ y, y ∈ ql_L f e → ql_hit a t y = true → y = f m ∨ ql_lt y (f m) := by
      intro y hy hyh
      obtain ⟨i, hi, rfl⟩ := ql_L_mem.mp hy
      by_cases h1 : m < i
      · exact absurd hyh (hmax i h1 hi)
      · by_cases h2 : i = m
        · rw [h2]; exact Or.inl rfl
        · exact Or.inr (hs i m (by omega) hm)
    rw [ql_V_max (ql_L_pw hs) (ql_L_in hm) hh hmax']
    obtain ⟨b, hb, eb⟩ := ql_L_mem.mp ((hp.mem_iff).mp (ql_L_in (f := f) hm))
    rw [eb]
    rw [eb] at hh
    refine h1 b hb hh (fun i hi hih => ?_)
    have := hmax' _ ((hp.mem_iff).mpr (ql_L_in hi)) hih
    rw [eb] at this
    exact this
  · rw [ql_V_no]
    · apply h0
      intro i hi hh
      obtain ⟨i', hi', e1⟩ := ql_L_mem.mp ((hp.mem_iff).mpr (ql_L_in hi))
      rw [e1] at hh
      exact hex ⟨i', hi', hh⟩
    · intro y hy hyh
      obtain ⟨i, hi, rfl⟩ := ql_L_mem.mp hy
      exact hex ⟨i, hi, hyh⟩
theorem qy_val {k a : Nat} {t : Int32} {post : Int32 → Prop} (L : (qp_L N k h e sp rg lS lC lK lL lV lT mS mC mK mL mV mT wr)) (hN : N ≤ 8) (ha : a < N) (hp : post ((qp_V h e rg lS lC lK lL lV lT im) a t.toInt)) : wpY_valueAt post ((nI C), (nI N), wy, ls, g, sp, (nI e), ck, cf, rs, st, kd, tg, vl, gF, gU, wr, ld, ow, im, sa, bf, bu, mS, mC, mK, mL, mV, mT) (nI a) t := by
  obtain ⟨he, _, R, hperm, hsort, _⟩ := L
  unfold wpY_valueAt
  dsimp only
  refine qy_blF ha hN (br_t rfl (qy_val15 (a := a) (by omega) he (qy_totL hperm hsort) (fun v h0 h1 => ?_)))
  have : v = (qp_V h e rg lS lC lK lL lV lT im) a t.toInt := qy_valV hperm hsort h0 h1
  rw [this]
  exact hp
theorem qx_cutL {k : Nat} (L : (qp_L N k h e sp rg lS lC lK lL lV lT mS mC mK mL mV mT wr)) (t : Int) : ∃ c, c ≤ e ∧ ∀ i, i < e → (ql_t ((ql_x h rg lS lC lK lL lV lT) i) ≤ t ↔ i < c) := by
  obtain ⟨he, _, R, hperm, hsort, _⟩ := L
  refine ql_cut (T := fun i => ql_t ((ql_x h rg lS lC lK lL lV lT) i)) e (fun i j hij hj => ?_)
  have := hsort i j hij hj
  unfold ql_lt at this
  omega
theorem qx_val {k a : Nat} {t : Int32} {post : Int32 → Prop} (L : (qp_L N k h e sp rg lS lC lK lL lV lT mS mC mK mL mV mT wr)) (hN : N ≤ 8) (ha : a < N) (hp : post ((qp_V h e rg lS lC lK lL lV lT im) a t.toInt)) : wpX_valueAt post ((nI C), (nI N), wy, ls, (nI h), (nI e), sp, g, ck, cf, rs, st, kd, tg, vl, gF, gU, cr, sa, fr, un, da, wr, ld, ow, im, me, lS, lC, lK, lL, lV, lT, rg) (nI a) t := by
  obtain ⟨c, hc, hcut⟩ := qx_cutL L t.toInt
  obtain ⟨he, _, R, hperm, hsort, _⟩ := L
  unfold wpX_valueAt
  dsimp only
  refine qx_blF ha hN (br_t rfl (qx_cut R he hc hcut (fun y ey => ⟨c + 1, ?_⟩)))
  rw [ey]
  refine qx_val21 (t := t.toInt) R (by omega) c (c + 1) (by omega) (by omega) (fun i hi => (hcut i (by omega)).mpr hi) ?_
  have : ql_V (ql_L (ql_x h rg lS lC lK lL lV lT) c) (im a) a t.toInt = (qp_V h e rg lS lC lK lL lV lT im) a t.toInt := by
    unfold qp_V
    rw [ql_L_split (ql_x h rg lS lC lK lL lV lT) hc, ql_V_app]
    refine (ql_V_no (fun y hy hh => ?_)).symm
    obtain ⟨i, hi, rfl⟩ := ql_L_mem.mp hy
    have := (hcut (c + i) (by omega)).mp (ql_hit_iff.mp hh).2.2
    omega
  rw [this]
  exact hp
theorem qy_fin {post : SY → Prop} {c a : Nat} {kk v t : Int32} (he : e < 32) (hc : c < 4) (hp1 : kk = 1 → post ((nI C), (nI N), wy, ls, g, (sp + 1), (nI (e + 1)), (upd ck c t), cf, (upd rs c v), st, kd, tg, vl, gF, gU, wr, ld, ow, im, sa, bf, bu, (upd mS e (sp + 1)), (upd mC e (nI c)), (upd mK e kk), (upd mL e (nI a)), (upd mV e v), (upd mT e t))) (hp2 : ¬ kk = 1 → post ((nI C), (nI N), wy, ls, g, (sp + 1), (nI (e + 1)), (upd ck c t), cf, rs, st, kd, tg, vl, gF, gU, wr, ld, ow, im, sa, bf, bu, (upd mS e (sp + 1)), (upd mC e (nI c)), (upd mK e kk), (upd mL e (nI a)), (upd mV e v), (upd mT e t))) : wpY_finish post ((nI C), (nI N), wy, ls, g, sp, (nI e), ck, cf, rs, st, kd, tg, vl, gF, gU, wr, ld, ow, im, sa, bf, bu, mS, mC, mK, mL, mV, mT) (nI c) kk (nI a) v t := by
  have hin : vp_in (nI e) 32 := vp_in_nI he (by omega)
  have hlt : nI e < 32 := nI_lt (b := 32) he (by decide)
  have hcl : (nI e).toNatClampNeg = e := nI_clamp (by omega)
  have hcc : (nI c).toNatClampNeg = c := nI_clamp (by omega)
  have hic : vp_in (nI c) 4 := vp_in_nI hc (by omega)
  refine ⟨hic, nm_r (by rw [hcc]) (nm_e ?_)⟩
  by_cases hk : kk = 1
  · refine br_t hk ⟨hic, nm_r (by rw [hcc]) (br_t hlt ?_)⟩
    exact ⟨hin, nm_r (by rw [hcl]) ⟨hin, nm_r (by rw [hcl]) ⟨hin, nm_r (by rw [hcl]) ⟨hin, nm_r (by rw [hcl]) ⟨hin, nm_r (by rw [hcl]) ⟨hin, nm_r (by rw [hcl]) (nm_r (nI_1 e) (hp1 hk))⟩⟩⟩⟩⟩⟩
  · refine br_f hk (br_t hlt ?_)
    exact ⟨hin, nm_r (by rw [hcl]) ⟨hin, nm_r (by rw [hcl]) ⟨hin, nm_r (by rw [hcl]) ⟨hin, nm_r (by rw [hcl]) ⟨hin, nm_r (by rw [hcl]) ⟨hin, nm_r (by rw [hcl]) (nm_r (nI_1 e) (hp2 hk))⟩⟩⟩⟩⟩⟩
end QLY
end
section
section QR
variable {C N h e : Nat} {wy ls sp g : Int32} {ck cf rs st kd tg vl gF gU cr sa fr un da wr ld ow im me lS lC lK lL lV lT rg bf bu mS mC mK mL mV mT : Nat → Int32}
variable {V V' : Nat → Int → Int32} {ck' cf' st' kd' tg' gF' gU' cr' sa' fr' un' da' wr' ld' ow' me' bf' bu' : Nat → Int32}
theorem qp_inj : ∀ x y : Nat, x < 8 → y < 8 → nI x = nI y → x = y := fun _ _ hx hy h => qa_inj h (by omega) (by omega)
theorem qp_nm1 : ∀ x : Nat, x < 8 → ¬ nI x = -1 := fun _ hx => qa_nm1 (by omega)
/-! moves: one line -/
theorem qp_M_fr {a : Nat} (M : (qp_M1 C a st kd tg ow sa cr da me wr ld cf V)) (how : ow' a = ow a) (hme : me' a = me a) (hwr : V' a (wr' a).toInt = V a (wr a).toInt) (hsa : ∀ d, d < C → (sa' (d * 8 + a) = 2 ↔ sa (d * 8 + a) = 2)) (hda : ∀ d, d < C → sa (d * 8 + a) = 2 → da' (d * 8 + a) = da (d * 8 + a)) (hp : ∀ j, j < C → (tg' j = nI a ↔ tg j = nI a) ∧ (tg j = nI a → st' j = st j ∧ kd' j = kd j ∧ cr' j = cr j)) (hb : (∀ d, d < C → (ld a).toInt < (cf d).toInt + 31) → ∀ d, d < C → (ld' a).toInt < (cf' d).toInt + 31) : (qp_M1 C a st' kd' tg' ow' sa' cr' da' me' wr' ld' cf' V') := by
  unfold qp_M1 qp_mv at *
  obtain ⟨m1, m2, m3, m4, m5⟩ := M
  refine ⟨?_, ?_, ?_, ?_, ?_⟩ <;> grind (splits := 20)
theorem qp_M_xl {a c : Nat} (M : (qp_M1 C a st kd tg ow sa cr da me wr ld cf V)) (hc : c < C) (hx : sa (c * 8 + a) = 2) (hV : V' a (wr a).toInt = V a (wr a).toInt) : (qp_M1 C a st kd tg ow sa cr da me wr ld' cf V') := by
  unfold qp_M1 qp_mv at *
  obtain ⟨m1, m2, m3, m4, m5⟩ := M
  refine ⟨?_, ?_, ?_, ?_, ?_⟩ <;> grind (splits := 20)
theorem qp_M_st {a c : Nat} {v : Int32} (hC : C ≤ 4) (ha : a < 8) (M : (qp_M1 C a st kd tg ow sa cr da me wr ld cf V)) (hc : c < C) (hx : sa (c * 8 + a) = 2) (hda : da' (c * 8 + a) = v) (hV : V' a (wr' a).toInt = v) : (qp_M1 C a st kd tg ow sa cr da' me wr' ld' cf V') := by
  have J1 := qp_nm1
  have J := qp_inj
  unfold qp_M1 qp_mv at *
  obtain ⟨m1, m2, m3, m4, m5⟩ := M
  refine ⟨?_, ?_, ?_, ?_, ?_⟩ <;> grind (splits := 20)
theorem qp_M_ev {a c : Nat} (hC : C ≤ 4) (ha : a < 8) (M : (qp_M1 C a st kd tg ow sa cr da me wr ld cf V)) (hc : c < C) (ht : tg c = -1) (hx : sa (c * 8 + a) = 2) (hn : ∀ j, j < C → ¬ (j ≠ c ∧ tg j = nI a ∧ st j = 2)) : (qp_M1 C a (upd st c 3) (upd kd c 3) (upd tg c (nI a)) ow (upd sa (c * 8 + a) 0) (upd cr c (da (c * 8 + a))) (upd da (c * 8 + a) 0) me wr ld cf V) := by
  have J := qp_inj
  have J1 := qp_nm1
  unfold qp_M1 qp_mv upd at *
  obtain ⟨m1, m2, m3, m4, m5⟩ := M
  refine ⟨?_, ?_, ?_, ?_, ?_⟩ <;> grind (splits := 20)
theorem qp_M_g {a c : Nat} (hC : C ≤ 4) (ha : a < 8) (M : (qp_M1 C a st kd tg ow sa cr da me wr ld cf V)) (hc : c < C) (ht : tg c = nI a) (hs : st c = 1) (ho : ¬ ow a = -1) (hn : ∀ j, j < C → ¬ qs_tr st kd tg c a j) : (qp_M1 C a (upd st c 2) kd tg ow sa cr da me wr ld cf V) := by
  unfold qp_M1 qp_mv upd at *
  unfold qs_tr qp_mv at hn
  obtain ⟨m1, m2, m3, m4, m5⟩ := M
  refine ⟨?_, ?_, ?_, ?_, ?_⟩ <;> grind (splits := 20)
theorem qp_M_gl {a c : Nat} (hC : C ≤ 4) (ha : a < 8) (M : (qp_M1 C a st kd tg ow sa cr da me wr ld cf V)) (hc : c < C) (ht : tg c = nI a) (hk : kd c = 1) (hn : ∀ j, j < C → j ≠ c → ¬ qp_mv st kd tg j a) (hx : ∀ d, d < C → sa (d * 8 + a) ≠ 2) (ho : ow' a = -1) (hm : me' a = V a (wr a).toInt) : (qp_M1 C a (upd st c 4) kd tg ow' sa cr' da me' wr ld' cf V) := by
  have J1 := qp_nm1
  unfold qp_M1 qp_mv upd at *
  obtain ⟨m1, m2, m3, m4, m5⟩ := M
  refine ⟨?_, ?_, ?_, ?_, ?_⟩ <;> grind (splits := 20)
theorem qp_M_gs {a c : Nat} (hC : C ≤ 4) (ha : a < 8) (M : (qp_M1 C a st kd tg ow sa cr da me wr ld cf V)) (hc : c < C) (ht : tg c = nI a) (hk : kd c = 2) (hn : ∀ j, j < C → j ≠ c → ¬ qp_mv st kd tg j a) (hx : ∀ d, d < C → sa (d * 8 + a) ≠ 2) (ho : ow' a = nI c) (hl : ∀ d, d < C → (ld a).toInt < (cf d).toInt + 31) : (qp_M1 C a (upd st c 4) kd tg ow' sa cr' da me' wr ld cf V) := by
  have J1 := qp_nm1
  unfold qp_M1 qp_mv upd at *
  obtain ⟨m1, m2, m3, m4, m5⟩ := M
  refine ⟨?_, ?_, ?_, ?_, ?_⟩ <;> grind (splits := 20)
theorem qp_M_rc {a c o : Nat} (hC : C ≤ 4) (ha : a < 8) (M : (qp_M1 C a st kd tg ow sa cr da me wr ld cf V)) (hc : c < C) (ho : o < C) (ht : tg c = nI a) (hs : st c = 2) (hw : ow a = nI o) (hx : sa (o * 8 + a) = 2) (hs' : ∀ d, d < C → d ≠ o → sa' (d * 8 + a) = sa (d * 8 + a)) (hso : sa' (o * 8 + a) ≠ 2) : (qp_M1 C a (upd st c 3) kd tg ow sa' (upd cr c (da (o * 8 + a))) da' me wr ld cf V) := by
  have J := qp_inj
  have J1 := qp_nm1
  unfold qp_M1 qp_mv upd at *
  obtain ⟨m1, m2, m3, m4, m5⟩ := M
  refine ⟨?_, ?_, ?_, ?_, ?_⟩ <;> grind (splits := 20)
theorem qp_M_re {a c : Nat} (hC : C ≤ 4) (ha : a < 8) (M : (qp_M1 C a st kd tg ow sa cr da me wr ld cf V)) (hc : c < C) (ht : tg c = nI a) (hs : st c = 3) (ho : ow' a = -1) (hm : me' a = cr c) : (qp_M1 C a (upd st c 0) (upd kd c 0) (upd tg c (-1)) ow' sa cr da me' wr ld cf V) := by
  have J1 := qp_nm1
  unfold qp_M1 qp_mv upd at *
  obtain ⟨m1, m2, m3, m4, m5⟩ := M
  refine ⟨?_, ?_, ?_, ?_, ?_⟩ <;> grind (splits := 20)
theorem qp_M_dl {a c : Nat} (hC : C ≤ 4) (ha : a < 8) (M : (qp_M1 C a st kd tg ow sa cr da me wr ld cf V)) (hc : c < C) (ht : tg c = nI a) (hs : st c = 4) (hk : kd c = 1) (hs' : ∀ d, d < C → d ≠ c → sa' (d * 8 + a) = sa (d * 8 + a)) (hd' : ∀ d, d < C → d ≠ c → da' (d * 8 + a) = da (d * 8 + a)) (hso : sa' (c * 8 + a) ≠ 2) (hV : V' a (wr a).toInt = V a (wr a).toInt) : (qp_M1 C a (upd st c 0) (upd kd c 0) (upd tg c (-1)) ow sa' cr da' me wr ld cf V') := by
  have J := qp_inj
  have J1 := qp_nm1
  unfold qp_M1 qp_mv upd at *
  obtain ⟨m1, m2, m3, m4, m5⟩ := M
  refine ⟨?_, ?_, ?_, ?_, ?_⟩ <;> grind (splits := 20)
theorem qp_M_ds {a c : Nat} {v : Int32} (hC : C ≤ 4) (ha : a < 8) (M : (qp_M1 C a st kd tg ow sa cr da me wr ld cf V)) (hc : c < C) (ht : tg c = nI a) (hs : st c = 4) (hk : kd c = 2) (hs' : ∀ d, d < C → d ≠ c → sa' (d * 8 + a) = sa (d * 8 + a)) (hd' : da' (c * 8 + a) = v) (hso : sa' (c * 8 + a) = 2) (hV : V' a (wr' a).toInt = v) : (qp_M1 C a (upd st c 0) (upd kd c 0) (upd tg c (-1)) ow sa' cr da' me wr' ld' cf V') := by
  have J := qp_inj
  have J1 := qp_nm1
  unfold qp_M1 qp_mv upd at *
  obtain ⟨m1, m2, m3, m4, m5⟩ := M
  refine ⟨?_, ?_, ?_, ?_, ?_⟩ <;> grind (splits := 20)
end QR
end
section
section QR2
variable {C N h e : Nat} {wy ls sp g : Int32} {ck cf rs st kd tg vl gF gU cr sa fr un da wr ld ow im me lS lC lK lL lV lT rg bf bu mS mC mK mL mV mT : Nat → Int32}
variable {V V' : Nat → Int → Int32} {ck' cf' st' kd' tg' gF' gU' cr' sa' fr' un' da' wr' ld' ow' me' bf' bu' : Nat → Int32}
/-! shared copies -/
theorem qp_S_ld (S : (qp_S C N g cf sa fr un bf bu da ld V)) (hld : ∀ b, b < N → (ld b).toInt ≤ (ld' b).toInt) (hV : ∀ b, b < N → ∀ s : Int, s ≤ (ld b).toInt → V' b s = V b s) : (qp_S C N g cf sa fr un bf bu da ld' V') := by
  intro c hc a ha
  obtain ⟨s1, s2, s3⟩ := S c hc a ha
  refine ⟨s1, s2, fun z => ?_⟩
  obtain ⟨h1, h2, h3, h4, h5, h6, h7⟩ := s3 z
  have := hld a ha
  refine ⟨h1, h2, h3, h4, by omega, h6, fun t t1 t2 => ?_⟩
  rw [hV a ha t (by omega)]
  exact h7 t t1 t2
theorem qp_S_at {c a : Nat} (hN : N ≤ 8) (ha : a < N) (S : (qp_S C N g cf sa fr un bf bu da ld V)) (hne : ∀ j, j ≠ c * 8 + a → sa' j = sa j ∧ fr' j = fr j ∧ un' j = un j ∧ da' j = da j ∧ bf' j = bf j ∧ bu' j = bu j) (hat : (sa' (c * 8 + a) = 0 ∧ fr' (c * 8 + a) = 0 ∧ un' (c * 8 + a) = 0) ∨ (sa' (c * 8 + a) = 1 ∧ bf' (c * 8 + a) = fr' (c * 8 + a) ∧ bu' (c * 8 + a) = un' (c * 8 + a) ∧ 0 ≤ (fr' (c * 8 + a)).toInt ∧ (fr' (c * 8 + a)).toInt ≤ (un' (c * 8 + a)).toInt ∧ (un' (c * 8 + a)).toInt ≤ (ld a).toInt ∧ (cf c = g → g.toInt ≤ (fr' (c * 8 + a)).toInt) ∧ ∀ t : Int, (fr' (c * 8 + a)).toInt ≤ t → t ≤ (un' (c * 8 + a)).toInt → da' (c * 8 + a) = V a t) ∨ sa' (c * 8 + a) = 2) : (qp_S C N g cf sa' fr' un' bf' bu' da' ld V) := by
  intro d hd b hb
  by_cases hi : d * 8 + b = c * 8 + a
  · have e1 : d = c := by omega
    have e2 : b = a := by omega
    rw [e1, e2]
    rcases hat with ⟨z, z1, z2⟩ | ⟨z, z1⟩ | z
    · exact ⟨Or.inl z, fun _ => ⟨z1, z2⟩, fun w => by rw [z] at w; exact absurd w (by decide)⟩
    · exact ⟨Or.inr (Or.inl z), fun w => by rw [z] at w; exact absurd w (by decide), fun _ => z1⟩
    · exact ⟨Or.inr (Or.inr z), fun w => by rw [z] at w; exact absurd w (by decide), fun w => by rw [z] at w; exact absurd w (by decide)⟩
  · obtain ⟨h1, h2, h3, h4, h5, h6⟩ := hne _ hi
    rw [h1, h2, h3, h4, h5, h6]
    exact S d hd b hb
/-! load grants -/
theorem qp_G_at {c : Nat} (G : (qp_G C N g cf ck st kd tg gF gU cr ld V)) (hj : ∀ j, j < C → j ≠ c → tg' j = tg j ∧ st' j = st j ∧ kd' j = kd j ∧ gF' j = gF j ∧ gU' j = gU j ∧ cr' j = cr j ∧ ck' j = ck j) (hld : ∀ b, b < N → (ld b).toInt ≤ (ld' b).toInt) (hV : ∀ b, b < N → ∀ s : Int, s ≤ (ld b).toInt → V' b s = V b s) (hat : ∀ a, a < N → tg' c = nI a → st' c = 4 → kd' c = 1 → 0 ≤ (gF' c).toInt ∧ (gF' c).toInt ≤ (gU' c).toInt ∧ (gU' c).toInt ≤ (ld' a).toInt ∧ (ck' c).toInt ≤ (gU' c).toInt ∧ (cf c = g → g.toInt ≤ (gF' c).toInt) ∧ ∀ t : Int, (gF' c).toInt ≤ t → t ≤ (gU' c).toInt → cr' c = V' a t) : (qp_G C N g cf ck' st' kd' tg' gF' gU' cr' ld' V') := by
  intro d hd a ha ht hs hk
  by_cases hdc : d = c
  · rw [hdc] at ht hs hk ⊢
    exact hat a ha ht hs hk
  · obtain ⟨h1, h2, h3, h4, h5, h6, h7⟩ := hj d hd hdc
    rw [h1] at ht
    rw [h2] at hs
    rw [h3] at hk
    rw [h4, h5, h6, h7]
    obtain ⟨g1, g2, g3, g4, g5, g6⟩ := G d hd a ha ht hs hk
    have := hld a ha
    refine ⟨g1, g2, by omega, g4, g5, fun t t1 t2 => ?_⟩
    rw [hV a ha t (by omega)]
    exact g6 t t1 t2
/-! times -/
theorem qp_T_up {k : Nat} (T : (qp_T C N k g cf ck wr ld)) : (qp_T C N (k + 4) g cf ck wr ld) := by
  obtain ⟨⟨t0, t1⟩, t3⟩ := T
  exact ⟨⟨t0, by omega⟩, t3⟩
theorem qp_T_ck {k c : Nat} {x : Int32} (T : (qp_T C N k g cf ck wr ld)) (h1 : (cf c).toInt ≤ x.toInt) (h2 : ∀ d, d < C → x.toInt ≤ (cf d).toInt + 31) : (qp_T C N k g cf (upd ck c x) wr ld) := by
  obtain ⟨t0, t1, t2, t3⟩ := T
  refine ⟨t0, t1, fun d hd => ?_, t3⟩
  by_cases hdc : d = c
  · rw [hdc, pk_us]; exact ⟨h1, h2⟩
  · rw [pk_un hdc]; exact t2 d hd
theorem qp_T_ld {k a : Nat} {y : Int32} (T : (qp_T C N k g cf ck wr ld)) (h2 : (wr a).toInt ≤ y.toInt) (h3 : ∀ d, d < C → y.toInt ≤ (cf d).toInt + 31) : (qp_T C N k g cf ck wr (upd ld a y)) := by
  obtain ⟨t0, t1, t2, t3⟩ := T
  refine ⟨t0, t1, t2, fun b hb => ?_⟩
  obtain ⟨t4, t5, t6⟩ := t3 b hb
  by_cases hba : b = a
  · rw [hba, pk_us]; rw [hba] at t4; exact ⟨t4, h2, h3⟩
  · rw [pk_un hba]; exact ⟨t4, t5, t6⟩
theorem qp_T_wl {k a : Nat} {y : Int32} (T : (qp_T C N k g cf ck wr ld)) (h2 : g.toInt ≤ y.toInt) (h3 : ∀ d, d < C → y.toInt ≤ (cf d).toInt + 31) : (qp_T C N k g cf ck (upd wr a y) (upd ld a y)) := by
  obtain ⟨t0, t1, t2, t3⟩ := T
  refine ⟨t0, t1, t2, fun b hb => ?_⟩
  obtain ⟨t4, t5, t6⟩ := t3 b hb
  by_cases hba : b = a
  · rw [hba, pk_us, pk_us]; exact ⟨h2, Int.le_refl _, h3⟩
  · rw [pk_un hba, pk_un hba]; exact ⟨t4, t5, t6⟩
/-! pending accesses -/
theorem qp_P_at {c : Nat} (P : (qp_P C N st kd tg)) (hj : ∀ j, j < C → j ≠ c → tg' j = tg j ∧ st' j = st j ∧ kd' j = kd j) (hat : (st' c = 0 ∧ kd' c = 0 ∧ tg' c = -1) ∨ (∃ a, a < N ∧ tg' c = nI a ∧ (((st' c = 1 ∨ st' c = 2 ∨ st' c = 4) ∧ (kd' c = 1 ∨ kd' c = 2)) ∨ (st' c = 3 ∧ (kd' c = 1 ∨ kd' c = 2 ∨ kd' c = 3))))) : (qp_P C N st' kd' tg') := by
  intro d hd
  by_cases hdc : d = c
  · rw [hdc]; exact hat
  · obtain ⟨h1, h2, h3⟩ := hj d hd hdc
    rw [h1, h2, h3]
    exact P d hd
theorem qp_cnt_cg {kd kd' : Nat → Int32} : ∀ n : Nat, (∀ j, j < n → kd' j = kd j) → qp_cnt kd' n = qp_cnt kd n := by
  intro n
  induction n with
  | zero => intro _; rfl
  | succ n ih =>
    intro h
    unfold qp_cnt
    rw [ih (fun j hj => h j (by omega)), h n (by omega)]
theorem qp_cnt_u {kd : Nat → Int32} {c : Nat} {x : Int32} : ∀ n : Nat, c < n → qp_cnt (upd kd c x) n + (if kd c = 1 ∨ kd c = 2 then 1 else 0) = qp_cnt kd n + (if x = 1 ∨ x = 2 then 1 else 0) := by
  intro n
  induction n with
  | zero => intro h; omega
  | succ n ih =>
    intro h
    unfold qp_cnt
    by_cases hcn : c = n
    · rw [hcn, pk_us, qp_cnt_cg (kd := kd) (kd' := upd kd n x) n (fun j hj => pk_un (by omega))]
      omega
    · rw [pk_un (show n ≠ c by omega)]
      have := ih (by omega)
      omega
theorem qp_Q_on {c : Nat} {x : Int32} (hc : c < C) (hk : kd c = 0) (hq : e + qp_cnt kd C < 32) : (qp_Q C e (upd kd c x)) := by
  have := qp_cnt_u (kd := kd) (x := x) C hc
  unfold qp_Q
  rw [if_neg (by rw [hk]; decide)] at this
  split at this <;> omega
theorem qp_Q_off {c : Nat} (hc : c < C) (Q : (qp_Q C e kd)) : (qp_Q C e (upd kd c 0)) := by
  have := qp_cnt_u (kd := kd) (x := 0) C hc
  unfold qp_Q at *
  rw [if_neg (show ¬ ((0 : Int32) = 1 ∨ (0 : Int32) = 2) by decide)] at this
  omega
theorem qp_Q_3 {c : Nat} (hc : c < C) (Q : (qp_Q C e kd)) : (qp_Q C e (upd kd c 3)) := by
  have := qp_cnt_u (kd := kd) (x := 3) C hc
  unfold qp_Q at *
  rw [if_neg (show ¬ ((3 : Int32) = 1 ∨ (3 : Int32) = 2) by decide)] at this
  omega
theorem qp_Q_fin {c : Nat} (hc : c < C) (hk : kd c = 1 ∨ kd c = 2) (Q : (qp_Q C e kd)) : (qp_Q C (e + 1) (upd kd c 0)) := by
  have := qp_cnt_u (kd := kd) (x := 0) C hc
  unfold qp_Q at *
  rw [if_neg (show ¬ ((0 : Int32) = 1 ∨ (0 : Int32) = 2) by decide), if_pos hk] at this
  omega
theorem qp_Q_lt {c : Nat} (hc : c < C) (hk : kd c = 1 ∨ kd c = 2) (Q : (qp_Q C e kd)) : e < 32 := by
  have := qp_cnt_u (kd := kd) (x := 0) C hc
  unfold qp_Q at *
  rw [if_neg (show ¬ ((0 : Int32) = 1 ∨ (0 : Int32) = 2) by decide), if_pos hk] at this
  omega
/-- the value does not change from the last write on -/
theorem qp_Vc {k : Nat} (L : (qp_L N k h e sp rg lS lC lK lL lV lT mS mC mK mL mV mT wr)) (hN : N ≤ 8) {a : Nat} (ha : a < N) {t : Int} (ht : (wr a).toInt ≤ t) : (qp_V h e rg lS lC lK lL lV lT im) a t = (qp_V h e rg lS lC lK lL lV lT im) a (wr a).toInt := by
  obtain ⟨he, _, R, hperm, hsort, hall⟩ := L
  unfold qp_V
  apply ql_V_cg
  intro x hx
  obtain ⟨i, hi, rfl⟩ := ql_L_mem.mp hx
  obtain ⟨_, b, hb, h1, h2⟩ := hall i hi
  rw [Bool.eq_iff_iff, ql_hit_iff, ql_hit_iff]
  constructor
  · intro ⟨z1, z2, z3⟩
    have e1 : b = a := qa_inj (h1.symm.trans z2) (by omega) (by omega)
    have := h2 z1
    rw [e1] at this
    exact ⟨z1, z2, this⟩
  · intro ⟨z1, z2, z3⟩
    exact ⟨z1, z2, by omega⟩
end QR2
end
section
section QZ
/-! the relation -/
def i_Rel (k : Nat) (u : SX) (v : SY) : Prop := ∃ C N h e : Nat, ∃ wy ls sp g : Int32, ∃ ck cf rs st kd tg vl gF gU cr sa fr un da wr ld ow im me lS lC lK lL lV lT rg bf bu mS mC mK mL mV mT : Nat → Int32, u = ((nI C), (nI N), wy, ls, (nI h), (nI e), sp, g, ck, cf, rs, st, kd, tg, vl, gF, gU, cr, sa, fr, un, da, wr, ld, ow, im, me, lS, lC, lK, lL, lV, lT, rg) ∧ v = ((nI C), (nI N), wy, ls, g, sp, (nI e), ck, cf, rs, st, kd, tg, vl, gF, gU, wr, ld, ow, im, sa, bf, bu, mS, mC, mK, mL, mV, mT) ∧ (qp_A C N ls) ∧ (qp_T C N k g cf ck wr ld) ∧ (qp_P C N st kd tg) ∧ (qp_Q C e kd) ∧ (qp_S C N g cf sa fr un bf bu da ld (qp_V h e rg lS lC lK lL lV lT im)) ∧ (qp_M C N st kd tg ow sa cr da me wr ld cf (qp_V h e rg lS lC lK lL lV lT im)) ∧ (qp_G C N g cf ck st kd tg gF gU cr ld (qp_V h e rg lS lC lK lL lV lT im)) ∧ (qp_L N k h e sp rg lS lC lK lL lV lT mS mC mK mL mV mT wr)
theorem zz_el {k : Nat} {P : SX → SY → Prop} {u : SX} {v : SY} (I : i_Rel k u v) (H : ∀ (C N h e : Nat) (wy ls sp g : Int32) (ck cf rs st kd tg vl gF gU cr sa fr un da wr ld ow im me lS lC lK lL lV lT rg bf bu mS mC mK mL mV mT : Nat → Int32), (qp_A C N ls) → (qp_T C N k g cf ck wr ld) → (qp_P C N st kd tg) → (qp_Q C e kd) → (qp_S C N g cf sa fr un bf bu da ld (qp_V h e rg lS lC lK lL lV lT im)) → (qp_M C N st kd tg ow sa cr da me wr ld cf (qp_V h e rg lS lC lK lL lV lT im)) → (qp_G C N g cf ck st kd tg gF gU cr ld (qp_V h e rg lS lC lK lL lV lT im)) → (qp_L N k h e sp rg lS lC lK lL lV lT mS mC mK mL mV mT wr) → P ((nI C), (nI N), wy, ls, (nI h), (nI e), sp, g, ck, cf, rs, st, kd, tg, vl, gF, gU, cr, sa, fr, un, da, wr, ld, ow, im, me, lS, lC, lK, lL, lV, lT, rg) ((nI C), (nI N), wy, ls, g, sp, (nI e), ck, cf, rs, st, kd, tg, vl, gF, gU, wr, ld, ow, im, sa, bf, bu, mS, mC, mK, mL, mV, mT)) : P u v :=
  I.elim fun C I => I.elim fun N I => I.elim fun h I => I.elim fun e I => I.elim fun wy I => I.elim fun ls I => I.elim fun sp I => I.elim fun g I => I.elim fun ck I => I.elim fun cf I => I.elim fun rs I => I.elim fun st I => I.elim fun kd I => I.elim fun tg I => I.elim fun vl I => I.elim fun gF I => I.elim fun gU I => I.elim fun cr I => I.elim fun sa I => I.elim fun fr I => I.elim fun un I => I.elim fun da I => I.elim fun wr I => I.elim fun ld I => I.elim fun ow I => I.elim fun im I => I.elim fun me I => I.elim fun lS I => I.elim fun lC I => I.elim fun lK I => I.elim fun lL I => I.elim fun lV I => I.elim fun lT I => I.elim fun rg I => I.elim fun bf I => I.elim fun bu I => I.elim fun mS I => I.elim fun mC I => I.elim fun mK I => I.elim fun mL I => I.elim fun mV I => I.elim fun mT I => by
    have e1 := I.1
    have e2 := I.2.1
    rw [e1, e2]
    exact H C N h e wy ls sp g ck cf rs st kd tg vl gF gU cr sa fr un da wr ld ow im me lS lC lK lL lV lT rg bf bu mS mC mK mL mV mT I.2.2.1 I.2.2.2.1 I.2.2.2.2.1 I.2.2.2.2.2.1 I.2.2.2.2.2.2.1 I.2.2.2.2.2.2.2.1 I.2.2.2.2.2.2.2.2.1 I.2.2.2.2.2.2.2.2.2
variable {C N h e : Nat} {wy ls sp g : Int32} {ck cf rs st kd tg vl gF gU cr sa fr un da wr ld ow im me lS lC lK lL lV lT rg bf bu mS mC mK mL mV mT : Nat → Int32}
theorem zz_in {k : Nat} (A : (qp_A C N ls)) (T : (qp_T C N k g cf ck wr ld)) (P : (qp_P C N st kd tg)) (Q : (qp_Q C e kd)) (S : (qp_S C N g cf sa fr un bf bu da ld (qp_V h e rg lS lC lK lL lV lT im))) (M : (qp_M C N st kd tg ow sa cr da me wr ld cf (qp_V h e rg lS lC lK lL lV lT im))) (G : (qp_G C N g cf ck st kd tg gF gU cr ld (qp_V h e rg lS lC lK lL lV lT im))) (L : (qp_L N k h e sp rg lS lC lK lL lV lT mS mC mK mL mV mT wr)) : i_Rel k ((nI C), (nI N), wy, ls, (nI h), (nI e), sp, g, ck, cf, rs, st, kd, tg, vl, gF, gU, cr, sa, fr, un, da, wr, ld, ow, im, me, lS, lC, lK, lL, lV, lT, rg) ((nI C), (nI N), wy, ls, g, sp, (nI e), ck, cf, rs, st, kd, tg, vl, gF, gU, wr, ld, ow, im, sa, bf, bu, mS, mC, mK, mL, mV, mT) := ⟨C, N, h, e, wy, ls, sp, g, ck, cf, rs, st, kd, tg, vl, gF, gU, cr, sa, fr, un, da, wr, ld, ow, im, me, lS, lC, lK, lL, lV, lT, rg, bf, bu, mS, mC, mK, mL, mV, mT, rfl, rfl, A, T, P, Q, S, M, G, L⟩
theorem qp_L_up {k : Nat} (L : (qp_L N k h e sp rg lS lC lK lL lV lT mS mC mK mL mV mT wr)) : (qp_L N (k + 4) h e sp rg lS lC lK lL lV lT mS mC mK mL mV mT wr) := by
  obtain ⟨l1, ⟨l2, l3⟩, l4⟩ := L
  exact ⟨l1, ⟨l2, by omega⟩, l4⟩
theorem i_up {k : Nat} {u : SX} {v : SY} (h : i_Rel k u v) : i_Rel (k + 4) u v :=
  zz_el (P := fun u v => i_Rel (k + 4) u v) h (fun C N h e wy ls sp g ck cf rs st kd tg vl gF gU cr sa fr un da wr ld ow im me lS lC lK lL lV lT rg bf bu mS mC mK mL mV mT A T P Q S M G L => zz_in A (qp_T_up T) P Q S M G (qp_L_up L))
end QZ
end
section
section QG
theorem i_vc_floor {k : Nat} {u : SX} {v : SY} (I : i_Rel k u v) (hk : k + 4 ≤ 2052) : wpX_floor (fun r => wpY_floor (fun r' => r' = r ∧ i_Rel (k + 4) u v) v) u := by
  refine zz_el (P := fun u v => i_Rel (k + 4) u v → wpX_floor (fun r => wpY_floor (fun r' => r' = r ∧ i_Rel (k + 4) u v) v) u) I ?_ (i_up I)
  intro C N h e wy ls sp g ck cf rs st kd tg vl gF gU cr sa fr un da wr ld ow im me lS lC lK lL lV lT rg bf bu mS mC mK mL mV mT A T P Q S M G L I'
  exact ⟨rfl, I'⟩
theorem i_vc_completed {k : Nat} {u : SX} {v : SY} (I : i_Rel k u v) (hk : k + 4 ≤ 2052) : wpX_completed (fun r => wpY_completed (fun r' => r' = r ∧ i_Rel (k + 4) u v) v) u := by
  refine zz_el (P := fun u v => i_Rel (k + 4) u v → wpX_completed (fun r => wpY_completed (fun r' => r' = r ∧ i_Rel (k + 4) u v) v) u) I ?_ (i_up I)
  intro C N h e wy ls sp g ck cf rs st kd tg vl gF gU cr sa fr un da wr ld ow im me lS lC lK lL lV lT rg bf bu mS mC mK mL mV mT A T P Q S M G L I'
  exact ⟨rfl, I'⟩
theorem i_vc_count {k : Nat} {u : SX} {v : SY} (I : i_Rel k u v) (hk : k + 4 ≤ 2052) : wpX_count (fun r => wpY_count (fun r' => r' = r ∧ i_Rel (k + 4) u v) v) u := by
  refine zz_el (P := fun u v => i_Rel (k + 4) u v → wpX_count (fun r => wpY_count (fun r' => r' = r ∧ i_Rel (k + 4) u v) v) u) I ?_ (i_up I)
  intro C N h e wy ls sp g ck cf rs st kd tg vl gF gU cr sa fr un da wr ld ow im me lS lC lK lL lV lT rg bf bu mS mC mK mL mV mT A T P Q S M G L I'
  exact ⟨rfl, I'⟩
theorem i_vc_valueAt {k : Nat} {u : SX} {v : SY} (I : i_Rel k u v) (hk : k + 4 ≤ 2052) (v1 : Int32) (v2 : Int32) : wpX_valueAt (fun r => wpY_valueAt (fun r' => r' = r ∧ i_Rel (k + 4) u v) v v1 v2) u v1 v2 := by
  refine zz_el (P := fun u v => i_Rel (k + 4) u v → wpX_valueAt (fun r => wpY_valueAt (fun r' => r' = r ∧ i_Rel (k + 4) u v) v v1 v2) u v1 v2) I ?_ (i_up I)
  intro C N h e wy ls sp g ck cf rs st kd tg vl gF gU cr sa fr un da wr ld ow im me lS lC lK lL lV lT rg bf bu mS mC mK mL mV mT A T P Q S M G L I'
  obtain ⟨a1, a2, a3, a4, _⟩ := A
  rcases qa_cs v1 (show N < 2 ^ 31 by omega) with ⟨a, ha, rfl⟩ | hb
  · exact qx_val L a4 ha (qy_val L a4 ha ⟨rfl, I'⟩)
  · unfold wpX_valueAt wpY_valueAt
    dsimp only
    exact qx_blT hb (br_f (by decide) (qy_blT hb (br_f (by decide) ⟨rfl, I'⟩)))
theorem i_vc_coreInfo {k : Nat} {u : SX} {v : SY} (I : i_Rel k u v) (hk : k + 4 ≤ 2052) (v1 : Int32) (v2 : Int32) : wpX_coreInfo (fun r => wpY_coreInfo (fun r' => r' = r ∧ i_Rel (k + 4) u v) v v1 v2) u v1 v2 := by
  refine zz_el (P := fun u v => i_Rel (k + 4) u v → wpX_coreInfo (fun r => wpY_coreInfo (fun r' => r' = r ∧ i_Rel (k + 4) u v) v v1 v2) u v1 v2) I ?_ (i_up I)
  intro C N h e wy ls sp g ck cf rs st kd tg vl gF gU cr sa fr un da wr ld ow im me lS lC lK lL lV lT rg bf bu mS mC mK mL mV mT A T P Q S M G L I'
  obtain ⟨a1, a2, a3, a4, _⟩ := A
  unfold wpX_coreInfo wpY_coreInfo
  dsimp only
  rcases qa_cs v1 (show C < 2 ^ 31 by omega) with ⟨c, hc, rfl⟩ | hb
  · have hin : vp_in (nI c) 4 := vp_in_nI (by omega) (by omega)
    refine qx_bcF hc a2 (br_t rfl ?_)
    by_cases h0 : v2 = 0
    · subst h0
      exact br_f (by decide) (br_f (by decide) (br_t rfl ⟨hin, qy_bcF hc a2 (br_t rfl (br_t rfl ⟨hin, rfl, I'⟩))⟩))
    by_cases h1 : v2 = 1
    · subst h1
      exact br_f (by decide) (br_f (by decide) (br_f (by decide) (br_t rfl ⟨hin, qy_bcF hc a2 (br_t rfl (br_f (by decide) (br_t rfl ⟨hin, rfl, I'⟩)))⟩)))
    by_cases h2 : v2 = 2
    · subst h2
      exact br_f (by decide) (br_f (by decide) (br_f (by decide) (br_f (by decide) (br_t rfl ⟨hin, qy_bcF hc a2 (br_t rfl (br_f (by decide) (br_f (by decide) (br_t rfl ⟨hin, rfl, I'⟩))))⟩))))
    by_cases h3 : v2 = 3
    · subst h3
      exact br_f (by decide) (br_f (by decide) (br_f (by decide) (br_f (by decide) (br_f (by decide) (br_t rfl ⟨hin, qy_bcF hc a2 (br_t rfl (br_f (by decide) (br_f (by decide) (br_f (by decide) (br_t rfl ⟨hin, rfl, I'⟩)))))⟩)))))
    by_cases h4 : v2 = 4
    · subst h4
      exact br_f (by decide) (br_f (by decide) (br_f (by decide) (br_f (by decide) (br_f (by decide) (br_f (by decide) (br_t rfl ⟨hin, qy_bcF hc a2 (br_t rfl (br_f (by decide) (br_f (by decide) (br_f (by decide) (br_f (by decide) (br_t rfl ⟨hin, rfl, I'⟩))))))⟩))))))
    by_cases h5 : v2 = 5
    · subst h5
      exact br_f (by decide) (br_f (by decide) (br_f (by decide) (br_f (by decide) (br_f (by decide) (br_f (by decide) (br_f (by decide) (br_t rfl ⟨hin, qy_bcF hc a2 (br_t rfl (br_f (by decide) (br_f (by decide) (br_f (by decide) (br_f (by decide) (br_f (by decide) (br_t rfl ⟨hin, rfl, I'⟩)))))))⟩)))))))
    by_cases h6 : v2 = 6
    · subst h6
      exact br_f (by decide) (br_f (by decide) (br_f (by decide) (br_f (by decide) (br_f (by decide) (br_f (by decide) (br_f (by decide) (br_f (by decide) (br_t rfl ⟨hin, qy_bcF hc a2 (br_t rfl (br_f (by decide) (br_f (by decide) (br_f (by decide) (br_f (by decide) (br_f (by decide) (br_f (by decide) (br_t rfl ⟨hin, rfl, I'⟩))))))))⟩))))))))
    by_cases h7 : v2 = 7
    · subst h7
      exact br_f (by decide) (br_f (by decide) (br_f (by decide) (br_f (by decide) (br_f (by decide) (br_f (by decide) (br_f (by decide) (br_f (by decide) (br_f (by decide) (br_t rfl ⟨hin, qy_bcF hc a2 (br_t rfl (br_f (by decide) (br_f (by decide) (br_f (by decide) (br_f (by decide) (br_f (by decide) (br_f (by decide) (br_f (by decide) (br_t rfl ⟨hin, rfl, I'⟩)))))))))⟩)))))))))
    by_cases h8 : v2 = 8
    · subst h8
      exact br_f (by decide) (br_f (by decide) (br_f (by decide) (br_f (by decide) (br_f (by decide) (br_f (by decide) (br_f (by decide) (br_f (by decide) (br_f (by decide) (br_f (by decide) (br_t rfl ⟨hin, qy_bcF hc a2 (br_t rfl (br_f (by decide) (br_f (by decide) (br_f (by decide) (br_f (by decide) (br_f (by decide) (br_f (by decide) (br_f (by decide) (br_f (by decide) (br_t rfl ⟨hin, rfl, I'⟩))))))))))⟩))))))))))
    exact br_c (fun _ => qy_bcF hc a2 (br_t rfl (br_f h0 (br_f h1 (br_f h2 (br_f h3 (br_f h4 (br_f h5 (br_f h6 (br_f h7 (br_f h8 (⟨rfl, I'⟩)))))))))))) (fun _ => br_c (fun _ => qy_bcF hc a2 (br_t rfl (br_f h0 (br_f h1 (br_f h2 (br_f h3 (br_f h4 (br_f h5 (br_f h6 (br_f h7 (br_f h8 (⟨rfl, I'⟩)))))))))))) (fun _ => br_f h0 (br_f h1 (br_f h2 (br_f h3 (br_f h4 (br_f h5 (br_f h6 (br_f h7 (br_f h8 (trivial)))))))))))
  · exact qx_bcT hb (br_f (by decide) (qy_bcT hb (br_f (by decide) ⟨rfl, I'⟩)))
theorem i_vc_lineInfo {k : Nat} {u : SX} {v : SY} (I : i_Rel k u v) (hk : k + 4 ≤ 2052) (v1 : Int32) (v2 : Int32) : wpX_lineInfo (fun r => wpY_lineInfo (fun r' => r' = r ∧ i_Rel (k + 4) u v) v v1 v2) u v1 v2 := by
  refine zz_el (P := fun u v => i_Rel (k + 4) u v → wpX_lineInfo (fun r => wpY_lineInfo (fun r' => r' = r ∧ i_Rel (k + 4) u v) v v1 v2) u v1 v2) I ?_ (i_up I)
  intro C N h e wy ls sp g ck cf rs st kd tg vl gF gU cr sa fr un da wr ld ow im me lS lC lK lL lV lT rg bf bu mS mC mK mL mV mT A T P Q S M G L I'
  obtain ⟨a1, a2, a3, a4, _⟩ := A
  unfold wpX_lineInfo wpY_lineInfo
  dsimp only
  rcases qa_cs v1 (show N < 2 ^ 31 by omega) with ⟨a, ha, rfl⟩ | hb
  · have hin : vp_in (nI a) 8 := vp_in_nI (by omega) (by omega)
    refine qx_blF ha a4 (br_t rfl ?_)
    by_cases h10 : v2 = 10
    · subst h10
      exact br_f (by decide) (br_f (by decide) (br_t rfl ⟨hin, qy_blF ha a4 (br_t rfl (br_t rfl ⟨hin, rfl, I'⟩))⟩))
    by_cases h11 : v2 = 11
    · subst h11
      exact br_f (by decide) (br_f (by decide) (br_f (by decide) (br_t rfl ⟨hin, qy_blF ha a4 (br_t rfl (br_f (by decide) (br_t rfl ⟨hin, rfl, I'⟩)))⟩)))
    by_cases h12 : v2 = 12
    · subst h12
      exact br_f (by decide) (br_f (by decide) (br_f (by decide) (br_f (by decide) (br_t rfl ⟨hin, qy_blF ha a4 (br_t rfl (br_f (by decide) (br_f (by decide) (br_t rfl ⟨hin, rfl, I'⟩))))⟩))))
    by_cases h13 : v2 = 13
    · subst h13
      exact br_f (by decide) (br_f (by decide) (br_f (by decide) (br_f (by decide) (br_f (by decide) (br_t rfl ⟨hin, qy_blF ha a4 (br_t rfl (br_f (by decide) (br_f (by decide) (br_f (by decide) (br_t rfl ⟨hin, rfl, I'⟩)))))⟩)))))
    exact br_c (fun _ => qy_blF ha a4 (br_t rfl (br_f h10 (br_f h11 (br_f h12 (br_f h13 (⟨rfl, I'⟩))))))) (fun _ => br_c (fun _ => qy_blF ha a4 (br_t rfl (br_f h10 (br_f h11 (br_f h12 (br_f h13 (⟨rfl, I'⟩))))))) (fun _ => br_f h10 (br_f h11 (br_f h12 (br_f h13 (trivial))))))
  · exact qx_blT hb (br_f (by decide) (qy_blT hb (br_f (by decide) ⟨rfl, I'⟩)))
end QG
end
section
section QG2
theorem i_vc_copyInfo {k : Nat} {u : SX} {v : SY} (I : i_Rel k u v) (hk : k + 4 ≤ 2052) (v1 : Int32) (v2 : Int32) (v3 : Int32) : wpX_copyInfo (fun r => wpY_copyInfo (fun r' => r' = r ∧ i_Rel (k + 4) u v) v v1 v2 v3) u v1 v2 v3 := by
  refine zz_el (P := fun u v => i_Rel (k + 4) u v → wpX_copyInfo (fun r => wpY_copyInfo (fun r' => r' = r ∧ i_Rel (k + 4) u v) v v1 v2 v3) u v1 v2 v3) I ?_ (i_up I)
  intro C N h e wy ls sp g ck cf rs st kd tg vl gF gU cr sa fr un da wr ld ow im me lS lC lK lL lV lT rg bf bu mS mC mK mL mV mT A T P Q S M G L I'
  obtain ⟨a1, a2, a3, a4, _⟩ := A
  unfold wpX_copyInfo wpY_copyInfo
  dsimp only
  rcases qa_cs v1 (show C < 2 ^ 31 by omega) with ⟨c, hc, rfl⟩ | hb
  · rcases qa_cs v2 (show N < 2 ^ 31 by omega) with ⟨a, ha, rfl⟩ | hb
    · have hin : vp_in (nI (c * 8 + a)) 32 := vp_in_nI (by omega) (by omega)
      have hin8 : vp_in (nI a) 8 := vp_in_nI (by omega) (by omega)
      have hcl : (nI (c * 8 + a)).toNatClampNeg = c * 8 + a := nI_clamp (by omega)
      obtain ⟨s1, s2, s3⟩ := S c hc a ha
      rw [← hcl] at s1 s2 s3
      refine qx_bcF hc a2 (br_t rfl (qx_blF ha a4 (br_t rfl (nm_r (qa_ix c a) ⟨hin, ?_⟩))))
      by_cases h9 : v3 = 9
      · subst h9
        by_cases hs : sa (nI (c * 8 + a)).toNatClampNeg = 2
        · exact br_t hs (br_f (by decide) (br_f (by decide) (br_f (by decide) (br_f (by decide) (br_t rfl ⟨hin, qy_bcF hc a2 (br_t rfl (qy_blF ha a4 (br_t rfl (nm_r (qa_ix c a) (br_t rfl ⟨hin, rfl, I'⟩)))))⟩)))))
        · exact br_f hs (br_f (by decide) (br_f (by decide) (br_f (by decide) (br_f (by decide) (br_t rfl ⟨hin, qy_bcF hc a2 (br_t rfl (qy_blF ha a4 (br_t rfl (nm_r (qa_ix c a) (br_t rfl ⟨hin, rfl, I'⟩)))))⟩)))))
      · by_cases h7 : v3 = 7
        · subst h7
          rcases s1 with s0 | s0 | s0
          · have hn : ¬ sa (nI (c * 8 + a)).toNatClampNeg = 2 := by rw [s0]; decide
            exact br_f hn (br_f (by decide) (br_f (by decide) (br_t rfl (br_t rfl ⟨hin, qy_bcF hc a2 (br_t rfl (qy_blF ha a4 (br_t rfl (nm_r (qa_ix c a) (br_f (by decide) (br_t rfl ⟨hin, br_t s0 ⟨(s2 s0).1.symm, I'⟩⟩))))))⟩))))
          · have hn : ¬ sa (nI (c * 8 + a)).toNatClampNeg = 2 := by rw [s0]; decide
            have hn0 : ¬ sa (nI (c * 8 + a)).toNatClampNeg = 0 := by rw [s0]; decide
            exact br_f hn (br_f (by decide) (br_f (by decide) (br_t rfl (br_t rfl ⟨hin, qy_bcF hc a2 (br_t rfl (qy_blF ha a4 (br_t rfl (nm_r (qa_ix c a) (br_f (by decide) (br_t rfl ⟨hin, br_f hn0 ⟨hin, br_f hn (br_t rfl ⟨hin, (s3 s0).1, I'⟩)⟩⟩))))))⟩))))
          · have hn0 : ¬ sa (nI (c * 8 + a)).toNatClampNeg = 0 := by rw [s0]; decide
            exact br_t s0 (br_f (by decide) (br_f (by decide) (br_t rfl (br_f (by decide) ⟨hin8, qy_bcF hc a2 (br_t rfl (qy_blF ha a4 (br_t rfl (nm_r (qa_ix c a) (br_f (by decide) (br_t rfl ⟨hin, br_f hn0 ⟨hin, br_t s0 (br_t rfl ⟨hin8, rfl, I'⟩)⟩⟩))))))⟩))))
        · by_cases h8 : v3 = 8
          · subst h8
            rcases s1 with s0 | s0 | s0
            · have hn : ¬ sa (nI (c * 8 + a)).toNatClampNeg = 2 := by rw [s0]; decide
              exact br_f hn (br_f (by decide) (br_f (by decide) (br_f (by decide) (br_t rfl (br_t rfl ⟨hin, qy_bcF hc a2 (br_t rfl (qy_blF ha a4 (br_t rfl (nm_r (qa_ix c a) (br_f (by decide) (br_f (by decide) (br_t rfl ⟨hin, br_t s0 ⟨(s2 s0).2.symm, I'⟩⟩)))))))⟩)))))
            · have hn : ¬ sa (nI (c * 8 + a)).toNatClampNeg = 2 := by rw [s0]; decide
              have hn0 : ¬ sa (nI (c * 8 + a)).toNatClampNeg = 0 := by rw [s0]; decide
              exact br_f hn (br_f (by decide) (br_f (by decide) (br_f (by decide) (br_t rfl (br_t rfl ⟨hin, qy_bcF hc a2 (br_t rfl (qy_blF ha a4 (br_t rfl (nm_r (qa_ix c a) (br_f (by decide) (br_f (by decide) (br_t rfl ⟨hin, br_f hn0 ⟨hin, br_f hn (br_f (by decide) ⟨hin, (s3 s0).2.1, I'⟩)⟩⟩)))))))⟩)))))
            · have hn0 : ¬ sa (nI (c * 8 + a)).toNatClampNeg = 0 := by rw [s0]; decide
              exact br_t s0 (br_f (by decide) (br_f (by decide) (br_f (by decide) (br_t rfl (br_f (by decide) ⟨hin8, qy_bcF hc a2 (br_t rfl (qy_blF ha a4 (br_t rfl (nm_r (qa_ix c a) (br_f (by decide) (br_f (by decide) (br_t rfl ⟨hin, br_f hn0 ⟨hin, br_t s0 (br_f (by decide) ⟨hin8, rfl, I'⟩)⟩⟩)))))))⟩)))))
          · skip
            by_cases hs : sa (nI (c * 8 + a)).toNatClampNeg = 2
            · exact br_t hs (br_c (fun _ => qy_bcF hc a2 (br_t rfl (qy_blF ha a4 (br_t rfl (nm_r (qa_ix c a) (br_f h9 (br_f h7 (br_f h8 ⟨rfl, I'⟩)))))))) (fun _ => br_c (fun _ => qy_bcF hc a2 (br_t rfl (qy_blF ha a4 (br_t rfl (nm_r (qa_ix c a) (br_f h9 (br_f h7 (br_f h8 ⟨rfl, I'⟩)))))))) (fun _ => br_f h7 (br_f h8 (br_f h9 trivial)))))
            · exact br_f hs (br_c (fun _ => qy_bcF hc a2 (br_t rfl (qy_blF ha a4 (br_t rfl (nm_r (qa_ix c a) (br_f h9 (br_f h7 (br_f h8 ⟨rfl, I'⟩)))))))) (fun _ => br_c (fun _ => qy_bcF hc a2 (br_t rfl (qy_blF ha a4 (br_t rfl (nm_r (qa_ix c a) (br_f h9 (br_f h7 (br_f h8 ⟨rfl, I'⟩)))))))) (fun _ => br_f h7 (br_f h8 (br_f h9 trivial)))))
    · exact qx_bcF hc a2 (br_t rfl (qx_blT hb (br_f (by decide) (qy_bcF hc a2 (br_t rfl (qy_blT hb (br_f (by decide) ⟨rfl, I'⟩)))))))
  · exact qx_bcT hb (br_f (by decide) (qy_bcT hb (br_f (by decide) ⟨rfl, I'⟩)))
end QG2
section QOR
variable {C N h e : Nat} {wy ls sp g : Int32} {ck cf rs st kd tg vl gF gU cr sa fr un da wr ld ow im me lS lC lK lL lV lT rg bf bu mS mC mK mL mV mT : Nat → Int32}
/-! the k-th entry -/
def qo_f (p : Int32) (x : ql_E) : Int32 := if p = 14 then x.1 else if p = 15 then x.2.1 else if p = 4 then x.2.2.1 else if p = 5 then x.2.2.2.1 else if p = 6 then x.2.2.2.2.1 else if p = 16 then x.2.2.2.2.2 else -1
def qo_n (fy : Nat → ql_E) (i j : Nat) : Nat := (ql_L fy j).countP (fun y => ql_ltb y (fy i))
theorem qo_n_s (fy : Nat → ql_E) (i j : Nat) : qo_n fy i (j + 1) = qo_n fy i j + (if ql_ltb (fy j) (fy i) = true then 1 else 0) := by
  unfold qo_n
  rw [ql_L_s, List.countP_append, List.countP_singleton]
theorem qo_n_le (fy : Nat → ql_E) (i j : Nat) : qo_n fy i j ≤ j := by
  unfold qo_n
  have := List.countP_le_length (p := fun y => ql_ltb y (fy i)) (l := ql_L fy j)
  rw [ql_L_len] at this
  exact this
theorem qo_in {post : Int32 → Prop} {J : Int32 → Int32 → Prop} {q i : Nat} {p x3 : Int32} (he : e ≤ 32) (hq : q < e) (hi : i < e) (h1 : qo_n (ql_en mS mC mK mL mV mT) i e = q → J (nI i) (nI (i + 1))) (h0 : ¬ qo_n (ql_en mS mC mK mL mV mT) i e = q → J x3 (nI (i + 1))) : ∃ n, wY_ordered_34 post J (nI q) p x3 (nI i) (nI C) (nI N) wy ls g sp (nI e) ck cf rs st kd tg vl gF gU wr ld ow im sa bf bu mS mC mK mL mV mT n 0 0 := by
  refine qx_fold (W := fun n j (s : Nat) => wY_ordered_34 post J (nI q) p x3 (nI i) (nI C) (nI N) wy ls g sp (nI e) ck cf rs st kd tg vl gF gU wr ld ow im sa bf bu mS mC mK mL mV mT n (nI s) (nI j)) (fun j => qo_n (ql_en mS mC mK mL mV mT) i j) e ?_ ?_
  · intro n
    have := qo_n_le (ql_en mS mC mK mL mV mT) i e
    refine br_t (nI_le (Nat.le_refl _) (by omega)) ?_
    by_cases hb : qo_n (ql_en mS mC mK mL mV mT) i e = q
    · exact br_t (by rw [hb]) (nm_r (nI_1 i) (h1 hb))
    · exact br_f (fun z => hb (qa_inj z (by omega) (by omega))) (nm_r (nI_1 i) (h0 hb))
  · intro n j hj hn
    have := qo_n_le (ql_en mS mC mK mL mV mT) i j
    rw [qo_n_s] at hn
    refine br_f (nI_ge hj (by omega)) (qy_after (by omega) (by omega) (fun hl => ?_) (fun hl => ?_))
    · rw [if_pos (ql_ltb_iff.mpr hl)] at hn
      exact br_f (by decide) (nm_r (nI_1 _) (nm_r (nI_1 _) hn))
    · rw [if_neg (fun z => hl (ql_ltb_iff.mp z))] at hn
      exact br_t rfl (nm_r (nI_1 _) hn)
theorem qo_cnt {f fy : Nat → ql_E} (hp : (ql_L f e).Perm (ql_L fy e)) (hs : ∀ i j, i < j → j < e → ql_lt (f i) (f j)) {i m : Nat} (hi : i < e) (hm : m < e) (he : fy i = f m) : qo_n fy i e = m := by
  unfold qo_n
  rw [← hp.countP_eq, he]
  have h1 := ql_L_pw hs
  rw [ql_L_at f hm] at h1 ⊢
  rw [ql_cnt h1, ql_L_len]
theorem qo_out {post : Int32 → Prop} {f : Nat → ql_E} {q : Nat} {p : Int32} (he : e ≤ 32) (hperm : (ql_L f e).Perm (ql_L (ql_en mS mC mK mL mV mT) e)) (hs : ∀ i j, i < j → j < e → ql_lt (f i) (f j)) (hq : q < e) (hp : post (qo_f p (f q))) : ∃ n, wY_ordered_19 post (nI q) p (nI C) (nI N) wy ls g sp (nI e) ck cf rs st kd tg vl gF gU wr ld ow im sa bf bu mS mC mK mL mV mT n 0 0 := by
  refine loop_0 (fun n i (x : Int32) => wY_ordered_19 post (nI q) p (nI C) (nI N) wy ls g sp (nI e) ck cf rs st kd tg vl gF gU wr ld ow im sa bf bu mS mC mK mL mV mT n x (nI i)) (fun i x => ∃ m, m < e ∧ x = nI m ∧ ((∃ i', i' < i ∧ qo_n (ql_en mS mC mK mL mV mT) i' e = q) → qo_n (ql_en mS mC mK mL mV mT) m e = q)) e 0 ⟨0, by omega, rfl, fun ⟨i', h1, _⟩ => by omega⟩ ?_ ?_
  · intro n x ⟨m, hm, hx, hI⟩
    subst hx
    obtain ⟨i', hi', e1⟩ := ql_L_mem.mp ((hperm.mem_iff).mp (ql_L_in (f := f) hq))
    have hc := hI ⟨i', hi', qo_cnt hperm hs hi' hq e1.symm⟩
    obtain ⟨m', hm', e2⟩ := ql_L_mem.mp ((hperm.mem_iff).mpr (ql_L_in (f := (ql_en mS mC mK mL mV mT)) hm))
    have hc2 := qo_cnt hperm hs hm hm' e2
    have e3 : m' = q := by omega
    rw [e3] at e2
    rw [← e2] at hp
    unfold qo_f at hp
    have hin : vp_in (nI m) 32 := vp_in_nI (by omega) (by omega)
    have hcl : (nI m).toNatClampNeg = m := nI_clamp (by omega)
    refine br_t (nI_le (Nat.le_refl _) (by omega)) ?_
    rw [hcl]
    by_cases h14 : p = 14
    · rw [if_pos h14] at hp; exact br_t h14 ⟨hin, hp⟩
    · rw [if_neg h14] at hp
      by_cases h15 : p = 15
      · rw [if_pos h15] at hp; exact br_f h14 (br_t h15 ⟨hin, hp⟩)
      · rw [if_neg h15] at hp
        by_cases h4 : p = 4
        · rw [if_pos h4] at hp; exact br_f h14 (br_f h15 (br_t h4 ⟨hin, hp⟩))
        · rw [if_neg h4] at hp
          by_cases h5 : p = 5
          · rw [if_pos h5] at hp; exact br_f h14 (br_f h15 (br_f h4 (br_t h5 ⟨hin, hp⟩)))
          · rw [if_neg h5] at hp
            by_cases h6 : p = 6
            · rw [if_pos h6] at hp; exact br_f h14 (br_f h15 (br_f h4 (br_f h5 (br_t h6 ⟨hin, hp⟩))))
            · rw [if_neg h6] at hp
              by_cases h16 : p = 16
              · rw [if_pos h16] at hp; exact br_f h14 (br_f h15 (br_f h4 (br_f h5 (br_f h6 (br_t h16 ⟨hin, hp⟩)))))
              · rw [if_neg h16] at hp; exact br_f h14 (br_f h15 (br_f h4 (br_f h5 (br_f h6 (br_f h16 hp)))))
  · intro n i x hi ⟨m, hm, hx, hI⟩ hn
    refine br_f (nI_ge hi (by omega)) (qo_in he hq hi (fun hc => ?_) (fun hc => ?_))
    · exact hn (nI i) ⟨i, hi, rfl, fun _ => hc⟩
    · refine hn x ⟨m, hm, hx, fun ⟨i', h1, h2⟩ => hI ⟨i', ?_, h2⟩⟩
      have : i' ≠ i := fun z => hc (by rw [← z]; exact h2)
      omega
theorem qo_x {post : Int32 → Prop} {k q : Nat} {p : Int32} (L : (qp_L N k h e sp rg lS lC lK lL lV lT mS mC mK mL mV mT wr)) (hq : q < e) (hp : post (qo_f p ((ql_x h rg lS lC lK lL lV lT) q))) : wpX_ordered post ((nI C), (nI N), wy, ls, (nI h), (nI e), sp, g, ck, cf, rs, st, kd, tg, vl, gF, gU, cr, sa, fr, un, da, wr, ld, ow, im, me, lS, lC, lK, lL, lV, lT, rg) (nI q) p := by
  obtain ⟨he, _, R, _⟩ := L
  have hin : vp_in (nI (ql_p h rg q)) 32 := vp_in_nI (qp_plt R q) (by omega)
  have hcl : (nI (ql_p h rg q)).toNatClampNeg = ql_p h rg q := nI_clamp (by have := qp_plt R q; omega)
  refine br_f (nI_pos (by omega)) (br_t (nI_lt hq (by omega)) (qx_slot R (by omega) ?_))
  rw [hcl]
  by_cases h4 : p = 4
  · subst h4; exact br_f (by decide) (br_f (by decide) (br_t rfl ⟨hin, hp⟩))
  by_cases h5 : p = 5
  · subst h5; exact br_f (by decide) (br_f (by decide) (br_f (by decide) (br_t rfl ⟨hin, hp⟩)))
  by_cases h6 : p = 6
  · subst h6; exact br_f (by decide) (br_f (by decide) (br_f (by decide) (br_f (by decide) (br_t rfl ⟨hin, hp⟩))))
  by_cases h14 : p = 14
  · subst h14; exact br_f (by decide) (br_f (by decide) (br_f (by decide) (br_f (by decide) (br_f (by decide) (br_f (by decide) (br_f (by decide) (br_f (by decide) (br_f (by decide) (br_f (by decide) (br_f (by decide) (br_f (by decide) (br_t rfl ⟨hin, hp⟩))))))))))))
  by_cases h15 : p = 15
  · subst h15; exact br_f (by decide) (br_f (by decide) (br_f (by decide) (br_f (by decide) (br_f (by decide) (br_f (by decide) (br_f (by decide) (br_f (by decide) (br_f (by decide) (br_f (by decide) (br_f (by decide) (br_f (by decide) (br_f (by decide) (br_t rfl ⟨hin, hp⟩)))))))))))))
  by_cases h16 : p = 16
  · subst h16; exact br_f (by decide) (br_f (by decide) (br_f (by decide) (br_f (by decide) (br_f (by decide) (br_f (by decide) (br_f (by decide) (br_f (by decide) (br_f (by decide) (br_f (by decide) (br_f (by decide) (br_f (by decide) (br_f (by decide) (br_f (by decide) (br_t rfl ⟨hin, hp⟩))))))))))))))
  unfold qo_f at hp
  rw [if_neg h14, if_neg h15, if_neg h4, if_neg h5, if_neg h6, if_neg h16] at hp
  exact br_c (fun _ => hp) (fun _ => br_c (fun _ => hp) (fun _ => br_f h4 (br_f h5 (br_f h6 (br_c (fun _ => hp) (fun _ => br_c (fun _ => hp) (fun _ => br_c (fun _ => hp) (fun _ => br_c (fun _ => hp) (fun _ => br_c (fun _ => hp) (fun _ => br_c (fun _ => hp) (fun _ => br_c (fun _ => hp) (fun _ => br_f h14 (br_f h15 (br_f h16 trivial)))))))))))))) 
theorem i_vc_ordered {k : Nat} {u : SX} {v : SY} (I : i_Rel k u v) (hk : k + 4 ≤ 2052) (v1 : Int32) (v2 : Int32) : wpX_ordered (fun r => wpY_ordered (fun r' => r' = r ∧ i_Rel (k + 4) u v) v v1 v2) u v1 v2 := by
  refine zz_el (P := fun u v => i_Rel (k + 4) u v → wpX_ordered (fun r => wpY_ordered (fun r' => r' = r ∧ i_Rel (k + 4) u v) v v1 v2) u v1 v2) I ?_ (i_up I)
  intro C N h e wy ls sp g ck cf rs st kd tg vl gF gU cr sa fr un da wr ld ow im me lS lC lK lL lV lT rg bf bu mS mC mK mL mV mT A T P Q S M G L I'
  have he := L.1
  rcases qa_cs v1 (show e < 2 ^ 31 by omega) with ⟨q, hq, rfl⟩ | hb
  · refine qo_x L hq ?_
    refine br_f (nI_pos (by omega)) (br_t (nI_lt hq (by omega)) (qo_out he L.2.2.2.1 L.2.2.2.2.1 hq ⟨rfl, I'⟩))
  · rcases hb with h1 | ⟨h1, h2⟩
    · exact br_t h1 (br_t h1 ⟨rfl, I'⟩)
    · exact br_f h1 (br_f h2 (br_f h1 (br_f h2 ⟨rfl, I'⟩)))
end QOR
end
section
section QAD
theorem qp_ne4 {x : Int32} (h : x = 0) : ¬ x = 4 := by rw [h]; decide
theorem i_vc_advance {k : Nat} {u : SX} {v : SY} (I : i_Rel k u v) (hk : k + 4 ≤ 2052) (v1 : Int32) (v2 : Int32) : wpX_advance (fun r u' => wpY_advance (fun r' v' => r' = r ∧ i_Rel (k + 4) u' v') v v1 v2) u v1 v2 := by
  refine zz_el (P := fun u v => i_Rel (k + 4) u v → wpX_advance (fun r u' => wpY_advance (fun r' v' => r' = r ∧ i_Rel (k + 4) u' v') v v1 v2) u v1 v2) I ?_ (i_up I)
  intro C N h e wy ls sp g ck cf rs st kd tg vl gF gU cr sa fr un da wr ld ow im me lS lC lK lL lV lT rg bf bu mS mC mK mL mV mT A T P Q S M G L I'
  obtain ⟨a1, a2, a3, a4, _⟩ := id A
  unfold wpX_advance wpY_advance
  dsimp only
  rcases qa_cs v1 (show C < 2 ^ 31 by omega) with ⟨c, hc, rfl⟩ | hb
  · have hin : vp_in (nI c) 4 := vp_in_nI (by omega) (by omega)
    have hcl : (nI c).toNatClampNeg = c := nI_clamp (by omega)
    refine qx_bcF hc a2 (br_t rfl ?_)
    by_cases hp : 1 ≤ v2
    · refine br_t hp ⟨hin, ?_⟩
      by_cases hs : st c = 0
      · have hs' : st (nI c).toNatClampNeg = 0 := by rw [hcl]; exact hs
        refine br_t hs' (qx_limit a1 a2 ⟨hin, nm_e ?_⟩)
        by_cases hl : v2 ≤ qx_LM cf C - ck (nI c).toNatClampNeg
        · refine br_t hl ⟨hin, hin, nm_r (e' := upd ck c (ck c + v2)) (by rw [hcl]) ?_⟩
          refine qy_bcF hc a2 (br_t rfl (br_t hp ⟨hin, br_t hs' (qy_limit a1 a2 ⟨hin, br_t hl ⟨hin, hin, nm_r (e' := upd ck c (ck c + v2)) (by rw [hcl]) ⟨rfl, ?_⟩⟩⟩)⟩))
          obtain ⟨b, hbC, hb1, hb2⟩ := qx_LMT (by omega) A T
          rw [hcl] at hl
          obtain ⟨⟨t0, t1⟩, t2, t3, t4⟩ := id T
          have c1 := t2 b hbC
          have c2 := t3 c hc
          have c3 := t2 c hc
          have c4 := c2.2 b hbC
          rw [qa_le, qa_sub (by omega) (by omega)] at hl
          rw [qa_le, qa_1] at hp
          have e1 : (ck c + v2).toInt = (ck c).toInt + v2.toInt := qa_add (by omega) (by omega)
          refine zz_in A (qp_T_up (qp_T_ck T (by omega) (fun d hd => ?_))) P Q S M ?_ (qp_L_up L)
          · have := hb2 d hd
            omega
          · exact qp_G_at (c := c) G (fun j _ hj => ⟨rfl, rfl, rfl, rfl, rfl, rfl, pk_un hj⟩) (fun _ _ => Int.le_refl _) (fun _ _ _ _ => rfl) (fun _ _ _ z => absurd z (qp_ne4 hs))
        · exact br_f hl (qy_bcF hc a2 (br_t rfl (br_t hp ⟨hin, br_t hs' (qy_limit a1 a2 ⟨hin, br_f hl ⟨rfl, I'⟩⟩)⟩)))
      · have hs' : ¬ st (nI c).toNatClampNeg = 0 := by rw [hcl]; exact hs
        exact br_f hs' (qy_bcF hc a2 (br_t rfl (br_t hp ⟨hin, br_f hs' ⟨rfl, I'⟩⟩)))
    · exact br_f hp (qy_bcF hc a2 (br_t rfl (br_f hp ⟨rfl, I'⟩)))
  · exact qx_bcT hb (br_f (by decide) (qy_bcT hb (br_f (by decide) ⟨rfl, I'⟩)))
end QAD
section QRB
variable {C N h e : Nat} {wy ls sp g : Int32} {ck cf rs st kd tg vl gF gU cr sa fr un da wr ld ow im me lS lC lK lL lV lT rg bf bu mS mC mK mL mV mT : Nat → Int32}
theorem qs_0T {j : Nat} {P : Nat → Bool} {v f : Nat → Int32} (h : P j = true) : upd (qs_F 0 j P v f) j (v j) = qs_F 0 (j + 1) P v f := by
  have := qs_FT (b := 0) (j := j) (P := P) (v := v) (f := f)
  rw [Nat.zero_add] at this
  exact this h
theorem qs_0r {j : Nat} {P : Nat → Bool} {v f : Nat → Int32} : qs_F 0 j P v f j = f j := by
  have := qs_Fr (b := 0) (j := j) (P := P) (v := v) (f := f)
  rw [Nat.zero_add] at this
  exact this
def qb_m (N : Nat) (g : Int32) (f : Nat → Int32) : Nat → Int32 := qs_F 0 N (fun _ => true) (fun i => qa_mx (f i) g) f
theorem qb_ma {N a : Nat} {g : Int32} {f : Nat → Int32} (ha : a < N) : qb_m N g f a = qa_mx (f a) g := qs_FP (by omega) (by omega) rfl
theorem qx_reb45 {post : Int32 → SX → Prop} (hN : N ≤ 8) (hp : post 1 ((nI C), (nI N), wy, ls, (nI h), (nI e), sp, g, ck, cf, rs, st, kd, tg, vl, gF, gU, cr, sa, fr, un, da, (qb_m N g wr), (qb_m N g ld), ow, im, me, lS, lC, lK, lL, lV, lT, rg)) : ∃ n, wX_rebase_45 post (nI C) (nI N) wy ls (nI h) (nI e) sp g n 0 ck cf rs st kd tg vl gF gU cr sa fr un da wr ld ow im me lS lC lK lL lV lT rg := by
  have key := qx_fold (W := fun n j (s : (Nat → Int32) × (Nat → Int32)) => wX_rebase_45 post (nI C) (nI N) wy ls (nI h) (nI e) sp g n (nI j) ck cf rs st kd tg vl gF gU cr sa fr un da s.1 s.2 ow im me lS lC lK lL lV lT rg) (fun j => (qb_m j g wr, qb_m j g ld)) N ?_ ?_
  · unfold qb_m at key
    dsimp only at key
    rw [qs_F0, qs_F0] at key
    exact key
  · intro n
    exact br_t (nI_le (Nat.le_refl _) (by omega)) hp
  · intro n j hj hi
    have hin : vp_in (nI j) 8 := vp_in_nI (by omega) (by omega)
    have hcl : (nI j).toNatClampNeg = j := nI_clamp (by omega)
    refine br_f (nI_ge hj (by omega)) ⟨hin, qx_max ⟨hin, nm_r (e' := qb_m (j + 1) g wr) ?_ ⟨hin, qx_max ⟨hin, nm_r (e' := qb_m (j + 1) g ld) ?_ (nm_r (nI_1 j) hi)⟩⟩⟩⟩
    · unfold qb_m
      dsimp only
      rw [hcl, qs_0r]
      exact qs_0T rfl
    · unfold qb_m
      dsimp only
      rw [hcl, qs_0r]
      exact qs_0T rfl
theorem qx_reb {post : Int32 → SX → Prop} (hC : C ≤ 4) (hN : N ≤ 8) (h7 : (∃ j, j < C ∧ ¬ g ≤ cf j) → post 7 ((nI C), (nI N), wy, ls, (nI h), (nI e), sp, g, ck, cf, rs, st, kd, tg, vl, gF, gU, cr, sa, fr, un, da, wr, ld, ow, im, me, lS, lC, lK, lL, lV, lT, rg)) (h1 : (∀ j, j < C → ¬ ¬ g ≤ cf j) → post 1 ((nI C), (nI N), wy, ls, (nI h), (nI e), sp, (g + 16), ck, cf, rs, st, kd, tg, vl, gF, gU, cr, sa, fr, un, da, (qb_m N (g + 16) wr), (qb_m N (g + 16) ld), ow, im, me, lS, lC, lK, lL, lV, lT, rg)) : wpX_rebase post ((nI C), (nI N), wy, ls, (nI h), (nI e), sp, g, ck, cf, rs, st, kd, tg, vl, gF, gU, cr, sa, fr, un, da, wr, ld, ow, im, me, lS, lC, lK, lL, lV, lT, rg) := by
  refine qx_scan (W := fun n j => wX_rebase_2 post (nI C) (nI N) wy ls (nI h) (nI e) sp g ck cf rs st kd tg vl gF gU cr sa fr un da wr ld ow im me lS lC lK lL lV lT rg n (nI j)) (D := fun j => ¬ g ≤ cf j) (C := C) ?_ ?_ ?_
  · intro hn n
    exact br_t (nI_le (Nat.le_refl _) (by omega)) (nm_e (qx_reb45 hN (h1 hn)))
  · intro n j hj hD
    have hcl : (nI j).toNatClampNeg = j := nI_clamp (by omega)
    refine br_f (nI_ge hj (by omega)) ⟨vp_in_nI (by omega) (by omega), ?_⟩
    rw [hcl]
    exact br_f hD (h7 ⟨j, hj, hD⟩)
  · intro n j hj hD hi
    have hcl : (nI j).toNatClampNeg = j := nI_clamp (by omega)
    refine br_f (nI_ge hj (by omega)) ⟨vp_in_nI (by omega) (by omega), ?_⟩
    rw [hcl]
    exact br_t (Classical.not_not.mp hD) (nm_r (nI_1 j) hi)
theorem qy_reb45 {post : Int32 → SY → Prop} (hN : N ≤ 8) (hp : post 1 ((nI C), (nI N), wy, ls, g, sp, (nI e), ck, cf, rs, st, kd, tg, vl, gF, gU, (qb_m N g wr), (qb_m N g ld), ow, im, sa, bf, bu, mS, mC, mK, mL, mV, mT)) : ∃ n, wY_rebase_45 post (nI C) (nI N) wy ls g sp (nI e) n 0 ck cf rs st kd tg vl gF gU wr ld ow im sa bf bu mS mC mK mL mV mT := by
  have key := qx_fold (W := fun n j (s : (Nat → Int32) × (Nat → Int32)) => wY_rebase_45 post (nI C) (nI N) wy ls g sp (nI e) n (nI j) ck cf rs st kd tg vl gF gU s.1 s.2 ow im sa bf bu mS mC mK mL mV mT) (fun j => (qb_m j g wr, qb_m j g ld)) N ?_ ?_
  · unfold qb_m at key
    dsimp only at key
    rw [qs_F0, qs_F0] at key
    exact key
  · intro n
    exact br_t (nI_le (Nat.le_refl _) (by omega)) hp
  · intro n j hj hi
    have hin : vp_in (nI j) 8 := vp_in_nI (by omega) (by omega)
    have hcl : (nI j).toNatClampNeg = j := nI_clamp (by omega)
    refine br_f (nI_ge hj (by omega)) ⟨hin, qy_max ⟨hin, nm_r (e' := qb_m (j + 1) g wr) ?_ ⟨hin, qy_max ⟨hin, nm_r (e' := qb_m (j + 1) g ld) ?_ (nm_r (nI_1 j) hi)⟩⟩⟩⟩
    · unfold qb_m
      dsimp only
      rw [hcl, qs_0r]
      exact qs_0T rfl
    · unfold qb_m
      dsimp only
      rw [hcl, qs_0r]
      exact qs_0T rfl
theorem qy_reb {post : Int32 → SY → Prop} (hC : C ≤ 4) (hN : N ≤ 8) (h7 : (∃ j, j < C ∧ ¬ g ≤ cf j) → post 7 ((nI C), (nI N), wy, ls, g, sp, (nI e), ck, cf, rs, st, kd, tg, vl, gF, gU, wr, ld, ow, im, sa, bf, bu, mS, mC, mK, mL, mV, mT)) (h1 : (∀ j, j < C → ¬ ¬ g ≤ cf j) → post 1 ((nI C), (nI N), wy, ls, (g + 16), sp, (nI e), ck, cf, rs, st, kd, tg, vl, gF, gU, (qb_m N (g + 16) wr), (qb_m N (g + 16) ld), ow, im, sa, bf, bu, mS, mC, mK, mL, mV, mT)) : wpY_rebase post ((nI C), (nI N), wy, ls, g, sp, (nI e), ck, cf, rs, st, kd, tg, vl, gF, gU, wr, ld, ow, im, sa, bf, bu, mS, mC, mK, mL, mV, mT) := by
  refine qx_scan (W := fun n j => wY_rebase_2 post (nI C) (nI N) wy ls g sp (nI e) ck cf rs st kd tg vl gF gU wr ld ow im sa bf bu mS mC mK mL mV mT n (nI j)) (D := fun j => ¬ g ≤ cf j) (C := C) ?_ ?_ ?_
  · intro hn n
    exact br_t (nI_le (Nat.le_refl _) (by omega)) (nm_e (qy_reb45 hN (h1 hn)))
  · intro n j hj hD
    have hcl : (nI j).toNatClampNeg = j := nI_clamp (by omega)
    refine br_f (nI_ge hj (by omega)) ⟨vp_in_nI (by omega) (by omega), ?_⟩
    rw [hcl]
    exact br_f hD (h7 ⟨j, hj, hD⟩)
  · intro n j hj hD hi
    have hcl : (nI j).toNatClampNeg = j := nI_clamp (by omega)
    refine br_f (nI_ge hj (by omega)) ⟨vp_in_nI (by omega) (by omega), ?_⟩
    rw [hcl]
    exact br_t (Classical.not_not.mp hD) (nm_r (nI_1 j) hi)
theorem qp_L_wr {k : Nat} {wr' : Nat → Int32} (L : (qp_L N k h e sp rg lS lC lK lL lV lT mS mC mK mL mV mT wr)) (hw : ∀ b, b < N → (wr b).toInt ≤ (wr' b).toInt) : (qp_L N k h e sp rg lS lC lK lL lV lT mS mC mK mL mV mT wr') := by
  obtain ⟨l1, l2, l3, l4, l5, l6⟩ := L
  refine ⟨l1, l2, l3, l4, l5, fun i hi => ?_⟩
  obtain ⟨m1, a, ha, m2, m3⟩ := l6 i hi
  refine ⟨m1, a, ha, m2, fun z => ?_⟩
  have := m3 z
  have := hw a ha
  omega
theorem i_vc_rebase {k : Nat} {u : SX} {v : SY} (I : i_Rel k u v) (hk : k + 4 ≤ 2052) : wpX_rebase (fun r u' => wpY_rebase (fun r' v' => r' = r ∧ i_Rel (k + 4) u' v') v) u := by
  refine zz_el (P := fun u v => i_Rel (k + 4) u v → wpX_rebase (fun r u' => wpY_rebase (fun r' v' => r' = r ∧ i_Rel (k + 4) u' v') v) u) I ?_ (i_up I)
  intro C N h e wy ls sp g ck cf rs st kd tg vl gF gU cr sa fr un da wr ld ow im me lS lC lK lL lV lT rg bf bu mS mC mK mL mV mT A T P Q S M G L I'
  obtain ⟨a1, a2, a3, a4, _⟩ := id A
  refine qx_reb a2 a4 (fun h7 => qy_reb a2 a4 (fun _ => ⟨rfl, I'⟩) (fun h1 => ?_)) (fun h1 => qy_reb a2 a4 (fun h7 => ?_) (fun _ => ⟨rfl, ?_⟩))
  · obtain ⟨j, hj, hn⟩ := h7
    exact absurd hn (h1 j hj)
  · obtain ⟨j, hj, hn⟩ := h7
    exact absurd hn (h1 j hj)
  · obtain ⟨⟨t0, t1⟩, t2, t3, t4⟩ := id T
    have g16 : (g + 16).toInt = g.toInt + 16 := by
      rw [qa_add (by rw [qa_16]; omega) (by rw [qa_16]; omega), qa_16]
    have hcf : ∀ c, c < C → (cf c).toInt = g.toInt := by
      intro c hc
      have h2 := t2 c hc
      have h3 := qa_le.mp (Classical.not_not.mp (h1 c hc))
      omega
    have hne : ∀ c, c < C → ¬ cf c = g + 16 := by
      intro c hc z
      have h2 := hcf c hc
      rw [z, g16] at h2
      omega
    have hw : ∀ b, b < N → (wr b).toInt ≤ (qb_m N (g + 16) wr b).toInt := by
      intro b hb
      rw [qb_ma hb]
      exact (qa_mxT _ _).1
    have hl : ∀ b, b < N → (ld b).toInt ≤ (qb_m N (g + 16) ld b).toInt := by
      intro b hb
      rw [qb_ma hb]
      exact (qa_mxT _ _).1
    refine zz_in A ?_ P Q ?_ ?_ ?_ (qp_L_up (qp_L_wr L hw))
    · refine ⟨⟨by omega, by omega⟩, fun c hc => ?_, t3, fun b hb => ?_⟩
      · have h2 := t2 c hc
        have h3 := hcf c hc
        omega
      · rw [qb_ma hb, qb_ma hb]
        have x1 := qa_mxT (wr b) (g + 16)
        have x2 := qa_mxT (ld b) (g + 16)
        obtain ⟨y1, y2, y3⟩ := t4 b hb
        refine ⟨by omega, by omega, fun d hd => ?_⟩
        have h3 := hcf d hd
        have h4 := y3 d hd
        omega
    · intro c hc b hb
      obtain ⟨s1, s2, s3⟩ := S c hc b hb
      refine ⟨s1, s2, fun z => ?_⟩
      obtain ⟨h1, h2, h3, h4, h5, h6, h7⟩ := s3 z
      have := hl b hb
      exact ⟨h1, h2, h3, h4, by omega, fun w => absurd w (hne c hc), h7⟩
    · intro b hb
      refine qp_M_fr (M b hb) rfl rfl (qp_Vc L a4 hb (hw b hb)) (fun _ _ => Iff.rfl) (fun _ _ _ => rfl) (fun _ _ => ⟨Iff.rfl, fun _ => ⟨rfl, rfl, rfl⟩⟩) (fun hz d hd => ?_)
      rw [qb_ma hb]
      have x2 := qa_mxT (ld b) (g + 16)
      have h3 := hcf d hd
      have h4 := hz d hd
      omega
    · intro c hc b hb y1 y2 y3
      obtain ⟨g1, g2, g3, g4, g5, g6⟩ := G c hc b hb y1 y2 y3
      have := hl b hb
      exact ⟨g1, g2, by omega, g4, fun w => absurd w (hne c hc), g6⟩
end QRB
end
section
section QEV
variable {C N h e : Nat} {wy ls sp g : Int32} {ck cf rs st kd tg vl gF gU cr sa fr un da wr ld ow im me lS lC lK lL lV lT rg bf bu mS mC mK mL mV mT : Nat → Int32}
theorem qx_drop {post : SX → Prop} {i : Nat} (hi : i < 32) (hp : post ((nI C), (nI N), wy, ls, (nI h), (nI e), sp, g, ck, cf, rs, st, kd, tg, vl, gF, gU, cr, (upd sa i 0), (upd fr i 0), (upd un i 0), (upd da i 0), wr, ld, ow, im, me, lS, lC, lK, lL, lV, lT, rg)) : wpX_drop post ((nI C), (nI N), wy, ls, (nI h), (nI e), sp, g, ck, cf, rs, st, kd, tg, vl, gF, gU, cr, sa, fr, un, da, wr, ld, ow, im, me, lS, lC, lK, lL, lV, lT, rg) (nI i) := by
  have hin : vp_in (nI i) 32 := vp_in_nI hi (by omega)
  have hcl : (nI i).toNatClampNeg = i := nI_clamp (by omega)
  exact ⟨hin, nm_r (by rw [hcl]) ⟨hin, nm_r (by rw [hcl]) ⟨hin, nm_r (by rw [hcl]) ⟨hin, nm_r (by rw [hcl]) hp⟩⟩⟩⟩
theorem qx_share {post : SX → Prop} {i : Nat} {p1 p2 p3 : Int32} (hi : i < 32) (hp : post ((nI C), (nI N), wy, ls, (nI h), (nI e), sp, g, ck, cf, rs, st, kd, tg, vl, gF, gU, cr, (upd sa i 1), (upd fr i p1), (upd un i p2), (upd da i p3), wr, ld, ow, im, me, lS, lC, lK, lL, lV, lT, rg)) : wpX_share post ((nI C), (nI N), wy, ls, (nI h), (nI e), sp, g, ck, cf, rs, st, kd, tg, vl, gF, gU, cr, sa, fr, un, da, wr, ld, ow, im, me, lS, lC, lK, lL, lV, lT, rg) (nI i) p1 p2 p3 := by
  have hin : vp_in (nI i) 32 := vp_in_nI hi (by omega)
  have hcl : (nI i).toNatClampNeg = i := nI_clamp (by omega)
  exact ⟨hin, nm_r (by rw [hcl]) ⟨hin, nm_r (by rw [hcl]) ⟨hin, nm_r (by rw [hcl]) ⟨hin, nm_r (by rw [hcl]) hp⟩⟩⟩⟩
theorem qx_begin {post : SX → Prop} {c : Nat} {p1 p2 p3 p4 : Int32} (hc : c < 4) (hp : post ((nI C), (nI N), wy, ls, (nI h), (nI e), sp, g, ck, cf, rs, (upd st c p4), (upd kd c p2), (upd tg c p1), (upd vl c p3), (upd gF c 0), (upd gU c 0), cr, sa, fr, un, da, wr, ld, ow, im, me, lS, lC, lK, lL, lV, lT, rg)) : wpX_begin post ((nI C), (nI N), wy, ls, (nI h), (nI e), sp, g, ck, cf, rs, st, kd, tg, vl, gF, gU, cr, sa, fr, un, da, wr, ld, ow, im, me, lS, lC, lK, lL, lV, lT, rg) (nI c) p1 p2 p3 p4 := by
  have hin : vp_in (nI c) 4 := vp_in_nI hc (by omega)
  have hcl : (nI c).toNatClampNeg = c := nI_clamp (by omega)
  exact ⟨hin, nm_r (by rw [hcl]) ⟨hin, nm_r (by rw [hcl]) ⟨hin, nm_r (by rw [hcl]) ⟨hin, nm_r (by rw [hcl]) ⟨hin, nm_r (by rw [hcl]) ⟨hin, nm_r (by rw [hcl]) hp⟩⟩⟩⟩⟩⟩
theorem qx_idle {post : SX → Prop} {c : Nat} (hc : c < 4) (hp : post ((nI C), (nI N), wy, ls, (nI h), (nI e), sp, g, ck, cf, rs, (upd st c 0), (upd kd c 0), (upd tg c (-1)), (upd vl c 0), (upd gF c 0), (upd gU c 0), cr, sa, fr, un, da, wr, ld, ow, im, me, lS, lC, lK, lL, lV, lT, rg)) : wpX_becomeIdle post ((nI C), (nI N), wy, ls, (nI h), (nI e), sp, g, ck, cf, rs, st, kd, tg, vl, gF, gU, cr, sa, fr, un, da, wr, ld, ow, im, me, lS, lC, lK, lL, lV, lT, rg) (nI c) := by
  unfold wpX_becomeIdle
  exact qx_begin hc hp
theorem qy_setP {post : SY → Prop} {c : Nat} {p1 p2 p3 p4 : Int32} (hc : c < 4) (hp : post ((nI C), (nI N), wy, ls, g, sp, (nI e), ck, cf, rs, (upd st c p4), (upd kd c p1), (upd tg c p2), (upd vl c p3), (upd gF c 0), (upd gU c 0), wr, ld, ow, im, sa, bf, bu, mS, mC, mK, mL, mV, mT)) : wpY_setPending post ((nI C), (nI N), wy, ls, g, sp, (nI e), ck, cf, rs, st, kd, tg, vl, gF, gU, wr, ld, ow, im, sa, bf, bu, mS, mC, mK, mL, mV, mT) (nI c) p1 p2 p3 p4 := by
  have hin : vp_in (nI c) 4 := vp_in_nI hc (by omega)
  have hcl : (nI c).toNatClampNeg = c := nI_clamp (by omega)
  exact ⟨hin, nm_r (by rw [hcl]) ⟨hin, nm_r (by rw [hcl]) ⟨hin, nm_r (by rw [hcl]) ⟨hin, nm_r (by rw [hcl]) ⟨hin, nm_r (by rw [hcl]) ⟨hin, nm_r (by rw [hcl]) hp⟩⟩⟩⟩⟩⟩
theorem qp_ixne {c d a b : Nat} (hab : a ≠ b) (ha : a < 8) (hb : b < 8) : d * 8 + b ≠ c * 8 + a := by omega
theorem qp_fr_pend {c a b : Nat} {st' kd' tg' cr' : Nat → Int32} (hab : a ≠ b) (ha : a < 8) (hb : b < 8) (h0 : tg c = -1 ∨ tg c = nI a) (h1 : tg' c = -1 ∨ tg' c = nI a) (hj : ∀ j, j ≠ c → tg' j = tg j ∧ st' j = st j ∧ kd' j = kd j ∧ cr' j = cr j) : ∀ j, j < C → (tg' j = nI b ↔ tg j = nI b) ∧ (tg j = nI b → st' j = st j ∧ kd' j = kd j ∧ cr' j = cr j) := by
  intro j _
  by_cases hjc : j = c
  · subst hjc
    have n0 : ¬ tg j = nI b := by
      intro z
      rcases h0 with w | w
      · exact qp_nm1 b hb (z.symm.trans w)
      · exact hab (qp_inj _ _ ha hb (w.symm.trans z))
    have n1 : ¬ tg' j = nI b := by
      intro z
      rcases h1 with w | w
      · exact qp_nm1 b hb (z.symm.trans w)
      · exact hab (qp_inj _ _ ha hb (w.symm.trans z))
    exact ⟨⟨fun z => absurd z n1, fun z => absurd z n0⟩, fun z => absurd z n0⟩
  · obtain ⟨y1, y2, y3, y4⟩ := hj j hjc
    rw [y1, y2, y3, y4]
    exact ⟨Iff.rfl, fun _ => ⟨rfl, rfl, rfl⟩⟩
/-- a shared copy is dropped: nothing else looks at it -/
theorem qp_M_drop {a i : Nat} {V : Nat → Int → Int32} {x : Int32} (M : (qp_M1 C a st kd tg ow sa cr da me wr ld cf V)) (hi : sa i = 1) : (qp_M1 C a st kd tg ow (upd sa i 0) cr (upd da i x) me wr ld cf V) := by
  refine qp_M_fr M rfl rfl rfl (fun d _ => ?_) (fun d _ hz => ?_) (fun _ _ => ⟨Iff.rfl, fun _ => ⟨rfl, rfl, rfl⟩⟩) (fun z => z)
  · by_cases hd : d * 8 + a = i
    · rw [hd, pk_us, hi]; decide
    · rw [pk_un hd]
  · by_cases hd : d * 8 + a = i
    · rw [hd, hi] at hz; exact absurd hz (by decide)
    · rw [pk_un hd]
theorem qp_S_drop {c a : Nat} {V : Nat → Int → Int32} {x : Int32} (hN : N ≤ 8) (ha : a < N) (S : (qp_S C N g cf sa fr un bf bu da ld V)) : (qp_S C N g cf (upd sa (c * 8 + a) 0) (upd fr (c * 8 + a) 0) (upd un (c * 8 + a) 0) bf bu (upd da (c * 8 + a) x) ld V) :=
  qp_S_at hN ha S (fun j hj => ⟨pk_un hj, pk_un hj, pk_un hj, pk_un hj, rfl, rfl⟩) (Or.inl ⟨pk_us, pk_us, pk_us⟩)
theorem i_vc_evict {k : Nat} {u : SX} {v : SY} (I : i_Rel k u v) (hk : k + 4 ≤ 2052) (v1 : Int32) (v2 : Int32) : wpX_evict (fun r u' => wpY_evict (fun r' v' => r' = r ∧ i_Rel (k + 4) u' v') v v1 v2) u v1 v2 := by
  refine zz_el (P := fun u v => i_Rel (k + 4) u v → wpX_evict (fun r u' => wpY_evict (fun r' v' => r' = r ∧ i_Rel (k + 4) u' v') v v1 v2) u v1 v2) I ?_ (i_up I)
  intro C N h e wy ls sp g ck cf rs st kd tg vl gF gU cr sa fr un da wr ld ow im me lS lC lK lL lV lT rg bf bu mS mC mK mL mV mT A T P Q S M G L I'
  obtain ⟨a1, a2, a3, a4, _⟩ := id A
  unfold wpX_evict wpY_evict
  dsimp only
  rcases qa_cs v1 (show C < 2 ^ 31 by omega) with ⟨c, hc, rfl⟩ | hb
  · rcases qa_cs v2 (show N < 2 ^ 31 by omega) with ⟨a, ha, rfl⟩ | hb
    · have hin : vp_in (nI c) 4 := vp_in_nI (by omega) (by omega)
      have hcl : (nI c).toNatClampNeg = c := nI_clamp (by omega)
      have hin2 : vp_in (nI (c * 8 + a)) 32 := vp_in_nI (by omega) (by omega)
      have hcl2 : (nI (c * 8 + a)).toNatClampNeg = c * 8 + a := nI_clamp (by omega)
      have hi32 : c * 8 + a < 32 := by omega
      refine qx_bcF hc a2 (br_t rfl (qx_blF ha a4 (br_t rfl ⟨hin, ?_⟩)))
      by_cases hs : st c = 0
      · have hs' : st (nI c).toNatClampNeg = 0 := by rw [hcl]; exact hs
        refine br_t hs' (nm_r (qa_ix c a) ⟨hin2, ?_⟩)
        rw [hcl2]
        by_cases h0 : sa (c * 8 + a) = 0
        · refine br_t h0 (qy_bcF hc a2 (br_t rfl (qy_blF ha a4 (br_t rfl ⟨hin, br_t hs' (nm_r (qa_ix c a) ⟨hin2, ?_⟩)⟩))))
          rw [hcl2]
          exact br_t h0 ⟨rfl, I'⟩
        · refine br_f h0 ⟨hin2, ?_⟩
          by_cases h1 : sa (c * 8 + a) = 1
          · refine br_t h1 (qx_drop hi32 (qy_bcF hc a2 (br_t rfl (qy_blF ha a4 (br_t rfl ⟨hin, br_t hs' (nm_r (qa_ix c a) ⟨hin2, ?_⟩)⟩)))))
            rw [hcl2]
            refine br_f h0 ⟨hin2, br_t h1 ⟨hin2, nm_e ⟨rfl, ?_⟩⟩⟩
            exact zz_in A (qp_T_up T) P Q (qp_S_drop a4 ha S) (fun b hb => qp_M_drop (M b hb) h1) G (qp_L_up L)
          · have h2 : sa (c * 8 + a) = 2 := by
              rcases (S c hc a ha).1 with z | z | z
              · exact absurd z h0
              · exact absurd z h1
              · exact z
            have hP : kd c = 0 ∧ tg c = -1 := by
              rcases P c hc with z | ⟨b, _, _, z | z⟩
              · exact z.2
              · rw [hs] at z; exact absurd z.1 (by decide)
              · rw [hs] at z; exact absurd z.1 (by decide)
            refine br_f h1 (qx_recalled a2 hc (fun hn => ?_) (fun hr => ?_))
            · refine br_t rfl (qx_begin (by omega) ?_)
              dsimp only
              refine ⟨hin2, hin, nm_r (e' := upd cr c (da (c * 8 + a))) (by rw [hcl]) (qx_drop hi32 ?_)⟩
              dsimp only
              refine qy_bcF hc a2 (br_t rfl (qy_blF ha a4 (br_t rfl ⟨hin, br_t hs' (nm_r (qa_ix c a) ⟨hin2, ?_⟩)⟩)))
              rw [hcl2]
              refine br_f h0 ⟨hin2, br_f h1 (qy_evict70 a2 hc (fun _ n => ?_) (fun ⟨j, hj, hz⟩ => absurd hz (hn j hj)))⟩
              refine br_t (nI_le (Nat.le_refl _) (by omega)) ⟨hin2, nm_r (e' := upd sa (c * 8 + a) 0) (by rw [hcl2]) (qy_setP (by omega) ⟨rfl, ?_⟩)⟩
              refine zz_in A (qp_T_up T) ?_ (qp_Q_3 hc Q) (qp_S_drop a4 ha S) ?_ ?_ (qp_L_up L)
              · refine qp_P_at (c := c) P (fun j _ hj => ⟨pk_un hj, pk_un hj, pk_un hj⟩) (Or.inr ⟨a, ha, pk_us, Or.inr ⟨pk_us, Or.inr (Or.inr pk_us)⟩⟩)
              · intro b hb
                by_cases hab : a = b
                · subst hab
                  exact qp_M_ev a2 (by omega) (M a ha) hc hP.2 h2 hn
                · refine qp_M_fr (M b hb) rfl rfl rfl (fun d _ => ?_) (fun d _ _ => ?_) (qp_fr_pend hab (by omega) (by omega) (Or.inl hP.2) (Or.inr pk_us) (fun j hj => ⟨pk_un hj, pk_un hj, pk_un hj, pk_un hj⟩)) (fun z => z)
                  · rw [pk_un (qp_ixne hab (by omega) (by omega))]
                  · rw [pk_un (qp_ixne hab (by omega) (by omega))]
              · refine qp_G_at (c := c) G (fun j _ hj => ⟨pk_un hj, pk_un hj, pk_un hj, pk_un hj, pk_un hj, pk_un hj, rfl⟩) (fun _ _ => Int.le_refl _) (fun _ _ _ _ => rfl) (fun _ _ _ z => ?_)
                rw [pk_us] at z
                exact absurd z (by decide)
            · refine br_f (by decide) (qy_bcF hc a2 (br_t rfl (qy_blF ha a4 (br_t rfl ⟨hin, br_t hs' (nm_r (qa_ix c a) ⟨hin2, ?_⟩)⟩))))
              rw [hcl2]
              refine br_f h0 ⟨hin2, br_f h1 (qy_evict70 a2 hc (fun hn n => ?_) (fun _ => ⟨rfl, I'⟩))⟩
              obtain ⟨j, hj, hz⟩ := hr
              exact absurd hz (hn j hj)
      · have hs' : ¬ st (nI c).toNatClampNeg = 0 := by rw [hcl]; exact hs
        exact br_f hs' (qy_bcF hc a2 (br_t rfl (qy_blF ha a4 (br_t rfl ⟨hin, br_f hs' ⟨rfl, I'⟩⟩))))
    · exact qx_bcF hc a2 (br_t rfl (qx_blT hb (br_f (by decide) (qy_bcF hc a2 (br_t rfl (qy_blT hb (br_f (by decide) ⟨rfl, I'⟩)))))))
  · exact qx_bcT hb (br_f (by decide) (qy_bcT hb (br_f (by decide) ⟨rfl, I'⟩)))
end QEV
end
section
section QAS
variable {C N h e : Nat} {wy ls sp g : Int32} {ck cf rs st kd tg vl gF gU cr sa fr un da wr ld ow im me lS lC lK lL lV lT rg bf bu mS mC mK mL mV mT : Nat → Int32}
/-! room for a copy -/
def qs_h (sa : Nat → Int32) (b : Nat) : Nat → Int32
  | 0 => 0
  | j + 1 => if sa (b + j) = 0 then qs_h sa b j else qs_h sa b j + 1
def qs_v (sa un : Nat → Int32) (b : Nat) : Nat → Int32
  | 0 => -1
  | j + 1 => if sa (b + j) = 1 then (if qs_v sa un b j < 0 then nI (b + j) else if un (qs_v sa un b j).toNatClampNeg ≤ un (b + j) then qs_v sa un b j else nI (b + j)) else qs_v sa un b j
theorem qs_h_s (sa : Nat → Int32) (b j : Nat) : qs_h sa b (j + 1) = if sa (b + j) = 0 then qs_h sa b j else qs_h sa b j + 1 := rfl
theorem qs_v_s (sa un : Nat → Int32) (b j : Nat) : qs_v sa un b (j + 1) = if sa (b + j) = 1 then (if qs_v sa un b j < 0 then nI (b + j) else if un (qs_v sa un b j).toNatClampNeg ≤ un (b + j) then qs_v sa un b j else nI (b + j)) else qs_v sa un b j := rfl
theorem qs_vF (sa un : Nat → Int32) (b : Nat) : ∀ j : Nat, qs_v sa un b j = -1 ∨ ∃ i, b ≤ i ∧ i < b + j ∧ qs_v sa un b j = nI i ∧ sa i = 1 := by
  intro j
  induction j with
  | zero => exact Or.inl rfl
  | succ j ih =>
    rw [qs_v_s]
    have old : qs_v sa un b j = -1 ∨ ∃ i, b ≤ i ∧ i < b + (j + 1) ∧ qs_v sa un b j = nI i ∧ sa i = 1 := by
      rcases ih with z | ⟨i, h1, h2, h3⟩
      · exact Or.inl z
      · exact Or.inr ⟨i, h1, by omega, h3⟩
    by_cases h1 : sa (b + j) = 1
    · rw [if_pos h1]
      have new : nI (b + j) = -1 ∨ ∃ i, b ≤ i ∧ i < b + (j + 1) ∧ nI (b + j) = nI i ∧ sa i = 1 := Or.inr ⟨b + j, by omega, by omega, rfl, h1⟩
      split
      · exact new
      · split
        · exact old
        · exact new
    · rw [if_neg h1]; exact old
theorem qs_vY {sa un bu : Nat → Int32} {b n : Nat} (hb : b + n < 2 ^ 31) (hu : ∀ i, b ≤ i → i < b + n → sa i = 1 → bu i = un i) : ∀ j : Nat, j ≤ n → qs_v sa bu b j = qs_v sa un b j := by
  intro j
  induction j with
  | zero => intro _; rfl
  | succ j ih =>
    intro hj
    rw [qs_v_s, qs_v_s, ih (by omega)]
    by_cases h1 : sa (b + j) = 1
    · rw [if_pos h1, if_pos h1]
      rcases qs_vF sa un b j with z | ⟨i, i1, i2, i3, i4⟩
      · rw [z, if_pos (show (-1 : Int32) < 0 by decide), if_pos (show (-1 : Int32) < 0 by decide)]
      · rw [i3, nI_clamp (by omega), hu i i1 (by omega) i4, hu (b + j) (by omega) (by omega) h1]
    · rw [if_neg h1, if_neg h1]
theorem qx_room51 {post : Int32 → SX → Prop} {J : Int32 → Int32 → Int32 → Prop} {b j : Nat} {x3 x4 : Int32} (hb : b + j < 32) (hJ : J x4 (qs_v sa un b (j + 1)) (nI (b + (j + 1)))) : wX_makeRoom_51 post J x3 x4 (qs_v sa un b j) (nI (b + j)) (nI C) (nI N) wy ls (nI h) (nI e) sp g ck cf rs st kd tg vl gF gU cr sa fr un da wr ld ow im me lS lC lK lL lV lT rg := by
  have hin : vp_in (nI (b + j)) 32 := vp_in_nI (by omega) (by omega)
  have hcl : (nI (b + j)).toNatClampNeg = b + j := nI_clamp (by omega)
  rw [qs_v_s] at hJ
  refine And.intro hin ?_
  rw [hcl]
  by_cases h1 : sa (b + j) = 1
  · rw [if_pos h1] at hJ
    refine br_t h1 ?_
    by_cases h2 : qs_v sa un b j < 0
    · rw [if_pos h2] at hJ
      exact br_t h2 (nm_r (nI_1 _) hJ)
    · rw [if_neg h2] at hJ
      refine br_f h2 ⟨hin, ?_, ?_⟩
      · rcases qs_vF sa un b j with z | ⟨i, i1, i2, i3, i4⟩
        · rw [z] at h2; exact absurd (by decide) h2
        · rw [i3]; exact vp_in_nI (by omega) (by omega)
      · by_cases h3 : un (qs_v sa un b j).toNatClampNeg ≤ un (b + j)
        · rw [if_pos h3] at hJ
          exact br_t h3 (nm_r (nI_1 _) hJ)
        · rw [if_neg h3] at hJ
          exact br_f h3 (nm_r (nI_1 _) hJ)
  · rw [if_neg h1] at hJ
    exact br_f h1 (nm_r (nI_1 _) hJ)
theorem qx_room {post : Int32 → SX → Prop} {c a : Nat} (hc : c < 4) (hN : N ≤ 8) (ha : a < N) (h0 : ¬ sa (c * 8 + a) = 0 → post 1 ((nI C), (nI N), wy, ls, (nI h), (nI e), sp, g, ck, cf, rs, st, kd, tg, vl, gF, gU, cr, sa, fr, un, da, wr, ld, ow, im, me, lS, lC, lK, lL, lV, lT, rg)) (h1 : sa (c * 8 + a) = 0 → ¬ wy ≤ qs_h sa (c * 8) N → post 1 ((nI C), (nI N), wy, ls, (nI h), (nI e), sp, g, ck, cf, rs, st, kd, tg, vl, gF, gU, cr, sa, fr, un, da, wr, ld, ow, im, me, lS, lC, lK, lL, lV, lT, rg)) (h2 : sa (c * 8 + a) = 0 → wy ≤ qs_h sa (c * 8) N → qs_v sa un (c * 8) N = -1 → post 0 ((nI C), (nI N), wy, ls, (nI h), (nI e), sp, g, ck, cf, rs, st, kd, tg, vl, gF, gU, cr, sa, fr, un, da, wr, ld, ow, im, me, lS, lC, lK, lL, lV, lT, rg)) (h3 : sa (c * 8 + a) = 0 → wy ≤ qs_h sa (c * 8) N → ∀ i, c * 8 ≤ i → i < c * 8 + N → qs_v sa un (c * 8) N = nI i → sa i = 1 → post 1 ((nI C), (nI N), wy, ls, (nI h), (nI e), sp, g, ck, cf, rs, st, kd, tg, vl, gF, gU, cr, (upd sa i 0), (upd fr i 0), (upd un i 0), (upd da i 0), wr, ld, ow, im, me, lS, lC, lK, lL, lV, lT, rg)) : wpX_makeRoom post ((nI C), (nI N), wy, ls, (nI h), (nI e), sp, g, ck, cf, rs, st, kd, tg, vl, gF, gU, cr, sa, fr, un, da, wr, ld, ow, im, me, lS, lC, lK, lL, lV, lT, rg) (nI c) (nI a) := by
  refine nm_r (qa_x8 c) ?_
  rw [nI_add, nI_clamp (by omega)]
  refine ⟨vp_in_nI (by omega) (by omega), ?_⟩
  by_cases hz : sa (c * 8 + a) = 0
  · refine br_t hz ?_
    have key := qx_fold (W := fun n j (s : Int32 × Int32) => wX_makeRoom_27 post (nI (c * 8)) (nI C) (nI N) wy ls (nI h) (nI e) sp g ck cf rs st kd tg vl gF gU cr sa fr un da wr ld ow im me lS lC lK lL lV lT rg n s.1 s.2 (nI (c * 8 + j))) (fun j => (qs_h sa (c * 8) j, qs_v sa un (c * 8) j)) N ?_ ?_
    · exact key
    · intro n
      refine br_t (by rw [nI_add]; exact nI_le (Nat.le_refl _) (by omega)) ?_
      dsimp only
      by_cases hw : wy ≤ qs_h sa (c * 8) N
      · refine br_t hw ?_
        rcases qs_vF sa un (c * 8) N with z | ⟨i, i1, i2, i3, i4⟩
        · exact br_f (by rw [z]; decide) (h2 hz hw z)
        · refine br_t (by rw [i3]; exact nI_pos' (by omega)) ?_
          rw [i3]
          exact qx_drop (by omega) (h3 hz hw i i1 i2 i3 i4)
      · exact br_f hw (h1 hz hw)
    · intro n j hj hi
      have hcl : (nI (c * 8 + j)).toNatClampNeg = c * 8 + j := nI_clamp (by omega)
      refine br_f (by rw [nI_add]; exact nI_ge (by omega) (by omega)) ⟨vp_in_nI (by omega) (by omega), ?_⟩
      dsimp only at hi ⊢
      rw [qs_h_s] at hi
      rw [hcl]
      by_cases hs : sa (c * 8 + j) = 0
      · rw [if_pos hs] at hi
        exact br_t hs (qx_room51 (by omega) hi)
      · rw [if_neg hs] at hi
        exact br_f hs (nm_e (qx_room51 (by omega) hi))
  · exact br_f hz (h0 hz)
theorem qy_ask40 {post : Int32 → SY → Prop} {J : Int32 → Int32 → Int32 → Prop} {b j : Nat} {x1 x2 x3 x4 x5 : Int32} (hb : b + j < 32) (hJ : J x5 (qs_v sa bu b (j + 1)) (nI (j + 1))) : wY_ask_40 post J x1 x2 x3 x4 x5 (qs_v sa bu b j) (nI j) (nI (b + j)) (nI C) (nI N) wy ls g sp (nI e) ck cf rs st kd tg vl gF gU wr ld ow im sa bf bu mS mC mK mL mV mT := by
  have hin : vp_in (nI (b + j)) 32 := vp_in_nI (by omega) (by omega)
  have hcl : (nI (b + j)).toNatClampNeg = b + j := nI_clamp (by omega)
  rw [qs_v_s] at hJ
  refine And.intro hin ?_
  rw [hcl]
  by_cases h1 : sa (b + j) = 1
  · rw [if_pos h1] at hJ
    refine br_t h1 ?_
    by_cases h2 : qs_v sa bu b j < 0
    · rw [if_pos h2] at hJ
      exact br_t h2 (nm_r (nI_1 _) hJ)
    · rw [if_neg h2] at hJ
      refine br_f h2 ⟨hin, ?_, ?_⟩
      · rcases qs_vF sa bu b j with z | ⟨i, i1, i2, i3, i4⟩
        · rw [z] at h2; exact absurd (by decide) h2
        · rw [i3]; exact vp_in_nI (by omega) (by omega)
      · by_cases h3 : bu (qs_v sa bu b j).toNatClampNeg ≤ bu (b + j)
        · rw [if_pos h3] at hJ
          exact br_t h3 (nm_r (nI_1 _) hJ)
        · rw [if_neg h3] at hJ
          exact br_f h3 (nm_r (nI_1 _) hJ)
  · rw [if_neg h1] at hJ
    exact br_f h1 (nm_r (nI_1 _) hJ)
theorem qy_ask9 {post : Int32 → SY → Prop} {c a : Nat} {kk v : Int32} (hc : c < 4) (hN : N ≤ 8) (ha : a < N) (h0 : ¬ sa (c * 8 + a) = 0 → wY_ask_122 post (nI c) kk (nI a) v (nI C) (nI N) wy ls g sp (nI e) ck cf rs st kd tg vl gF gU wr ld ow im sa bf bu mS mC mK mL mV mT) (h1 : sa (c * 8 + a) = 0 → ¬ wy ≤ qs_h sa (c * 8) N → wY_ask_122 post (nI c) kk (nI a) v (nI C) (nI N) wy ls g sp (nI e) ck cf rs st kd tg vl gF gU wr ld ow im sa bf bu mS mC mK mL mV mT) (h2 : sa (c * 8 + a) = 0 → wy ≤ qs_h sa (c * 8) N → qs_v sa bu (c * 8) N = -1 → post 6 ((nI C), (nI N), wy, ls, g, sp, (nI e), ck, cf, rs, st, kd, tg, vl, gF, gU, wr, ld, ow, im, sa, bf, bu, mS, mC, mK, mL, mV, mT)) (h3 : sa (c * 8 + a) = 0 → wy ≤ qs_h sa (c * 8) N → ∀ i, c * 8 ≤ i → i < c * 8 + N → qs_v sa bu (c * 8) N = nI i → sa i = 1 → wY_ask_122 post (nI c) kk (nI a) v (nI C) (nI N) wy ls g sp (nI e) ck cf rs st kd tg vl gF gU wr ld ow im (upd sa i 0) bf bu mS mC mK mL mV mT) : wpY_ask post ((nI C), (nI N), wy, ls, g, sp, (nI e), ck, cf, rs, st, kd, tg, vl, gF, gU, wr, ld, ow, im, sa, bf, bu, mS, mC, mK, mL, mV, mT) (nI c) kk (nI a) v := by
  have key := qx_fold (W := fun n j (s : Int32 × Int32) => wY_ask_9 post (nI c) kk (nI a) v (nI C) (nI N) wy ls g sp (nI e) ck cf rs st kd tg vl gF gU wr ld ow im sa bf bu mS mC mK mL mV mT n s.1 s.2 (nI j)) (fun j => (qs_h sa (c * 8) j, qs_v sa bu (c * 8) j)) N ?_ ?_
  · exact key
  · intro n
    refine br_t (nI_le (Nat.le_refl _) (by omega)) ?_
    rw [qa_ix, nI_clamp (by omega)]
    refine ⟨vp_in_nI (by omega) (by omega), ?_⟩
    dsimp only
    by_cases hz : sa (c * 8 + a) = 0
    · refine br_t hz ?_
      by_cases hw : wy ≤ qs_h sa (c * 8) N
      · refine br_f (by rw [qa_lt]; rw [qa_le] at hw; omega) ?_
        rcases qs_vF sa bu (c * 8) N with z | ⟨i, i1, i2, i3, i4⟩
        · exact br_f (by rw [z]; decide) (h2 hz hw z)
        · refine br_t (by rw [i3]; exact nI_pos' (by omega)) ?_
          rw [i3, nI_clamp (by omega)]
          exact ⟨vp_in_nI (by omega) (by omega), nm_e (h3 hz hw i i1 i2 i3 i4)⟩
      · exact br_t (by rw [qa_lt]; rw [qa_le] at hw; omega) (h1 hz hw)
    · exact br_f hz (h0 hz)
  · intro n j hj hi
    have hcl : (nI (c * 8 + j)).toNatClampNeg = c * 8 + j := nI_clamp (by omega)
    refine br_f (nI_ge hj (by omega)) (nm_r (qa_ix c j) ⟨vp_in_nI (by omega) (by omega), ?_⟩)
    dsimp only at hi ⊢
    rw [qs_h_s] at hi
    rw [hcl]
    by_cases hs : sa (c * 8 + j) = 0
    · rw [if_pos hs] at hi
      exact br_t hs (qy_ask40 (by omega) hi)
    · rw [if_neg hs] at hi
      exact br_f hs (nm_e (qy_ask40 (by omega) hi))
/-- the state after a request was sent -/
theorem qk_sent {k c a : Nat} {kk v : Int32} {sa' fr' un' da' : Nat → Int32} (hc : c < C) (ha : a < N) (hkk : kk = 1 ∨ kk = 2) (hs : st c = 0) (hq : e + qp_cnt kd C < 32) (hx : ¬ sa (c * 8 + a) = 2) (hsa : ∀ i, sa' i = 2 ↔ sa i = 2) (hda : ∀ i, sa i = 2 → da' i = da i) (A : (qp_A C N ls)) (T : (qp_T C N k g cf ck wr ld)) (P : (qp_P C N st kd tg)) (S : (qp_S C N g cf sa' fr' un' bf bu da' ld (qp_V h e rg lS lC lK lL lV lT im))) (M : (qp_M C N st kd tg ow sa cr da me wr ld cf (qp_V h e rg lS lC lK lL lV lT im))) (G : (qp_G C N g cf ck st kd tg gF gU cr ld (qp_V h e rg lS lC lK lL lV lT im))) (L : (qp_L N k h e sp rg lS lC lK lL lV lT mS mC mK mL mV mT wr)) : i_Rel (k + 4) ((nI C), (nI N), wy, ls, (nI h), (nI e), sp, g, ck, cf, rs, (upd st c 1), (upd kd c kk), (upd tg c (nI a)), (upd vl c v), (upd gF c 0), (upd gU c 0), cr, sa', fr', un', da', wr, ld, ow, im, me, lS, lC, lK, lL, lV, lT, rg) ((nI C), (nI N), wy, ls, g, sp, (nI e), ck, cf, rs, (upd st c 1), (upd kd c kk), (upd tg c (nI a)), (upd vl c v), (upd gF c 0), (upd gU c 0), wr, ld, ow, im, sa', bf, bu, mS, mC, mK, mL, mV, mT) := by
  obtain ⟨a1, a2, a3, a4, _⟩ := id A
  have hP : kd c = 0 ∧ tg c = -1 := by
    rcases P c hc with z | ⟨b, _, _, z | z⟩
    · exact z.2
    · rw [hs] at z; exact absurd z.1 (by decide)
    · rw [hs] at z; exact absurd z.1 (by decide)
  refine zz_in A (qp_T_up T) ?_ (qp_Q_on hc hP.1 hq) S ?_ ?_ (qp_L_up L)
  · refine qp_P_at (c := c) P (fun j _ hj => ⟨pk_un hj, pk_un hj, pk_un hj⟩) (Or.inr ⟨a, ha, pk_us, Or.inl ⟨Or.inl pk_us, ?_⟩⟩)
    rw [pk_us]
    exact hkk
  · intro b hb
    by_cases hab : a = b
    · subst hab
      have J1 := qp_nm1
      have M1 := M a ha
      have ha8 : a < 8 := by omega
      unfold qp_M1 qp_mv upd at *
      obtain ⟨m1, m2, m3, m4, m5⟩ := M1
      refine ⟨?_, ?_, ?_, ?_, ?_⟩ <;> grind (splits := 20)
    · refine qp_M_fr (M b hb) rfl rfl rfl (fun d _ => hsa _) (fun d _ hz => hda _ hz) (qp_fr_pend hab (by omega) (by omega) (Or.inl hP.2) (Or.inr pk_us) (fun j hj => ⟨pk_un hj, pk_un hj, pk_un hj, rfl⟩)) (fun z => z)
  · refine qp_G_at (c := c) G (fun j _ hj => ⟨pk_un hj, pk_un hj, pk_un hj, pk_un hj, pk_un hj, rfl, rfl⟩) (fun _ _ => Int.le_refl _) (fun _ _ _ _ => rfl) (fun _ _ _ z => ?_)
    rw [pk_us] at z
    exact absurd z (by decide)
theorem qk_ask {k c a : Nat} {kk v : Int32} (hc : c < C) (ha : a < N) (hkk : kk = 1 ∨ kk = 2) (hs : st c = 0) (hq : e + qp_cnt kd C < 32) (hx : ¬ sa (c * 8 + a) = 2) (A : (qp_A C N ls)) (T : (qp_T C N k g cf ck wr ld)) (P : (qp_P C N st kd tg)) (Q : (qp_Q C e kd)) (S : (qp_S C N g cf sa fr un bf bu da ld (qp_V h e rg lS lC lK lL lV lT im))) (M : (qp_M C N st kd tg ow sa cr da me wr ld cf (qp_V h e rg lS lC lK lL lV lT im))) (G : (qp_G C N g cf ck st kd tg gF gU cr ld (qp_V h e rg lS lC lK lL lV lT im))) (L : (qp_L N k h e sp rg lS lC lK lL lV lT mS mC mK mL mV mT wr)) : ∃ r u' v', (∀ post : Int32 → SX → Prop, post r u' → wpX_ask post ((nI C), (nI N), wy, ls, (nI h), (nI e), sp, g, ck, cf, rs, st, kd, tg, vl, gF, gU, cr, sa, fr, un, da, wr, ld, ow, im, me, lS, lC, lK, lL, lV, lT, rg) (nI c) (nI a) kk v) ∧ (∀ post : Int32 → SY → Prop, post r v' → wpY_ask post ((nI C), (nI N), wy, ls, g, sp, (nI e), ck, cf, rs, st, kd, tg, vl, gF, gU, wr, ld, ow, im, sa, bf, bu, mS, mC, mK, mL, mV, mT) (nI c) kk (nI a) v) ∧ i_Rel (k + 4) u' v' := by
  obtain ⟨a1, a2, a3, a4, _⟩ := id A
  have hvv : qs_v sa bu (c * 8) N = qs_v sa un (c * 8) N := by
    refine qs_vY (by omega) (fun i i1 i2 i3 => ?_) N (Nat.le_refl _)
    have e1 : c * 8 + (i - c * 8) = i := by omega
    have := (S c hc (i - c * 8) (by omega)).2.2
    rw [e1] at this
    exact (this i3).2.1
  have same : ∃ r u' v', (r = (2 : Int32)) ∧ u' = ((nI C), (nI N), wy, ls, (nI h), (nI e), sp, g, ck, cf, rs, (upd st c 1), (upd kd c kk), (upd tg c (nI a)), (upd vl c v), (upd gF c 0), (upd gU c 0), cr, sa, fr, un, da, wr, ld, ow, im, me, lS, lC, lK, lL, lV, lT, rg) ∧ v' = ((nI C), (nI N), wy, ls, g, sp, (nI e), ck, cf, rs, (upd st c 1), (upd kd c kk), (upd tg c (nI a)), (upd vl c v), (upd gF c 0), (upd gU c 0), wr, ld, ow, im, sa, bf, bu, mS, mC, mK, mL, mV, mT) ∧ i_Rel (k + 4) u' v' := ⟨_, _, _, rfl, rfl, rfl, qk_sent hc ha hkk hs hq hx (fun _ => Iff.rfl) (fun _ _ => rfl) A T P S M G L⟩
  by_cases hz : sa (c * 8 + a) = 0
  · by_cases hw : wy ≤ qs_h sa (c * 8) N
    · rcases qs_vF sa un (c * 8) N with z | ⟨i, i1, i2, i3, i4⟩
      · refine ⟨6, ((nI C), (nI N), wy, ls, (nI h), (nI e), sp, g, ck, cf, rs, st, kd, tg, vl, gF, gU, cr, sa, fr, un, da, wr, ld, ow, im, me, lS, lC, lK, lL, lV, lT, rg), ((nI C), (nI N), wy, ls, g, sp, (nI e), ck, cf, rs, st, kd, tg, vl, gF, gU, wr, ld, ow, im, sa, bf, bu, mS, mC, mK, mL, mV, mT), fun post hp => ?_, fun post hp => ?_, zz_in A (qp_T_up T) P Q S M G (qp_L_up L)⟩
        · unfold wpX_ask
          refine qx_room (by omega) a4 ha (fun z => absurd hz z) (fun _ z => absurd hw z) (fun _ _ _ => br_t rfl hp) (fun _ _ i _ _ h1 _ => ?_)
          rw [z] at h1
          exact absurd h1.symm (qa_nm1 (by omega))
        · refine qy_ask9 (by omega) a4 ha (fun z => absurd hz z) (fun _ z => absurd hw z) (fun _ _ _ => hp) (fun _ _ i _ _ h1 _ => ?_)
          rw [hvv, z] at h1
          exact absurd h1.symm (qa_nm1 (by omega))
      · have e1 : c * 8 + (i - c * 8) = i := by omega
        have hrel : i_Rel (k + 4) ((nI C), (nI N), wy, ls, (nI h), (nI e), sp, g, ck, cf, rs, (upd st c 1), (upd kd c kk), (upd tg c (nI a)), (upd vl c v), (upd gF c 0), (upd gU c 0), cr, (upd sa i 0), (upd fr i 0), (upd un i 0), (upd da i 0), wr, ld, ow, im, me, lS, lC, lK, lL, lV, lT, rg) ((nI C), (nI N), wy, ls, g, sp, (nI e), ck, cf, rs, (upd st c 1), (upd kd c kk), (upd tg c (nI a)), (upd vl c v), (upd gF c 0), (upd gU c 0), wr, ld, ow, im, (upd sa i 0), bf, bu, mS, mC, mK, mL, mV, mT) := by
          refine qk_sent hc ha hkk hs hq hx (fun j => ?_) (fun j hj => ?_) A T P ?_ M G L
          · by_cases hji : j = i
            · rw [hji, pk_us, i4]; decide
            · rw [pk_un hji]
          · by_cases hji : j = i
            · rw [hji, i4] at hj; exact absurd hj (by decide)
            · rw [pk_un hji]
          · have := qp_S_drop (c := c) (a := i - c * 8) (x := 0) a4 (by omega) S
            rw [e1] at this
            exact this
        refine ⟨2, _, _, fun post hp => ?_, fun post hp => ?_, hrel⟩
        · unfold wpX_ask
          refine qx_room (by omega) a4 ha (fun z => absurd hz z) (fun _ z => absurd hw z) (fun _ _ z => ?_) (fun _ _ i' _ _ h1 _ => ?_)
          · rw [i3] at z
            exact absurd z (qa_nm1 (by omega))
          · have e2 : i' = i := qa_inj (h1.symm.trans i3) (by omega) (by omega)
            rw [e2]
            exact br_f (by decide) (qx_begin (by omega) hp)
        · refine qy_ask9 (by omega) a4 ha (fun z => absurd hz z) (fun _ z => absurd hw z) (fun _ _ z => ?_) (fun _ _ i' _ _ h1 _ => ?_)
          · rw [hvv, i3] at z
            exact absurd z (qa_nm1 (by omega))
          · rw [hvv] at h1
            have e2 : i' = i := qa_inj (h1.symm.trans i3) (by omega) (by omega)
            rw [e2]
            unfold wY_ask_122
            exact qy_setP (by omega) hp
    · obtain ⟨r, u', v', rfl, rfl, rfl, hrel⟩ := same
      refine ⟨2, _, _, fun post hp => ?_, fun post hp => ?_, hrel⟩
      · unfold wpX_ask
        exact qx_room (by omega) a4 ha (fun z => absurd hz z) (fun _ _ => br_f (by decide) (qx_begin (by omega) hp)) (fun _ z => absurd z hw) (fun _ z => absurd z hw)
      · refine qy_ask9 (by omega) a4 ha (fun z => absurd hz z) (fun _ _ => ?_) (fun _ z => absurd z hw) (fun _ z => absurd z hw)
        unfold wY_ask_122
        exact qy_setP (by omega) hp
  · obtain ⟨r, u', v', rfl, rfl, rfl, hrel⟩ := same
    refine ⟨2, _, _, fun post hp => ?_, fun post hp => ?_, hrel⟩
    · unfold wpX_ask
      exact qx_room (by omega) a4 ha (fun _ => br_f (by decide) (qx_begin (by omega) hp)) (fun z => absurd z hz) (fun z => absurd z hz) (fun z => absurd z hz)
    · refine qy_ask9 (by omega) a4 ha (fun _ => ?_) (fun z => absurd z hz) (fun z => absurd z hz) (fun z => absurd z hz)
      unfold wY_ask_122
      exact qy_setP (by omega) hp
end QAS
end
section
section QCP
variable {C N h e : Nat} {wy ls sp g : Int32} {ck cf rs st kd tg vl gF gU cr sa fr un da wr ld ow im me lS lC lK lL lV lT rg bf bu mS mC mK mL mV mT : Nat → Int32}
/-! completing an access -/
theorem qx_alog {post : SX → Prop} {k c a : Nat} {kk v t : Int32} {wr0 : Nat → Int32} (L : (qp_L N k h e sp rg lS lC lK lL lV lT mS mC mK mL mV mT wr0)) (hk : k ≤ 2052) (hN : N ≤ 8) (hc : c < 4) (ha : a < N) (he : e < 32) (hw : ∀ b, b < N → (wr0 b).toInt ≤ (wr b).toInt) (h2 : kk = 2 → t.toInt ≤ (wr a).toInt ∧ (wr0 a).toInt < t.toInt) (hp : ∀ rg', (qp_L N (k + 4) h (e + 1) (sp + 1) rg' (upd lS (ql_p h rg e) (sp + 1)) (upd lC (ql_p h rg e) (nI c)) (upd lK (ql_p h rg e) kk) (upd lL (ql_p h rg e) (nI a)) (upd lV (ql_p h rg e) v) (upd lT (ql_p h rg e) t) (upd mS e (sp + 1)) (upd mC e (nI c)) (upd mK e kk) (upd mL e (nI a)) (upd mV e v) (upd mT e t) wr) → (∀ (im : Nat → Int32) (b : Nat), b < N → ∀ s : Int, (qp_V h (e + 1) rg' (upd lS (ql_p h rg e) (sp + 1)) (upd lC (ql_p h rg e) (nI c)) (upd lK (ql_p h rg e) kk) (upd lL (ql_p h rg e) (nI a)) (upd lV (ql_p h rg e) v) (upd lT (ql_p h rg e) t) im) b s = (if kk = 2 ∧ b = a ∧ t.toInt ≤ s then v else (qp_V h e rg lS lC lK lL lV lT im) b s)) → post ((nI C), (nI N), wy, ls, (nI h), (nI (e + 1)), (sp + 1), g, (upd ck c t), cf, rs, st, kd, tg, vl, gF, gU, cr, sa, fr, un, da, wr, ld, ow, im, me, (upd lS (ql_p h rg e) (sp + 1)), (upd lC (ql_p h rg e) (nI c)), (upd lK (ql_p h rg e) kk), (upd lL (ql_p h rg e) (nI a)), (upd lV (ql_p h rg e) v), (upd lT (ql_p h rg e) t), rg')) : wpX_addToLog post ((nI C), (nI N), wy, ls, (nI h), (nI e), sp, g, ck, cf, rs, st, kd, tg, vl, gF, gU, cr, sa, fr, un, da, wr, ld, ow, im, me, lS, lC, lK, lL, lV, lT, rg) (nI c) kk (nI a) v t := by
  obtain ⟨cc, hcc, hcut⟩ := qx_cutL L t.toInt
  refine qx_addlog L.2.2.1 he hc hcc hcut (fun rg' H => ?_)
  obtain ⟨l', v'⟩ := qp_addL (cc := nI c) (v := v) L hk he hN hcc H hcut ha hw h2
  exact hp rg' l' v'
theorem qx_cXL {post : SX → Prop} {k c a : Nat} {t : Int32} (L : (qp_L N k h e sp rg lS lC lK lL lV lT mS mC mK mL mV mT wr)) (hk : k ≤ 2052) (hN : N ≤ 8) (hc : c < 4) (ha : a < N) (he : e < 32) (ht : qa_mx (ck c) (wr a) = t) (hp : ∀ rg', (qp_L N (k + 4) h (e + 1) (sp + 1) rg' (upd lS (ql_p h rg e) (sp + 1)) (upd lC (ql_p h rg e) (nI c)) (upd lK (ql_p h rg e) 1) (upd lL (ql_p h rg e) (nI a)) (upd lV (ql_p h rg e) (da (c * 8 + a))) (upd lT (ql_p h rg e) t) (upd mS e (sp + 1)) (upd mC e (nI c)) (upd mK e 1) (upd mL e (nI a)) (upd mV e (da (c * 8 + a))) (upd mT e t) wr) → (∀ (im : Nat → Int32) (b : Nat), b < N → ∀ s : Int, (qp_V h (e + 1) rg' (upd lS (ql_p h rg e) (sp + 1)) (upd lC (ql_p h rg e) (nI c)) (upd lK (ql_p h rg e) 1) (upd lL (ql_p h rg e) (nI a)) (upd lV (ql_p h rg e) (da (c * 8 + a))) (upd lT (ql_p h rg e) t) im) b s = (qp_V h e rg lS lC lK lL lV lT im) b s) → post ((nI C), (nI N), wy, ls, (nI h), (nI (e + 1)), (sp + 1), g, (upd ck c t), cf, (upd rs c (da (c * 8 + a))), st, kd, tg, vl, gF, gU, cr, sa, fr, un, da, wr, (upd ld a (qa_mx (ld a) t)), ow, im, me, (upd lS (ql_p h rg e) (sp + 1)), (upd lC (ql_p h rg e) (nI c)), (upd lK (ql_p h rg e) 1), (upd lL (ql_p h rg e) (nI a)), (upd lV (ql_p h rg e) (da (c * 8 + a))), (upd lT (ql_p h rg e) t), rg')) : wpX_completeExclusiveLoad post ((nI C), (nI N), wy, ls, (nI h), (nI e), sp, g, ck, cf, rs, st, kd, tg, vl, gF, gU, cr, sa, fr, un, da, wr, ld, ow, im, me, lS, lC, lK, lL, lV, lT, rg) (nI c) (nI a) := by
  have hin : vp_in (nI c) 4 := vp_in_nI hc (by omega)
  have hin8 : vp_in (nI a) 8 := vp_in_nI (by omega) (by omega)
  have hin2 : vp_in (nI (c * 8 + a)) 32 := vp_in_nI (by omega) (by omega)
  have hcl : (nI c).toNatClampNeg = c := nI_clamp (by omega)
  have hcl8 : (nI a).toNatClampNeg = a := nI_clamp (by omega)
  have hcl2 : (nI (c * 8 + a)).toNatClampNeg = c * 8 + a := nI_clamp (by omega)
  refine nm_r (qa_ix c a) ⟨hin, hin8, qx_max ⟨hin8, qx_max ⟨hin8, nm_e ?_⟩⟩⟩
  simp only [hcl, hcl8, hcl2, ht]
  refine ⟨hin2, hin, nm_e ⟨hin2, qx_alog L hk hN hc ha he (fun _ _ => Int.le_refl _) (fun z => absurd z (by decide)) (fun rg' l' v' => hp rg' l' (fun im b hb s => ?_))⟩⟩
  rw [v' im b hb s, if_neg (fun z => absurd z.1 (by decide))]
theorem qx_cSL {post : SX → Prop} {k c a : Nat} {t : Int32} (L : (qp_L N k h e sp rg lS lC lK lL lV lT mS mC mK mL mV mT wr)) (hk : k ≤ 2052) (hN : N ≤ 8) (hc : c < 4) (ha : a < N) (he : e < 32) (ht : qa_mx (ck c) (fr (c * 8 + a)) = t) (hp : ∀ rg', (qp_L N (k + 4) h (e + 1) (sp + 1) rg' (upd lS (ql_p h rg e) (sp + 1)) (upd lC (ql_p h rg e) (nI c)) (upd lK (ql_p h rg e) 1) (upd lL (ql_p h rg e) (nI a)) (upd lV (ql_p h rg e) (da (c * 8 + a))) (upd lT (ql_p h rg e) t) (upd mS e (sp + 1)) (upd mC e (nI c)) (upd mK e 1) (upd mL e (nI a)) (upd mV e (da (c * 8 + a))) (upd mT e t) wr) → (∀ (im : Nat → Int32) (b : Nat), b < N → ∀ s : Int, (qp_V h (e + 1) rg' (upd lS (ql_p h rg e) (sp + 1)) (upd lC (ql_p h rg e) (nI c)) (upd lK (ql_p h rg e) 1) (upd lL (ql_p h rg e) (nI a)) (upd lV (ql_p h rg e) (da (c * 8 + a))) (upd lT (ql_p h rg e) t) im) b s = (qp_V h e rg lS lC lK lL lV lT im) b s) → post ((nI C), (nI N), wy, ls, (nI h), (nI (e + 1)), (sp + 1), g, (upd ck c t), cf, (upd rs c (da (c * 8 + a))), st, kd, tg, vl, gF, gU, cr, sa, fr, un, da, wr, ld, ow, im, me, (upd lS (ql_p h rg e) (sp + 1)), (upd lC (ql_p h rg e) (nI c)), (upd lK (ql_p h rg e) 1), (upd lL (ql_p h rg e) (nI a)), (upd lV (ql_p h rg e) (da (c * 8 + a))), (upd lT (ql_p h rg e) t), rg')) : wpX_completeSharedLoad post ((nI C), (nI N), wy, ls, (nI h), (nI e), sp, g, ck, cf, rs, st, kd, tg, vl, gF, gU, cr, sa, fr, un, da, wr, ld, ow, im, me, lS, lC, lK, lL, lV, lT, rg) (nI c) (nI a) := by
  have hin : vp_in (nI c) 4 := vp_in_nI hc (by omega)
  have hin2 : vp_in (nI (c * 8 + a)) 32 := vp_in_nI (by omega) (by omega)
  have hcl : (nI c).toNatClampNeg = c := nI_clamp (by omega)
  have hcl2 : (nI (c * 8 + a)).toNatClampNeg = c * 8 + a := nI_clamp (by omega)
  refine nm_r (qa_ix c a) ⟨hin, hin2, qx_max ⟨hin2, hin, nm_e ?_⟩⟩
  simp only [hcl, hcl2, ht]
  refine ⟨hin2, qx_alog L hk hN hc ha he (fun _ _ => Int.le_refl _) (fun z => absurd z (by decide)) (fun rg' l' v' => hp rg' l' (fun im b hb s => ?_))⟩
  rw [v' im b hb s, if_neg (fun z => absurd z.1 (by decide))]
theorem qx_cST {post : SX → Prop} {k c a : Nat} {t v : Int32} (L : (qp_L N k h e sp rg lS lC lK lL lV lT mS mC mK mL mV mT wr)) (hk : k ≤ 2052) (hN : N ≤ 8) (hc : c < 4) (ha : a < N) (he : e < 32) (ht : qa_mx (ck c) (ld a + 1) = t) (hwt : (wr a).toInt < t.toInt) (hp : ∀ rg', (qp_L N (k + 4) h (e + 1) (sp + 1) rg' (upd lS (ql_p h rg e) (sp + 1)) (upd lC (ql_p h rg e) (nI c)) (upd lK (ql_p h rg e) 2) (upd lL (ql_p h rg e) (nI a)) (upd lV (ql_p h rg e) v) (upd lT (ql_p h rg e) t) (upd mS e (sp + 1)) (upd mC e (nI c)) (upd mK e 2) (upd mL e (nI a)) (upd mV e v) (upd mT e t) (upd wr a t)) → (∀ (im : Nat → Int32) (b : Nat), b < N → ∀ s : Int, (qp_V h (e + 1) rg' (upd lS (ql_p h rg e) (sp + 1)) (upd lC (ql_p h rg e) (nI c)) (upd lK (ql_p h rg e) 2) (upd lL (ql_p h rg e) (nI a)) (upd lV (ql_p h rg e) v) (upd lT (ql_p h rg e) t) im) b s = (if b = a ∧ t.toInt ≤ s then v else (qp_V h e rg lS lC lK lL lV lT im) b s)) → post ((nI C), (nI N), wy, ls, (nI h), (nI (e + 1)), (sp + 1), g, (upd ck c t), cf, rs, st, kd, tg, vl, gF, gU, cr, sa, fr, un, (upd da (c * 8 + a) v), (upd wr a t), (upd ld a t), ow, im, me, (upd lS (ql_p h rg e) (sp + 1)), (upd lC (ql_p h rg e) (nI c)), (upd lK (ql_p h rg e) 2), (upd lL (ql_p h rg e) (nI a)), (upd lV (ql_p h rg e) v), (upd lT (ql_p h rg e) t), rg')) : wpX_completeStore post ((nI C), (nI N), wy, ls, (nI h), (nI e), sp, g, ck, cf, rs, st, kd, tg, vl, gF, gU, cr, sa, fr, un, da, wr, ld, ow, im, me, lS, lC, lK, lL, lV, lT, rg) (nI c) (nI a) v := by
  have hin : vp_in (nI c) 4 := vp_in_nI hc (by omega)
  have hin8 : vp_in (nI a) 8 := vp_in_nI (by omega) (by omega)
  have hin2 : vp_in (nI (c * 8 + a)) 32 := vp_in_nI (by omega) (by omega)
  have hcl : (nI c).toNatClampNeg = c := nI_clamp (by omega)
  have hcl8 : (nI a).toNatClampNeg = a := nI_clamp (by omega)
  have hcl2 : (nI (c * 8 + a)).toNatClampNeg = c * 8 + a := nI_clamp (by omega)
  refine ⟨hin, hin8, qx_max ⟨hin8, nm_e ⟨hin8, nm_e ?_⟩⟩⟩
  simp only [qa_ix, hcl, hcl8, hcl2, ht]
  refine ⟨hin2, nm_e (qx_alog (wr0 := wr) L hk hN hc ha he (fun b hb => ?_) (fun _ => ⟨?_, hwt⟩) (fun rg' l' v' => hp rg' l' (fun im b hb s => ?_)))⟩
  · by_cases hba : b = a
    · rw [hba, pk_us]; omega
    · rw [pk_un hba]; exact Int.le_refl _
  · rw [pk_us]; exact Int.le_refl _
  · rw [v' im b hb s]
    by_cases hz : b = a ∧ t.toInt ≤ s
    · rw [if_pos hz, if_pos ⟨rfl, hz⟩]
    · rw [if_neg hz, if_neg (fun z => hz z.2)]
theorem qy_xl {post : SY → Prop} {k c a : Nat} {t v : Int32} (L : (qp_L N k h e sp rg lS lC lK lL lV lT mS mC mK mL mV mT wr)) (hN : N ≤ 8) (hc : c < 4) (ha : a < N) (he : e < 32) (ht : qa_mx (ck c) (wr a) = t) (hv : (qp_V h e rg lS lC lK lL lV lT im) a t.toInt = v) (hp : post ((nI C), (nI N), wy, ls, g, (sp + 1), (nI (e + 1)), (upd ck c t), cf, (upd rs c v), st, kd, tg, vl, gF, gU, wr, (upd ld a (qa_mx (ld a) t)), ow, im, sa, bf, bu, (upd mS e (sp + 1)), (upd mC e (nI c)), (upd mK e 1), (upd mL e (nI a)), (upd mV e v), (upd mT e t))) : wpY_exclusiveLoad post ((nI C), (nI N), wy, ls, g, sp, (nI e), ck, cf, rs, st, kd, tg, vl, gF, gU, wr, ld, ow, im, sa, bf, bu, mS, mC, mK, mL, mV, mT) (nI c) (nI a) := by
  have hin : vp_in (nI c) 4 := vp_in_nI hc (by omega)
  have hin8 : vp_in (nI a) 8 := vp_in_nI (by omega) (by omega)
  have hcl : (nI c).toNatClampNeg = c := nI_clamp (by omega)
  have hcl8 : (nI a).toNatClampNeg = a := nI_clamp (by omega)
  refine ⟨hin, hin8, qy_max ⟨hin8, qy_max ⟨hin8, nm_e ?_⟩⟩⟩
  simp only [hcl, hcl8, ht]
  refine qy_val L hN ha ?_
  rw [hv]
  exact qy_fin he hc (fun _ => hp) (fun z => absurd rfl z)
theorem qy_sl {post : SY → Prop} {k c a : Nat} {t v : Int32} (L : (qp_L N k h e sp rg lS lC lK lL lV lT mS mC mK mL mV mT wr)) (hN : N ≤ 8) (hc : c < 4) (ha : a < N) (he : e < 32) (ht : qa_mx (ck c) (bf (c * 8 + a)) = t) (hv : (qp_V h e rg lS lC lK lL lV lT im) a t.toInt = v) (hp : post ((nI C), (nI N), wy, ls, g, (sp + 1), (nI (e + 1)), (upd ck c t), cf, (upd rs c v), st, kd, tg, vl, gF, gU, wr, ld, ow, im, sa, bf, bu, (upd mS e (sp + 1)), (upd mC e (nI c)), (upd mK e 1), (upd mL e (nI a)), (upd mV e v), (upd mT e t))) : wpY_sharedLoad post ((nI C), (nI N), wy, ls, g, sp, (nI e), ck, cf, rs, st, kd, tg, vl, gF, gU, wr, ld, ow, im, sa, bf, bu, mS, mC, mK, mL, mV, mT) (nI c) (nI a) := by
  have hin : vp_in (nI c) 4 := vp_in_nI hc (by omega)
  have hin2 : vp_in (nI (c * 8 + a)) 32 := vp_in_nI (by omega) (by omega)
  have hcl : (nI c).toNatClampNeg = c := nI_clamp (by omega)
  have hcl2 : (nI (c * 8 + a)).toNatClampNeg = c * 8 + a := nI_clamp (by omega)
  refine ⟨hin, ?_⟩
  simp only [qa_ix, hcl, hcl2]
  refine ⟨hin2, qy_max ?_⟩
  simp only [ht]
  refine qy_val L hN ha ?_
  rw [hv]
  exact qy_fin he hc (fun _ => hp) (fun z => absurd rfl z)
theorem qy_cst {post : SY → Prop} {c a : Nat} {t v : Int32} (hN : N ≤ 8) (hc : c < 4) (ha : a < N) (he : e < 32) (ht : qa_mx (ck c) (ld a + 1) = t) (hp : post ((nI C), (nI N), wy, ls, g, (sp + 1), (nI (e + 1)), (upd ck c t), cf, rs, st, kd, tg, vl, gF, gU, (upd wr a t), (upd ld a t), ow, im, sa, bf, bu, (upd mS e (sp + 1)), (upd mC e (nI c)), (upd mK e 2), (upd mL e (nI a)), (upd mV e v), (upd mT e t))) : wpY_completeStore post ((nI C), (nI N), wy, ls, g, sp, (nI e), ck, cf, rs, st, kd, tg, vl, gF, gU, wr, ld, ow, im, sa, bf, bu, mS, mC, mK, mL, mV, mT) (nI c) (nI a) v := by
  have hin : vp_in (nI c) 4 := vp_in_nI hc (by omega)
  have hin8 : vp_in (nI a) 8 := vp_in_nI (by omega) (by omega)
  have hcl : (nI c).toNatClampNeg = c := nI_clamp (by omega)
  have hcl8 : (nI a).toNatClampNeg = a := nI_clamp (by omega)
  refine ⟨hin, hin8, qy_max ⟨hin8, nm_e ⟨hin8, nm_e ?_⟩⟩⟩
  simp only [hcl, hcl8, ht]
  exact qy_fin he hc (fun z => absurd z (by decide)) (fun _ => hp)
end QCP
end
section
section QLD
variable {C N h e : Nat} {wy ls sp g : Int32} {ck cf rs st kd tg vl gF gU cr sa fr un da wr ld ow im me lS lC lK lL lV lT rg bf bu mS mC mK mL mV mT : Nat → Int32}
/-- after a load on an exclusive copy -/
theorem qk_xl {k c a : Nat} {t : Int32} {rg' : Nat → Int32} (hk : k + 4 ≤ 2052) (hc : c < C) (ha : a < N) (hs : st c = 0) (hq : e + qp_cnt kd C < 32) (hx : sa (c * 8 + a) = 2) (ht : qa_mx (ck c) (wr a) = t) (A : (qp_A C N ls)) (T : (qp_T C N k g cf ck wr ld)) (P : (qp_P C N st kd tg)) (S : (qp_S C N g cf sa fr un bf bu da ld (qp_V h e rg lS lC lK lL lV lT im))) (M : (qp_M C N st kd tg ow sa cr da me wr ld cf (qp_V h e rg lS lC lK lL lV lT im))) (G : (qp_G C N g cf ck st kd tg gF gU cr ld (qp_V h e rg lS lC lK lL lV lT im))) (L' : (qp_L N (k + 4) h (e + 1) (sp + 1) rg' (upd lS (ql_p h rg e) (sp + 1)) (upd lC (ql_p h rg e) (nI c)) (upd lK (ql_p h rg e) 1) (upd lL (ql_p h rg e) (nI a)) (upd lV (ql_p h rg e) (da (c * 8 + a))) (upd lT (ql_p h rg e) t) (upd mS e (sp + 1)) (upd mC e (nI c)) (upd mK e 1) (upd mL e (nI a)) (upd mV e (da (c * 8 + a))) (upd mT e t) wr)) (V' : ∀ (im : Nat → Int32) (b : Nat), b < N → ∀ s : Int, (qp_V h (e + 1) rg' (upd lS (ql_p h rg e) (sp + 1)) (upd lC (ql_p h rg e) (nI c)) (upd lK (ql_p h rg e) 1) (upd lL (ql_p h rg e) (nI a)) (upd lV (ql_p h rg e) (da (c * 8 + a))) (upd lT (ql_p h rg e) t) im) b s = (qp_V h e rg lS lC lK lL lV lT im) b s) : i_Rel (k + 4) ((nI C), (nI N), wy, ls, (nI h), (nI (e + 1)), (sp + 1), g, (upd ck c t), cf, (upd rs c (da (c * 8 + a))), st, kd, tg, vl, gF, gU, cr, sa, fr, un, da, wr, (upd ld a (qa_mx (ld a) t)), ow, im, me, (upd lS (ql_p h rg e) (sp + 1)), (upd lC (ql_p h rg e) (nI c)), (upd lK (ql_p h rg e) 1), (upd lL (ql_p h rg e) (nI a)), (upd lV (ql_p h rg e) (da (c * 8 + a))), (upd lT (ql_p h rg e) t), rg') ((nI C), (nI N), wy, ls, g, (sp + 1), (nI (e + 1)), (upd ck c t), cf, (upd rs c (da (c * 8 + a))), st, kd, tg, vl, gF, gU, wr, (upd ld a (qa_mx (ld a) t)), ow, im, sa, bf, bu, (upd mS e (sp + 1)), (upd mC e (nI c)), (upd mK e 1), (upd mL e (nI a)), (upd mV e (da (c * 8 + a))), (upd mT e t)) := by
  obtain ⟨a1, a2, a3, a4, _⟩ := id A
  obtain ⟨t0, t1, t2, t3⟩ := id T
  have x1 := qa_mxT (ck c) (wr a)
  rw [ht] at x1
  have x2 := qa_mxT (ld a) t
  have c1 := t2 c hc
  have c2 := t3 a ha
  have hld : ∀ b, b < N → (ld b).toInt ≤ (upd ld a (qa_mx (ld a) t) b).toInt := by
    intro b _
    by_cases hba : b = a
    · rw [hba, pk_us]; exact x2.1
    · rw [pk_un hba]; exact Int.le_refl _
  refine zz_in A (qp_T_up (qp_T_ck (qp_T_ld T (by omega) (fun d hd => ?_)) (by omega) (fun d hd => ?_))) P ?_ (qp_S_ld S hld (fun b hb s _ => V' im b hb s)) ?_ ?_ L'
  · have h1 := c1.2 d hd
    have h2 := c2.2.2 d hd
    omega
  · have h1 := c1.2 d hd
    have h2 := c2.2.2 d hd
    omega
  · unfold qp_Q; omega
  · intro b hb
    by_cases hba : b = a
    · subst hba
      exact qp_M_xl (M b hb) hc hx (V' im b hb _)
    · refine qp_M_fr (M b hb) rfl rfl (V' im b hb _) (fun _ _ => Iff.rfl) (fun _ _ _ => rfl) (fun _ _ => ⟨Iff.rfl, fun _ => ⟨rfl, rfl, rfl⟩⟩) (fun hz d hd => ?_)
      rw [pk_un hba]; exact hz d hd
  · exact qp_G_at (c := c) G (fun j _ hj => ⟨rfl, rfl, rfl, rfl, rfl, rfl, pk_un hj⟩) hld (fun b hb s _ => V' im b hb s) (fun _ _ _ z => absurd z (qp_ne4 hs))
/-- after a load on a shared copy -/
theorem qk_sl {k c a : Nat} {t : Int32} {rg' : Nat → Int32} (hk : k + 4 ≤ 2052) (hc : c < C) (ha : a < N) (hs : st c = 0) (hq : e + qp_cnt kd C < 32) (hx : sa (c * 8 + a) = 1) (hu : (ck c).toInt ≤ (un (c * 8 + a)).toInt) (ht : qa_mx (ck c) (fr (c * 8 + a)) = t) (A : (qp_A C N ls)) (T : (qp_T C N k g cf ck wr ld)) (P : (qp_P C N st kd tg)) (S : (qp_S C N g cf sa fr un bf bu da ld (qp_V h e rg lS lC lK lL lV lT im))) (M : (qp_M C N st kd tg ow sa cr da me wr ld cf (qp_V h e rg lS lC lK lL lV lT im))) (G : (qp_G C N g cf ck st kd tg gF gU cr ld (qp_V h e rg lS lC lK lL lV lT im))) (L' : (qp_L N (k + 4) h (e + 1) (sp + 1) rg' (upd lS (ql_p h rg e) (sp + 1)) (upd lC (ql_p h rg e) (nI c)) (upd lK (ql_p h rg e) 1) (upd lL (ql_p h rg e) (nI a)) (upd lV (ql_p h rg e) (da (c * 8 + a))) (upd lT (ql_p h rg e) t) (upd mS e (sp + 1)) (upd mC e (nI c)) (upd mK e 1) (upd mL e (nI a)) (upd mV e (da (c * 8 + a))) (upd mT e t) wr)) (V' : ∀ (im : Nat → Int32) (b : Nat), b < N → ∀ s : Int, (qp_V h (e + 1) rg' (upd lS (ql_p h rg e) (sp + 1)) (upd lC (ql_p h rg e) (nI c)) (upd lK (ql_p h rg e) 1) (upd lL (ql_p h rg e) (nI a)) (upd lV (ql_p h rg e) (da (c * 8 + a))) (upd lT (ql_p h rg e) t) im) b s = (qp_V h e rg lS lC lK lL lV lT im) b s) : i_Rel (k + 4) ((nI C), (nI N), wy, ls, (nI h), (nI (e + 1)), (sp + 1), g, (upd ck c t), cf, (upd rs c (da (c * 8 + a))), st, kd, tg, vl, gF, gU, cr, sa, fr, un, da, wr, ld, ow, im, me, (upd lS (ql_p h rg e) (sp + 1)), (upd lC (ql_p h rg e) (nI c)), (upd lK (ql_p h rg e) 1), (upd lL (ql_p h rg e) (nI a)), (upd lV (ql_p h rg e) (da (c * 8 + a))), (upd lT (ql_p h rg e) t), rg') ((nI C), (nI N), wy, ls, g, (sp + 1), (nI (e + 1)), (upd ck c t), cf, (upd rs c (da (c * 8 + a))), st, kd, tg, vl, gF, gU, wr, ld, ow, im, sa, bf, bu, (upd mS e (sp + 1)), (upd mC e (nI c)), (upd mK e 1), (upd mL e (nI a)), (upd mV e (da (c * 8 + a))), (upd mT e t)) := by
  obtain ⟨a1, a2, a3, a4, _⟩ := id A
  obtain ⟨t0, t1, t2, t3⟩ := id T
  have x1 := qa_mxT (ck c) (fr (c * 8 + a))
  rw [ht] at x1
  have c1 := t2 c hc
  have c2 := t3 a ha
  obtain ⟨s1, s2, s3, s4, s5, _⟩ := (S c hc a ha).2.2 hx
  refine zz_in A (qp_T_up (qp_T_ck T (by omega) (fun d hd => ?_))) P ?_ (qp_S_ld S (fun _ _ => Int.le_refl _) (fun b hb s _ => V' im b hb s)) ?_ ?_ L'
  · have h1 := c1.2 d hd
    have h2 := c2.2.2 d hd
    omega
  · unfold qp_Q; omega
  · intro b hb
    exact qp_M_fr (M b hb) rfl rfl (V' im b hb _) (fun _ _ => Iff.rfl) (fun _ _ _ => rfl) (fun _ _ => ⟨Iff.rfl, fun _ => ⟨rfl, rfl, rfl⟩⟩) (fun hz => hz)
  · exact qp_G_at (c := c) G (fun j _ hj => ⟨rfl, rfl, rfl, rfl, rfl, rfl, pk_un hj⟩) (fun _ _ => Int.le_refl _) (fun b hb s _ => V' im b hb s) (fun _ _ _ z => absurd z (qp_ne4 hs))
theorem i_vc_load {k : Nat} {u : SX} {v : SY} (I : i_Rel k u v) (hk : k + 4 ≤ 2052) (v1 : Int32) (v2 : Int32) : wpX_load (fun r u' => wpY_load (fun r' v' => r' = r ∧ i_Rel (k + 4) u' v') v v1 v2) u v1 v2 := by
  refine zz_el (P := fun u v => i_Rel (k + 4) u v → wpX_load (fun r u' => wpY_load (fun r' v' => r' = r ∧ i_Rel (k + 4) u' v') v v1 v2) u v1 v2) I ?_ (i_up I)
  intro C N h e wy ls sp g ck cf rs st kd tg vl gF gU cr sa fr un da wr ld ow im me lS lC lK lL lV lT rg bf bu mS mC mK mL mV mT A T P Q S M G L I'
  obtain ⟨a1, a2, a3, a4, _⟩ := id A
  obtain ⟨r, hX, hY, hr⟩ := qs_open A L.1 v1 v2 (wy := wy) (h := h) (sp := sp) (g := g) (ck := ck) (cf := cf) (rs := rs) (st := st) (kd := kd) (tg := tg) (vl := vl) (gF := gF) (gU := gU) (cr := cr) (sa := sa) (fr := fr) (un := un) (da := da) (wr := wr) (ld := ld) (ow := ow) (im := im) (me := me) (lS := lS) (lC := lC) (lK := lK) (lL := lL) (lV := lV) (lT := lT) (rg := rg) (bf := bf) (bu := bu) (mS := mS) (mC := mC) (mK := mK) (mL := mL) (mV := mV) (mT := mT)
  unfold wpX_load wpY_load
  dsimp only
  rcases hr with hr | ⟨rfl, c, a, hc, ha, rfl, rfl, hs, hq⟩
  · exact hX _ (br_f hr (hY _ (br_f hr ⟨rfl, I'⟩)))
  · have hin : vp_in (nI c) 4 := vp_in_nI (by omega) (by omega)
    have hcl : (nI c).toNatClampNeg = c := nI_clamp (by omega)
    have hin2 : vp_in (nI (c * 8 + a)) 32 := vp_in_nI (by omega) (by omega)
    have hcl2 : (nI (c * 8 + a)).toNatClampNeg = c * 8 + a := nI_clamp (by omega)
    have he : e < 32 := by omega
    refine hX _ (br_t rfl (nm_r (qa_ix c a) ⟨hin2, ?_⟩))
    rw [hcl2]
    by_cases h2 : sa (c * 8 + a) = 2
    · refine br_t h2 (qx_cXL L (by omega) a4 (by omega) ha he rfl (fun rg' l' v' => hY _ (br_t rfl (nm_r (qa_ix c a) ⟨hin2, ?_⟩))))
      rw [hcl2]
      refine br_t h2 (qy_xl (v := da (c * 8 + a)) L a4 (by omega) ha he rfl ?_ ⟨rfl, qk_xl hk hc ha hs hq h2 rfl A T P S M G l' v'⟩)
      rw [((M a ha).2.2.2.2 c hc h2).2]
      exact qp_Vc L a4 ha (qa_mxT _ _).2.1
    · refine br_f h2 ⟨hin2, ?_⟩
      by_cases h1 : sa (c * 8 + a) = 1
      · obtain ⟨s1, s2, s3, s4, s5, s6, s7⟩ := (S c hc a ha).2.2 h1
        refine br_t h1 ⟨hin, hin2, ?_⟩
        rw [hcl]
        by_cases hu : un (c * 8 + a) < ck c
        · refine br_t hu ?_
          obtain ⟨r, u', v', kX, kY, kR⟩ := qk_ask (v := 0) (kk := 1) hc ha (Or.inl rfl) hs hq h2 A T P Q S M G L
          unfold wX_load_76
          refine kX _ (hY _ (br_t rfl (nm_r (qa_ix c a) ⟨hin2, ?_⟩)))
          rw [hcl2]
          refine br_f h2 ⟨hin2, br_t h1 ⟨hin, hin2, ?_⟩⟩
          rw [s2]
          refine br_t hu ?_
          unfold wY_load_76
          exact kY _ ⟨rfl, kR⟩
        · have hu' : (ck c).toInt ≤ (un (c * 8 + a)).toInt := qa_nlt.mp hu
          have x1 := qa_mxT (ck c) (fr (c * 8 + a))
          refine br_f hu (qx_cSL L (by omega) a4 (by omega) ha he rfl (fun rg' l' v' => hY _ (br_t rfl (nm_r (qa_ix c a) ⟨hin2, ?_⟩))))
          rw [hcl2]
          refine br_f h2 ⟨hin2, br_t h1 ⟨hin, hin2, ?_⟩⟩
          rw [s2]
          refine br_f hu (qy_sl (v := da (c * 8 + a)) L a4 (by omega) ha he (by rw [s1]) ?_ ⟨rfl, qk_sl hk hc ha hs hq h1 hu' rfl A T P S M G l' v'⟩)
          exact (s7 _ (by omega) (by omega)).symm
      · refine br_f h1 ?_
        obtain ⟨r, u', v', kX, kY, kR⟩ := qk_ask (v := 0) (kk := 1) hc ha (Or.inl rfl) hs hq h2 A T P Q S M G L
        unfold wX_load_76
        refine kX _ (hY _ (br_t rfl (nm_r (qa_ix c a) ⟨hin2, ?_⟩)))
        rw [hcl2]
        refine br_f h2 ⟨hin2, br_f h1 ?_⟩
        unfold wY_load_76
        exact kY _ ⟨rfl, kR⟩
end QLD
end
section
section QST
variable {C N h e : Nat} {wy ls sp g : Int32} {ck cf rs st kd tg vl gF gU cr sa fr un da wr ld ow im me lS lC lK lL lV lT rg bf bu mS mC mK mL mV mT : Nat → Int32}
/-- after a store on an exclusive copy -/
theorem qk_st {k c a : Nat} {t v : Int32} {rg' : Nat → Int32} (hk : k + 4 ≤ 2052) (hc : c < C) (ha : a < N) (hs : st c = 0) (hq : e + qp_cnt kd C < 32) (hx : sa (c * 8 + a) = 2) (hl : ld a < qx_LM cf C) (ht : qa_mx (ck c) (ld a + 1) = t) (htl : (ld a).toInt < t.toInt) (htd : ∀ d, d < C → t.toInt ≤ (cf d).toInt + 31) (A : (qp_A C N ls)) (T : (qp_T C N k g cf ck wr ld)) (P : (qp_P C N st kd tg)) (S : (qp_S C N g cf sa fr un bf bu da ld (qp_V h e rg lS lC lK lL lV lT im))) (M : (qp_M C N st kd tg ow sa cr da me wr ld cf (qp_V h e rg lS lC lK lL lV lT im))) (G : (qp_G C N g cf ck st kd tg gF gU cr ld (qp_V h e rg lS lC lK lL lV lT im))) (L' : (qp_L N (k + 4) h (e + 1) (sp + 1) rg' (upd lS (ql_p h rg e) (sp + 1)) (upd lC (ql_p h rg e) (nI c)) (upd lK (ql_p h rg e) 2) (upd lL (ql_p h rg e) (nI a)) (upd lV (ql_p h rg e) v) (upd lT (ql_p h rg e) t) (upd mS e (sp + 1)) (upd mC e (nI c)) (upd mK e 2) (upd mL e (nI a)) (upd mV e v) (upd mT e t) (upd wr a t))) (V' : ∀ (im : Nat → Int32) (b : Nat), b < N → ∀ s : Int, (qp_V h (e + 1) rg' (upd lS (ql_p h rg e) (sp + 1)) (upd lC (ql_p h rg e) (nI c)) (upd lK (ql_p h rg e) 2) (upd lL (ql_p h rg e) (nI a)) (upd lV (ql_p h rg e) v) (upd lT (ql_p h rg e) t) im) b s = (if b = a ∧ t.toInt ≤ s then v else (qp_V h e rg lS lC lK lL lV lT im) b s)) : i_Rel (k + 4) ((nI C), (nI N), wy, ls, (nI h), (nI (e + 1)), (sp + 1), g, (upd ck c t), cf, rs, st, kd, tg, vl, gF, gU, cr, sa, fr, un, (upd da (c * 8 + a) v), (upd wr a t), (upd ld a t), ow, im, me, (upd lS (ql_p h rg e) (sp + 1)), (upd lC (ql_p h rg e) (nI c)), (upd lK (ql_p h rg e) 2), (upd lL (ql_p h rg e) (nI a)), (upd lV (ql_p h rg e) v), (upd lT (ql_p h rg e) t), rg') ((nI C), (nI N), wy, ls, g, (sp + 1), (nI (e + 1)), (upd ck c t), cf, rs, st, kd, tg, vl, gF, gU, (upd wr a t), (upd ld a t), ow, im, sa, bf, bu, (upd mS e (sp + 1)), (upd mC e (nI c)), (upd mK e 2), (upd mL e (nI a)), (upd mV e v), (upd mT e t)) := by
  obtain ⟨a1, a2, a3, a4, _⟩ := id A
  obtain ⟨t0, t1, t2, t3⟩ := id T
  have x1 := qa_mxT (ck c) (ld a + 1)
  rw [ht] at x1
  have c1 := t2 c hc
  have c2 := t3 a ha
  have hld : ∀ b, b < N → (ld b).toInt ≤ (upd ld a t b).toInt := by
    intro b _
    by_cases hba : b = a
    · rw [hba, pk_us]; omega
    · rw [pk_un hba]; exact Int.le_refl _
  have hV : ∀ b, b < N → ∀ s : Int, s ≤ (ld b).toInt → (qp_V h (e + 1) rg' (upd lS (ql_p h rg e) (sp + 1)) (upd lC (ql_p h rg e) (nI c)) (upd lK (ql_p h rg e) 2) (upd lL (ql_p h rg e) (nI a)) (upd lV (ql_p h rg e) v) (upd lT (ql_p h rg e) t) im) b s = (qp_V h e rg lS lC lK lL lV lT im) b s := by
    intro b hb s hs
    rw [V' im b hb s]
    refine if_neg (fun z => ?_)
    have := z.2
    rw [z.1] at hs
    omega
  refine zz_in A (qp_T_up (qp_T_ck (qp_T_wl T (by omega) htd) (by omega) htd)) P ?_ ?_ ?_ ?_ L'
  · unfold qp_Q; omega
  · exact qp_S_at (c := c) (a := a) a4 ha (qp_S_ld S hld hV) (fun j hj => ⟨rfl, rfl, rfl, pk_un hj, rfl, rfl⟩) (Or.inr (Or.inr hx))
  · intro b hb
    by_cases hba : b = a
    · subst hba
      refine qp_M_st (v := v) a2 (by omega) (M b hb) hc hx pk_us ?_
      rw [pk_us, V' im b hb _, if_pos ⟨rfl, Int.le_refl _⟩]
    · refine qp_M_fr (M b hb) rfl rfl ?_ (fun _ _ => Iff.rfl) (fun d _ _ => pk_un (qp_ixne (fun z => hba z.symm) (by omega) (by omega))) (fun _ _ => ⟨Iff.rfl, fun _ => ⟨rfl, rfl, rfl⟩⟩) (fun hz d hd => ?_)
      · rw [V' im b hb _, if_neg (fun z => hba z.1), pk_un hba]
      · rw [pk_un hba]; exact hz d hd
  · exact qp_G_at (c := c) G (fun j _ hj => ⟨rfl, rfl, rfl, rfl, rfl, rfl, pk_un hj⟩) hld hV (fun _ _ _ z => absurd z (qp_ne4 hs))
/-- the time of a store in the window -/
theorem qk_tm {k c a : Nat} {t : Int32} (hk : k + 4 ≤ 2052) (hc : c < C) (ha : a < N) (hl : ∀ d, d < C → (ld a).toInt < (cf d).toInt + 31) (ht : qa_mx (ck c) (ld a + 1) = t) (A : (qp_A C N ls)) (T : (qp_T C N k g cf ck wr ld)) : (ld a).toInt < t.toInt ∧ (wr a).toInt < t.toInt ∧ ∀ d, d < C → t.toInt ≤ (cf d).toInt + 31 := by
  obtain ⟨a1, a2, a3, a4, _⟩ := id A
  obtain ⟨⟨t0, t1⟩, t2, t3, t4⟩ := id T
  have x1 := qa_mxT (ck c) (ld a + 1)
  rw [ht] at x1
  have c1 := t3 c hc
  have c2 := t4 a ha
  have c3 := t2 c hc
  have l1 : (ld a + 1).toInt = (ld a).toInt + 1 := by
    have := c2.2.2 c hc
    rw [qa_add (by rw [qa_1]; omega) (by rw [qa_1]; omega), qa_1]
  refine ⟨by omega, by omega, fun d hd => ?_⟩
  have h1 := c1.2 d hd
  have h2 := hl d hd
  omega
theorem qk_lm {k a : Nat} (hk : k + 4 ≤ 2052) (A : (qp_A C N ls)) (T : (qp_T C N k g cf ck wr ld)) (hl : ld a < qx_LM cf C) : ∀ d, d < C → (ld a).toInt < (cf d).toInt + 31 := by
  intro d hd
  obtain ⟨b, hb, h1, h2⟩ := qx_LMT (by omega) A T
  have := h2 d hd
  rw [qa_lt] at hl
  omega
theorem i_vc_store {k : Nat} {u : SX} {v : SY} (I : i_Rel k u v) (hk : k + 4 ≤ 2052) (v1 : Int32) (v2 : Int32) (v3 : Int32) : wpX_store (fun r u' => wpY_store (fun r' v' => r' = r ∧ i_Rel (k + 4) u' v') v v1 v2 v3) u v1 v2 v3 := by
  refine zz_el (P := fun u v => i_Rel (k + 4) u v → wpX_store (fun r u' => wpY_store (fun r' v' => r' = r ∧ i_Rel (k + 4) u' v') v v1 v2 v3) u v1 v2 v3) I ?_ (i_up I)
  intro C N h e wy ls sp g ck cf rs st kd tg vl gF gU cr sa fr un da wr ld ow im me lS lC lK lL lV lT rg bf bu mS mC mK mL mV mT A T P Q S M G L I'
  obtain ⟨a1, a2, a3, a4, _⟩ := id A
  obtain ⟨r, hX, hY, hr⟩ := qs_open A L.1 v1 v2 (wy := wy) (h := h) (sp := sp) (g := g) (ck := ck) (cf := cf) (rs := rs) (st := st) (kd := kd) (tg := tg) (vl := vl) (gF := gF) (gU := gU) (cr := cr) (sa := sa) (fr := fr) (un := un) (da := da) (wr := wr) (ld := ld) (ow := ow) (im := im) (me := me) (lS := lS) (lC := lC) (lK := lK) (lL := lL) (lV := lV) (lT := lT) (rg := rg) (bf := bf) (bu := bu) (mS := mS) (mC := mC) (mK := mK) (mL := mL) (mV := mV) (mT := mT)
  unfold wpX_store wpY_store
  dsimp only
  rcases hr with hr | ⟨rfl, c, a, hc, ha, rfl, rfl, hs, hq⟩
  · exact hX _ (br_f hr (hY _ (br_f hr ⟨rfl, I'⟩)))
  · have hin8 : vp_in (nI a) 8 := vp_in_nI (by omega) (by omega)
    have hcl8 : (nI a).toNatClampNeg = a := nI_clamp (by omega)
    have hin2 : vp_in (nI (c * 8 + a)) 32 := vp_in_nI (by omega) (by omega)
    have hcl2 : (nI (c * 8 + a)).toNatClampNeg = c * 8 + a := nI_clamp (by omega)
    have he : e < 32 := by omega
    refine hX _ (br_t rfl ?_)
    rw [qa_ix, hcl2]
    refine ⟨hin2, ?_⟩
    by_cases h2 : sa (c * 8 + a) = 2
    · refine br_t h2 ?_
      by_cases hl : ld a < qx_LM cf C
      · obtain ⟨y1, y2, y3⟩ := qk_tm hk hc ha (qk_lm hk A T hl) rfl A T
        refine qx_win0 a1 a2 (by omega) hl (br_t rfl (qx_cST L (by omega) a4 (by omega) ha he rfl y2 (fun rg' l' v' => hY _ (br_t rfl ?_))))
        refine ⟨hin2, br_t h2 ⟨hin8, qy_limit a1 a2 ?_⟩⟩
        rw [hcl8]
        exact br_t hl (qy_cst a4 (by omega) ha he rfl ⟨rfl, qk_st hk hc ha hs hq h2 hl rfl y1 y3 A T P S M G l' v'⟩)
      · refine qx_win1 a1 a2 (by omega) hl (br_f (by decide) (hY _ (br_t rfl ?_)))
        refine ⟨hin2, br_t h2 ⟨hin8, qy_limit a1 a2 ?_⟩⟩
        rw [hcl8]
        exact br_f hl ⟨rfl, I'⟩
    · obtain ⟨r, u', v', kX, kY, kR⟩ := qk_ask (v := v3) (kk := 2) hc ha (Or.inr rfl) hs hq h2 A T P Q S M G L
      refine br_f h2 (kX _ (hY _ (br_t rfl ?_)))
      exact ⟨hin2, br_f h2 (kY _ ⟨rfl, kR⟩)⟩
end QST
end
section
section QGR
variable {C N h e : Nat} {wy ls sp g : Int32} {ck cf rs st kd tg vl gF gU cr sa fr un da wr ld ow im me lS lC lK lL lV lT rg bf bu mS mC mK mL mV mT : Nat → Int32}
def qg_en (ck wr cf : Nat → Int32) (ls : Int32) (C c a : Nat) : Int32 := if qa_mx (ck c) (wr a) + ls ≤ qx_LM cf C then qa_mx (ck c) (wr a) + ls else qx_LM cf C
theorem qx_grantL {post : SX → Prop} {c a : Nat} {y : Int32} (a1 : 2 ≤ C) (a2 : C ≤ 4) (hc : c < 4) (ha : a < 8) (hk : kd c = 1) (hy : qa_mx (ld a) (qg_en ck wr cf ls C c a) = y) (hp : post ((nI C), (nI N), wy, ls, (nI h), (nI e), sp, g, ck, cf, rs, (upd st c 4), kd, tg, vl, (upd gF c (wr a)), (upd gU c y), (upd cr c (me a)), sa, fr, un, da, wr, (upd ld a y), ow, im, me, lS, lC, lK, lL, lV, lT, rg)) : wpX_grant post ((nI C), (nI N), wy, ls, (nI h), (nI e), sp, g, ck, cf, rs, st, kd, tg, vl, gF, gU, cr, sa, fr, un, da, wr, ld, ow, im, me, lS, lC, lK, lL, lV, lT, rg) (nI c) (nI a) := by
  have hin : vp_in (nI c) 4 := vp_in_nI hc (by omega)
  have hin8 : vp_in (nI a) 8 := vp_in_nI (by omega) (by omega)
  have hcl : (nI c).toNatClampNeg = c := nI_clamp (by omega)
  have hcl8 : (nI a).toNatClampNeg = a := nI_clamp (by omega)
  have key : ∀ x3 : Int32, qa_mx (ld a) x3 = y → wX_grant_47 post (nI c) (nI a) x3 (nI C) (nI N) wy ls (nI h) (nI e) sp g ck cf rs st kd tg vl gF gU cr sa fr un da wr ld ow im me lS lC lK lL lV lT rg := by
    intro x3 h3
    refine And.intro hin8 (qx_max ?_)
    simp only [hcl8, h3]
    refine ⟨hin8, nm_e ⟨hin8, hin, nm_r (e' := upd gF c (wr a)) (by rw [hcl]) ⟨hin8, hin, nm_r (e' := upd gU c y) (by rw [hcl, pk_us]) ?_⟩⟩⟩
    exact And.intro hin8 ⟨hin, nm_r (e' := upd cr c (me a)) (by rw [hcl, hcl8]) ⟨hin, nm_r (by rw [hcl]) hp⟩⟩
  refine ⟨hin, br_t (by rw [hcl]; exact hk) ⟨hin, hin8, qx_max (nm_e (qx_limit a1 a2 ?_))⟩⟩
  rw [hcl, hcl8]
  unfold qg_en at hy
  by_cases hb : qa_mx (ck c) (wr a) + ls ≤ qx_LM cf C
  · rw [if_pos hb] at hy
    exact br_t hb (key _ hy)
  · rw [if_neg hb] at hy
    exact br_f hb (key _ hy)
theorem qx_grantS {post : SX → Prop} {c a : Nat} (hc : c < 4) (ha : a < 8) (hk : ¬ kd c = 1) (hp : post ((nI C), (nI N), wy, ls, (nI h), (nI e), sp, g, ck, cf, rs, (upd st c 4), kd, tg, vl, gF, gU, (upd cr c (me a)), sa, fr, un, da, wr, ld, (upd ow a (nI c)), im, me, lS, lC, lK, lL, lV, lT, rg)) : wpX_grant post ((nI C), (nI N), wy, ls, (nI h), (nI e), sp, g, ck, cf, rs, st, kd, tg, vl, gF, gU, cr, sa, fr, un, da, wr, ld, ow, im, me, lS, lC, lK, lL, lV, lT, rg) (nI c) (nI a) := by
  have hin : vp_in (nI c) 4 := vp_in_nI hc (by omega)
  have hin8 : vp_in (nI a) 8 := vp_in_nI (by omega) (by omega)
  have hcl : (nI c).toNatClampNeg = c := nI_clamp (by omega)
  have hcl8 : (nI a).toNatClampNeg = a := nI_clamp (by omega)
  refine ⟨hin, br_f (by rw [hcl]; exact hk) ⟨hin8, nm_r (e' := upd ow a (nI c)) (by rw [hcl8]) ?_⟩⟩
  exact And.intro hin8 ⟨hin, nm_r (e' := upd cr c (me a)) (by rw [hcl, hcl8]) ⟨hin, nm_r (by rw [hcl]) hp⟩⟩
theorem qy_grantL {post : Int32 → SY → Prop} {c a : Nat} {y : Int32} (a1 : 2 ≤ C) (a2 : C ≤ 4) (hc : c < 4) (ha : a < 8) (hk : kd c = 1) (hy : qa_mx (ld a) (qg_en ck wr cf ls C c a) = y) (hp : post 3 ((nI C), (nI N), wy, ls, g, sp, (nI e), ck, cf, rs, (upd st c 4), kd, tg, vl, (upd gF c (wr a)), (upd gU c y), wr, (upd ld a y), ow, im, sa, bf, bu, mS, mC, mK, mL, mV, mT)) : wpY_grant post ((nI C), (nI N), wy, ls, g, sp, (nI e), ck, cf, rs, st, kd, tg, vl, gF, gU, wr, ld, ow, im, sa, bf, bu, mS, mC, mK, mL, mV, mT) (nI c) (nI a) := by
  have hin : vp_in (nI c) 4 := vp_in_nI hc (by omega)
  have hin8 : vp_in (nI a) 8 := vp_in_nI (by omega) (by omega)
  have hcl : (nI c).toNatClampNeg = c := nI_clamp (by omega)
  have hcl8 : (nI a).toNatClampNeg = a := nI_clamp (by omega)
  have key : ∀ x3 : Int32, qa_mx (ld a) x3 = y → wY_grant_47 post (nI c) (nI a) x3 (nI C) (nI N) wy ls g sp (nI e) ck cf rs st kd tg vl gF gU wr ld ow im sa bf bu mS mC mK mL mV mT := by
    intro x3 h3
    refine And.intro hin8 (qy_max ?_)
    simp only [hcl8, h3]
    exact ⟨hin8, nm_e ⟨hin8, hin, nm_r (e' := upd gF c (wr a)) (by rw [hcl]) ⟨hin8, hin, nm_r (e' := upd gU c y) (by rw [hcl, pk_us]) ⟨hin, nm_r (by rw [hcl]) hp⟩⟩⟩⟩
  refine ⟨hin, br_t (by rw [hcl]; exact hk) ⟨hin, hin8, qy_max (nm_e (qy_limit a1 a2 ?_))⟩⟩
  rw [hcl, hcl8]
  unfold qg_en at hy
  by_cases hb : qa_mx (ck c) (wr a) + ls ≤ qx_LM cf C
  · rw [if_pos hb] at hy
    exact br_t hb (key _ hy)
  · rw [if_neg hb] at hy
    exact br_f hb (key _ hy)
theorem qy_grantS {post : Int32 → SY → Prop} {c a : Nat} (hc : c < 4) (ha : a < 8) (hk : ¬ kd c = 1) (hp : post 3 ((nI C), (nI N), wy, ls, g, sp, (nI e), ck, cf, rs, (upd st c 4), kd, tg, vl, gF, gU, wr, ld, (upd ow a (nI c)), im, sa, bf, bu, mS, mC, mK, mL, mV, mT)) : wpY_grant post ((nI C), (nI N), wy, ls, g, sp, (nI e), ck, cf, rs, st, kd, tg, vl, gF, gU, wr, ld, ow, im, sa, bf, bu, mS, mC, mK, mL, mV, mT) (nI c) (nI a) := by
  have hin : vp_in (nI c) 4 := vp_in_nI hc (by omega)
  have hin8 : vp_in (nI a) 8 := vp_in_nI (by omega) (by omega)
  have hcl : (nI c).toNatClampNeg = c := nI_clamp (by omega)
  have hcl8 : (nI a).toNatClampNeg = a := nI_clamp (by omega)
  exact ⟨hin, br_f (by rw [hcl]; exact hk) ⟨hin8, nm_r (e' := upd ow a (nI c)) (by rw [hcl8]) ⟨hin, nm_r (by rw [hcl]) hp⟩⟩⟩
/-- the end of a new lease -/
theorem qk_en {k c a : Nat} {y : Int32} (hk : k + 4 ≤ 2052) (hc : c < C) (ha : a < N) (hy : qa_mx (ld a) (qg_en ck wr cf ls C c a) = y) (A : (qp_A C N ls)) (T : (qp_T C N k g cf ck wr ld)) : (ld a).toInt ≤ y.toInt ∧ (ck c).toInt ≤ y.toInt ∧ (wr a).toInt ≤ y.toInt ∧ ∀ d, d < C → y.toInt ≤ (cf d).toInt + 31 := by
  obtain ⟨b, hb, l1, l2⟩ := qx_LMT (by omega) A T
  obtain ⟨a1, a2, a3, a4, a5, a6⟩ := id A
  obtain ⟨⟨t0, t1⟩, t2, t3, t4⟩ := id T
  have x1 := qa_mxT (ck c) (wr a)
  have x2 := qa_mxT (ld a) (qg_en ck wr cf ls C c a)
  rw [hy] at x2
  have c1 := t3 c hc
  have c2 := t4 a ha
  have c3 := t2 b hb
  have c4 := c1.2 b hb
  have c5 := c2.2.2 b hb
  have c6 := t2 c hc
  have l3 : (qa_mx (ck c) (wr a) + ls).toInt = (qa_mx (ck c) (wr a)).toInt + ls.toInt := qa_add (by omega) (by omega)
  have hen : (qg_en ck wr cf ls C c a).toInt ≤ (qx_LM cf C).toInt ∧ (ck c).toInt ≤ (qg_en ck wr cf ls C c a).toInt ∧ (wr a).toInt ≤ (qg_en ck wr cf ls C c a).toInt := by
    unfold qg_en
    by_cases hb : qa_mx (ck c) (wr a) + ls ≤ qx_LM cf C
    · rw [if_pos hb]
      rw [qa_le] at hb
      omega
    · rw [if_neg hb]
      omega
  refine ⟨by omega, by omega, by omega, fun d hd => ?_⟩
  have h1 := l2 d hd
  have h2 := c2.2.2 d hd
  omega
/-- after a load grant -/
theorem qk_gl {k c a : Nat} {y : Int32} {me' ow' : Nat → Int32} (hk : k + 4 ≤ 2052) (hc : c < C) (ha : a < N) (ht : tg c = nI a) (hkd : kd c = 1) (hy : qa_mx (ld a) (qg_en ck wr cf ls C c a) = y) (hn : ∀ j, j < C → j ≠ c → ¬ qp_mv st kd tg j a) (hx : ∀ d, d < C → sa (d * 8 + a) ≠ 2) (ho : ow' a = -1) (hm : me' a = (qp_V h e rg lS lC lK lL lV lT im) a (wr a).toInt) (hob : ∀ b, b ≠ a → ow' b = ow b ∧ me' b = me b) (A : (qp_A C N ls)) (T : (qp_T C N k g cf ck wr ld)) (P : (qp_P C N st kd tg)) (Q : (qp_Q C e kd)) (S : (qp_S C N g cf sa fr un bf bu da ld (qp_V h e rg lS lC lK lL lV lT im))) (M : (qp_M C N st kd tg ow sa cr da me wr ld cf (qp_V h e rg lS lC lK lL lV lT im))) (G : (qp_G C N g cf ck st kd tg gF gU cr ld (qp_V h e rg lS lC lK lL lV lT im))) (L : (qp_L N k h e sp rg lS lC lK lL lV lT mS mC mK mL mV mT wr)) : i_Rel (k + 4) ((nI C), (nI N), wy, ls, (nI h), (nI e), sp, g, ck, cf, rs, (upd st c 4), kd, tg, vl, (upd gF c (wr a)), (upd gU c y), (upd cr c (me' a)), sa, fr, un, da, wr, (upd ld a y), ow', im, me', lS, lC, lK, lL, lV, lT, rg) ((nI C), (nI N), wy, ls, g, sp, (nI e), ck, cf, rs, (upd st c 4), kd, tg, vl, (upd gF c (wr a)), (upd gU c y), wr, (upd ld a y), ow', im, sa, bf, bu, mS, mC, mK, mL, mV, mT) := by
  obtain ⟨y1, y2, y3, y4⟩ := qk_en hk hc ha hy A T
  obtain ⟨a1, a2, a3, a4, a5, a6⟩ := id A
  have hld : ∀ b, b < N → (ld b).toInt ≤ (upd ld a y b).toInt := by
    intro b _
    by_cases hba : b = a
    · rw [hba, pk_us]; omega
    · rw [pk_un hba]; exact Int.le_refl _
  refine zz_in A (qp_T_up (qp_T_ld T y3 y4)) ?_ Q (qp_S_ld S hld (fun _ _ _ _ => rfl)) ?_ ?_ (qp_L_up L)
  · refine qp_P_at (c := c) P (fun j _ hj => ⟨rfl, pk_un hj, rfl⟩) (Or.inr ⟨a, ha, ht, Or.inl ⟨Or.inr (Or.inr pk_us), Or.inl hkd⟩⟩)
  · intro b hb
    by_cases hab : a = b
    · subst hab
      exact qp_M_gl a2 (by omega) (M a ha) hc ht hkd hn hx ho hm
    · obtain ⟨o1, o2⟩ := hob b (fun z => hab z.symm)
      refine qp_M_fr (M b hb) o1 o2 rfl (fun _ _ => Iff.rfl) (fun _ _ _ => rfl) (qp_fr_pend hab (by omega) (by omega) (Or.inr ht) (Or.inr ht) (fun j hj => ⟨rfl, pk_un hj, rfl, pk_un hj⟩)) (fun hz d hd => ?_)
      rw [pk_un (fun z => hab z.symm)]; exact hz d hd
  · refine qp_G_at (c := c) G (fun j _ hj => ⟨rfl, pk_un hj, rfl, pk_un hj, pk_un hj, pk_un hj, rfl⟩) hld (fun _ _ _ _ => rfl) (fun b hb hb1 _ _ => ?_)
    have e1 : b = a := qp_inj _ _ (by omega) (by omega) (hb1.symm.trans ht)
    obtain ⟨t0, t1, t2, t3⟩ := id T
    have c2 := t3 a ha
    rw [e1, pk_us, pk_us, pk_us, pk_us]
    refine ⟨by omega, y3, Int.le_refl _, y2, fun _ => c2.1, fun t h1 h2 => ?_⟩
    rw [hm]
    exact (qp_Vc L a4 ha h1).symm
/-- after a store grant -/
theorem qk_gs {k c a : Nat} {me' ow' : Nat → Int32} (hk : k + 4 ≤ 2052) (hc : c < C) (ha : a < N) (ht : tg c = nI a) (hkd : kd c = 2) (hn : ∀ j, j < C → j ≠ c → ¬ qp_mv st kd tg j a) (hx : ∀ d, d < C → sa (d * 8 + a) ≠ 2) (ho : ow' a = nI c) (hob : ∀ b, b ≠ a → ow' b = ow b ∧ me' b = me b) (hl : ∀ d, d < C → (ld a).toInt < (cf d).toInt + 31) (A : (qp_A C N ls)) (T : (qp_T C N k g cf ck wr ld)) (P : (qp_P C N st kd tg)) (Q : (qp_Q C e kd)) (S : (qp_S C N g cf sa fr un bf bu da ld (qp_V h e rg lS lC lK lL lV lT im))) (M : (qp_M C N st kd tg ow sa cr da me wr ld cf (qp_V h e rg lS lC lK lL lV lT im))) (G : (qp_G C N g cf ck st kd tg gF gU cr ld (qp_V h e rg lS lC lK lL lV lT im))) (L : (qp_L N k h e sp rg lS lC lK lL lV lT mS mC mK mL mV mT wr)) : i_Rel (k + 4) ((nI C), (nI N), wy, ls, (nI h), (nI e), sp, g, ck, cf, rs, (upd st c 4), kd, tg, vl, gF, gU, (upd cr c (me' a)), sa, fr, un, da, wr, ld, ow', im, me', lS, lC, lK, lL, lV, lT, rg) ((nI C), (nI N), wy, ls, g, sp, (nI e), ck, cf, rs, (upd st c 4), kd, tg, vl, gF, gU, wr, ld, ow', im, sa, bf, bu, mS, mC, mK, mL, mV, mT) := by
  obtain ⟨a1, a2, a3, a4, a5, a6⟩ := id A
  refine zz_in A (qp_T_up T) ?_ Q S ?_ ?_ (qp_L_up L)
  · refine qp_P_at (c := c) P (fun j _ hj => ⟨rfl, pk_un hj, rfl⟩) (Or.inr ⟨a, ha, ht, Or.inl ⟨Or.inr (Or.inr pk_us), Or.inr hkd⟩⟩)
  · intro b hb
    by_cases hab : a = b
    · subst hab
      exact qp_M_gs a2 (by omega) (M a ha) hc ht hkd hn hx ho hl
    · obtain ⟨o1, o2⟩ := hob b (fun z => hab z.symm)
      exact qp_M_fr (M b hb) o1 o2 rfl (fun _ _ => Iff.rfl) (fun _ _ _ => rfl) (qp_fr_pend hab (by omega) (by omega) (Or.inr ht) (Or.inr ht) (fun j hj => ⟨rfl, pk_un hj, rfl, pk_un hj⟩)) (fun hz => hz)
  · refine qp_G_at (c := c) G (fun j _ hj => ⟨rfl, pk_un hj, rfl, rfl, rfl, pk_un hj, rfl⟩) (fun _ _ => Int.le_refl _) (fun _ _ _ _ => rfl) (fun b hb _ _ z => ?_)
    rw [hkd] at z
    exact absurd z (by decide)
end QGR
end
section
section QDV
variable {C N h e : Nat} {wy ls sp g : Int32} {ck cf rs st kd tg vl gF gU cr sa fr un da wr ld ow im me lS lC lK lL lV lT rg bf bu mS mC mK mL mV mT : Nat → Int32}
/-- the reference's word 'stalled' -/
def qd_Z (C : Nat) (kd ld cf : Nat → Int32) (c a : Nat) (z : Int32) : Prop := (z = 0 ∧ (kd c = 2 → ld a < qx_LM cf C)) ∨ (z = 1 ∧ kd c = 2 ∧ ¬ ld a < qx_LM cf C)
theorem qd_req {k c a : Nat} (hk : k + 4 ≤ 2052) (hc : c < C) (ha : a < N) (ht : tg c = nI a) (hs : st c = 1) (hkd : kd c = 1 ∨ kd c = 2) (A : (qp_A C N ls)) (T : (qp_T C N k g cf ck wr ld)) (P : (qp_P C N st kd tg)) (Q : (qp_Q C e kd)) (S : (qp_S C N g cf sa fr un bf bu da ld (qp_V h e rg lS lC lK lL lV lT im))) (M : (qp_M C N st kd tg ow sa cr da me wr ld cf (qp_V h e rg lS lC lK lL lV lT im))) (G : (qp_G C N g cf ck st kd tg gF gU cr ld (qp_V h e rg lS lC lK lL lV lT im))) (L : (qp_L N k h e sp rg lS lC lK lL lV lT mS mC mK mL mV mT wr)) : ∃ r u' v', (∀ post : Int32 → SX → Prop, post r u' → wpX_deliverRequest post ((nI C), (nI N), wy, ls, (nI h), (nI e), sp, g, ck, cf, rs, st, kd, tg, vl, gF, gU, cr, sa, fr, un, da, wr, ld, ow, im, me, lS, lC, lK, lL, lV, lT, rg) (nI c) (nI a)) ∧ (∀ (post : Int32 → SY → Prop) (z0 : Int32), qd_Z C kd ld cf c a z0 → post r v' → wY_deliver_67 post (nI c) (nI a) (kd c) z0 (nI C) (nI N) wy ls g sp (nI e) ck cf rs st kd tg vl gF gU wr ld ow im sa bf bu mS mC mK mL mV mT) ∧ i_Rel (k + 4) u' v' := by
  obtain ⟨a1, a2, a3, a4, a5, a6⟩ := id A
  have I' : i_Rel (k + 4) ((nI C), (nI N), wy, ls, (nI h), (nI e), sp, g, ck, cf, rs, st, kd, tg, vl, gF, gU, cr, sa, fr, un, da, wr, ld, ow, im, me, lS, lC, lK, lL, lV, lT, rg) ((nI C), (nI N), wy, ls, g, sp, (nI e), ck, cf, rs, st, kd, tg, vl, gF, gU, wr, ld, ow, im, sa, bf, bu, mS, mC, mK, mL, mV, mT) := zz_in A (qp_T_up T) P Q S M G (qp_L_up L)
  have hin : vp_in (nI c) 4 := vp_in_nI (by omega) (by omega)
  have hin8 : vp_in (nI a) 8 := vp_in_nI (by omega) (by omega)
  have hcl : (nI c).toNatClampNeg = c := nI_clamp (by omega)
  have hcl8 : (nI a).toNatClampNeg = a := nI_clamp (by omega)
  have hs' : st (nI c).toNatClampNeg = 1 := by rw [hcl]; exact hs
  by_cases hex : ∃ j, j < C ∧ qs_tr st kd tg c a j
  · refine ⟨7, ((nI C), (nI N), wy, ls, (nI h), (nI e), sp, g, ck, cf, rs, st, kd, tg, vl, gF, gU, cr, sa, fr, un, da, wr, ld, ow, im, me, lS, lC, lK, lL, lV, lT, rg), ((nI C), (nI N), wy, ls, g, sp, (nI e), ck, cf, rs, st, kd, tg, vl, gF, gU, wr, ld, ow, im, sa, bf, bu, mS, mC, mK, mL, mV, mT), fun post hp => ?_, fun post z0 Z hp => ?_, I'⟩
    · unfold wpX_deliverRequest
      exact qx_transit a2 hc (fun hn => absurd hex (fun ⟨j, hj, hz⟩ => hn j hj hz)) (fun _ => br_f (by decide) hp)
    · exact And.intro hin (br_t hs' (qy_deliver82 a2 hc (fun hn => absurd hex (fun ⟨j, hj, hz⟩ => hn j hj hz)) (fun _ => hp)))
  · have hn : ∀ j, j < C → ¬ qs_tr st kd tg c a j := fun j hj hz => hex ⟨j, hj, hz⟩
    have hn' : ∀ j, j < C → j ≠ c → ¬ qp_mv st kd tg j a := fun j hj hjc hz => hn j hj ⟨hjc, hz⟩
    by_cases ho : ow a = -1
    · have hx : ∀ d, d < C → sa (d * 8 + a) ≠ 2 := by
        intro d hd hz
        have := ((M a ha).2.2.2.2 d hd hz).1
        rw [ho] at this
        exact absurd this.symm (qa_nm1 (by omega))
      have hm := ((M a ha).1 ho).1
      rcases hkd with hk1 | hk2
      · have hk2 : ¬ kd c = 2 := by rw [hk1]; decide
        refine ⟨3, _, _, fun post hp => ?_, fun post z0 Z hp => ?_, qk_gl (wy := wy) (rs := rs) (vl := vl) (me' := me) (ow' := ow) hk hc ha ht hk1 rfl hn' hx ho hm (fun _ _ => ⟨rfl, rfl⟩) A T P Q S M G L⟩
        · unfold wpX_deliverRequest
          refine qx_transit a2 hc (fun _ => br_t rfl ⟨hin8, ?_⟩) (fun hz => absurd hz hex)
          rw [hcl8]
          refine br_t ho ⟨hin, ?_⟩
          rw [hcl]
          refine br_f hk2 ?_
          unfold wX_deliverRequest_52
          exact qx_grantL a1 a2 (by omega) (by omega) hk1 rfl hp
        · refine And.intro hin (br_t hs' (qy_deliver82 a2 hc (fun _ n => ?_) (fun hz => absurd hz hex)))
          refine br_t (nI_le (Nat.le_refl _) (by omega)) ⟨hin8, ?_⟩
          rw [hcl8]
          refine br_t ho ?_
          have hz0 : z0 = 0 := by
            rcases Z with z | z
            · exact z.1
            · exact absurd z.2.1 hk2
          exact br_t hz0 (qy_grantL a1 a2 (by omega) (by omega) hk1 rfl hp)
      · have hk1 : ¬ kd c = 1 := by rw [hk2]; decide
        by_cases hl : ld a < qx_LM cf C
        · refine ⟨3, _, _, fun post hp => ?_, fun post z0 Z hp => ?_, qk_gs (wy := wy) (rs := rs) (vl := vl) (me' := me) (ow' := upd ow a (nI c)) hk hc ha ht hk2 hn' hx pk_us (fun _ hb => ⟨pk_un hb, rfl⟩) (qk_lm hk A T hl) A T P Q S M G L⟩
          · unfold wpX_deliverRequest
            refine qx_transit a2 hc (fun _ => br_t rfl ⟨hin8, ?_⟩) (fun hz => absurd hz hex)
            rw [hcl8]
            refine br_t ho ⟨hin, ?_⟩
            rw [hcl]
            refine br_t hk2 (qx_win0 a1 a2 (by omega) hl (br_t rfl ?_))
            unfold wX_deliverRequest_52
            exact qx_grantS (by omega) (by omega) hk1 hp
          · refine And.intro hin (br_t hs' (qy_deliver82 a2 hc (fun _ n => ?_) (fun hz => absurd hz hex)))
            refine br_t (nI_le (Nat.le_refl _) (by omega)) ⟨hin8, ?_⟩
            rw [hcl8]
            refine br_t ho ?_
            have hz0 : z0 = 0 := by
              rcases Z with z | z
              · exact z.1
              · exact absurd hl z.2.2
            exact br_t hz0 (qy_grantS (by omega) (by omega) hk1 hp)
        · refine ⟨8, ((nI C), (nI N), wy, ls, (nI h), (nI e), sp, g, ck, cf, rs, st, kd, tg, vl, gF, gU, cr, sa, fr, un, da, wr, ld, ow, im, me, lS, lC, lK, lL, lV, lT, rg), ((nI C), (nI N), wy, ls, g, sp, (nI e), ck, cf, rs, st, kd, tg, vl, gF, gU, wr, ld, ow, im, sa, bf, bu, mS, mC, mK, mL, mV, mT), fun post hp => ?_, fun post z0 Z hp => ?_, I'⟩
          · unfold wpX_deliverRequest
            refine qx_transit a2 hc (fun _ => br_t rfl ⟨hin8, ?_⟩) (fun hz => absurd hz hex)
            rw [hcl8]
            refine br_t ho ⟨hin, ?_⟩
            rw [hcl]
            exact br_t hk2 (qx_win1 a1 a2 (by omega) hl (br_f (by decide) hp))
          · refine And.intro hin (br_t hs' (qy_deliver82 a2 hc (fun _ n => ?_) (fun hz => absurd hz hex)))
            refine br_t (nI_le (Nat.le_refl _) (by omega)) ⟨hin8, ?_⟩
            rw [hcl8]
            refine br_t ho ?_
            have hz0 : z0 = 1 := by
              rcases Z with z | z
              · exact absurd (z.2 hk2) hl
              · exact z.1
            exact br_f (by rw [hz0]; decide) hp
    · refine ⟨3, ((nI C), (nI N), wy, ls, (nI h), (nI e), sp, g, ck, cf, rs, (upd st c 2), kd, tg, vl, gF, gU, cr, sa, fr, un, da, wr, ld, ow, im, me, lS, lC, lK, lL, lV, lT, rg), ((nI C), (nI N), wy, ls, g, sp, (nI e), ck, cf, rs, (upd st c 2), kd, tg, vl, gF, gU, wr, ld, ow, im, sa, bf, bu, mS, mC, mK, mL, mV, mT), fun post hp => ?_, fun post z0 Z hp => ?_, ?_⟩
      · unfold wpX_deliverRequest
        refine qx_transit a2 hc (fun _ => br_t rfl ⟨hin8, ?_⟩) (fun hz => absurd hz hex)
        rw [hcl8]
        exact br_f ho ⟨hin, nm_r (by rw [hcl]) hp⟩
      · refine And.intro hin (br_t hs' (qy_deliver82 a2 hc (fun _ n => ?_) (fun hz => absurd hz hex)))
        refine br_t (nI_le (Nat.le_refl _) (by omega)) ⟨hin8, ?_⟩
        rw [hcl8]
        exact br_f ho ⟨hin, nm_r (by rw [hcl]) hp⟩
      · refine zz_in A (qp_T_up T) ?_ Q S ?_ ?_ (qp_L_up L)
        · exact qp_P_at (c := c) P (fun j _ hj => ⟨rfl, pk_un hj, rfl⟩) (Or.inr ⟨a, ha, ht, Or.inl ⟨Or.inr (Or.inl pk_us), hkd⟩⟩)
        · intro b hb
          by_cases hab : a = b
          · subst hab
            exact qp_M_g a2 (by omega) (M a ha) hc ht hs ho hn
          · exact qp_M_fr (M b hb) rfl rfl rfl (fun _ _ => Iff.rfl) (fun _ _ _ => rfl) (qp_fr_pend hab (by omega) (by omega) (Or.inr ht) (Or.inr ht) (fun j hj => ⟨rfl, pk_un hj, rfl, rfl⟩)) (fun hz => hz)
        · refine qp_G_at (c := c) G (fun j _ hj => ⟨rfl, pk_un hj, rfl, rfl, rfl, rfl, rfl⟩) (fun _ _ => Int.le_refl _) (fun _ _ _ _ => rfl) (fun b hb _ z _ => ?_)
          rw [pk_us] at z
          exact absurd z (by decide)
theorem qd_rec {k c a : Nat} (hk : k + 4 ≤ 2052) (hc : c < C) (ha : a < N) (ht : tg c = nI a) (hs : st c = 2) (hkd : kd c = 1 ∨ kd c = 2) (A : (qp_A C N ls)) (T : (qp_T C N k g cf ck wr ld)) (P : (qp_P C N st kd tg)) (Q : (qp_Q C e kd)) (S : (qp_S C N g cf sa fr un bf bu da ld (qp_V h e rg lS lC lK lL lV lT im))) (M : (qp_M C N st kd tg ow sa cr da me wr ld cf (qp_V h e rg lS lC lK lL lV lT im))) (G : (qp_G C N g cf ck st kd tg gF gU cr ld (qp_V h e rg lS lC lK lL lV lT im))) (L : (qp_L N k h e sp rg lS lC lK lL lV lT mS mC mK mL mV mT wr)) : ∃ r u' v', (∀ post : Int32 → SX → Prop, post r u' → wpX_deliverRecall post ((nI C), (nI N), wy, ls, (nI h), (nI e), sp, g, ck, cf, rs, st, kd, tg, vl, gF, gU, cr, sa, fr, un, da, wr, ld, ow, im, me, lS, lC, lK, lL, lV, lT, rg) (nI c) (nI a)) ∧ (∀ (post : Int32 → SY → Prop) (z0 : Int32), qd_Z C kd ld cf c a z0 → post r v' → wY_deliver_67 post (nI c) (nI a) (kd c) z0 (nI C) (nI N) wy ls g sp (nI e) ck cf rs st kd tg vl gF gU wr ld ow im sa bf bu mS mC mK mL mV mT) ∧ i_Rel (k + 4) u' v' := by
  obtain ⟨a1, a2, a3, a4, a5, a6⟩ := id A
  obtain ⟨o, ho, how, hox⟩ := ((M a ha).2.2.2.1 c hc ht).2.1 hs
  have hin : vp_in (nI c) 4 := vp_in_nI (by omega) (by omega)
  have hin8 : vp_in (nI a) 8 := vp_in_nI (by omega) (by omega)
  have hin2 : vp_in (nI (o * 8 + a)) 32 := vp_in_nI (by omega) (by omega)
  have hcl : (nI c).toNatClampNeg = c := nI_clamp (by omega)
  have hcl8 : (nI a).toNatClampNeg = a := nI_clamp (by omega)
  have hcl2 : (nI (o * 8 + a)).toNatClampNeg = o * 8 + a := nI_clamp (by omega)
  have hs1 : ¬ st (nI c).toNatClampNeg = 1 := by rw [hcl, hs]; decide
  have hs' : st (nI c).toNatClampNeg = 2 := by rw [hcl]; exact hs
  have hpos : ¬ nI o < 0 := nI_pos (by omega)
  have hda := ((M a ha).2.2.2.2 o ho hox).2
  have hTa := T.2.2.2 a ha
  have rel : ∀ s1 f1 u1 : Int32, ((s1 = 1 ∧ f1 = wr a ∧ u1 = ld a) ∨ (s1 = 0 ∧ f1 = 0 ∧ u1 = 0)) → ∀ d1 : Int32, (s1 = 1 → d1 = da (o * 8 + a)) → i_Rel (k + 4) ((nI C), (nI N), wy, ls, (nI h), (nI e), sp, g, ck, cf, rs, (upd st c 3), kd, tg, vl, gF, gU, (upd cr c (da (o * 8 + a))), (upd sa (o * 8 + a) s1), (upd fr (o * 8 + a) f1), (upd un (o * 8 + a) u1), (upd da (o * 8 + a) d1), wr, ld, ow, im, me, lS, lC, lK, lL, lV, lT, rg) ((nI C), (nI N), wy, ls, g, sp, (nI e), ck, cf, rs, (upd st c 3), kd, tg, vl, gF, gU, wr, ld, ow, im, (upd sa (o * 8 + a) s1), (upd bf (o * 8 + a) (wr a)), (upd bu (o * 8 + a) (ld a)), mS, mC, mK, mL, mV, mT) := by
    intro s1 f1 u1 hq d1 hd1
    refine zz_in A (qp_T_up T) ?_ Q ?_ ?_ ?_ (qp_L_up L)
    · refine qp_P_at (c := c) P (fun j _ hj => ⟨rfl, pk_un hj, rfl⟩) (Or.inr ⟨a, ha, ht, Or.inr ⟨pk_us, ?_⟩⟩)
      rcases hkd with z | z
      · exact Or.inl z
      · exact Or.inr (Or.inl z)
    · refine qp_S_at (c := o) (a := a) a4 ha S (fun j hj => ⟨pk_un hj, pk_un hj, pk_un hj, pk_un hj, pk_un hj, pk_un hj⟩) ?_
      rw [pk_us, pk_us, pk_us, pk_us, pk_us, pk_us]
      rcases hq with ⟨q1, q2, q3⟩ | ⟨q1, q2, q3⟩
      · refine Or.inr (Or.inl ⟨q1, q2.symm, q3.symm, ?_, ?_, ?_, ?_, ?_⟩)
        · have := T.1; rw [q2]; omega
        · rw [q2, q3]; exact hTa.2.1
        · rw [q3]; exact Int.le_refl _
        · intro _; rw [q2]; exact hTa.1
        · intro t h1 h2
          rw [hd1 q1, hda]
          rw [q2] at h1
          exact (qp_Vc L a4 ha h1).symm
      · exact Or.inl ⟨q1, q2, q3⟩
    · intro b hb
      by_cases hab : a = b
      · subst hab
        refine qp_M_rc a2 (by omega) (M a ha) hc ho ht hs how hox (fun d hd hdo => pk_un (by omega)) ?_
        rw [pk_us]
        rcases hq with ⟨q1, q2, q3⟩ | ⟨q1, q2, q3⟩
        · rw [q1]; decide
        · rw [q1]; decide
      · refine qp_M_fr (M b hb) rfl rfl rfl (fun d _ => ?_) (fun d _ _ => ?_) (qp_fr_pend hab (by omega) (by omega) (Or.inr ht) (Or.inr ht) (fun j hj => ⟨rfl, pk_un hj, rfl, pk_un hj⟩)) (fun hz => hz)
        · rw [pk_un (qp_ixne hab (by omega) (by omega))]
        · rw [pk_un (qp_ixne hab (by omega) (by omega))]
    · refine qp_G_at (c := c) G (fun j _ hj => ⟨rfl, pk_un hj, rfl, rfl, rfl, pk_un hj, rfl⟩) (fun _ _ => Int.le_refl _) (fun _ _ _ _ => rfl) (fun b hb _ z _ => ?_)
      rw [pk_us] at z
      exact absurd z (by decide)
  have yw : ∀ (post : Int32 → SY → Prop) (s1 : Int32), post 3 ((nI C), (nI N), wy, ls, g, sp, (nI e), ck, cf, rs, (upd st c 3), kd, tg, vl, gF, gU, wr, ld, ow, im, (upd sa (o * 8 + a) s1), (upd bf (o * 8 + a) (wr a)), (upd bu (o * 8 + a) (ld a)), mS, mC, mK, mL, mV, mT) → wY_deliver_245 post (nI c) (nI a) (nI (o * 8 + a)) s1 (nI (o * 8 + a)) (nI C) (nI N) wy ls g sp (nI e) ck cf rs st kd tg vl gF gU wr ld ow im sa bf bu mS mC mK mL mV mT := by
    intro post s1 hp
    exact And.intro hin2 (nm_r (by rw [hcl2]) ⟨hin8, hin2, nm_r (by rw [hcl2, hcl8]) ⟨hin8, hin2, nm_r (by rw [hcl2, hcl8]) ⟨hin, nm_r (by rw [hcl]) hp⟩⟩⟩)
  rcases hkd with hk1 | hk2
  · refine ⟨3, _, _, fun post hp => ?_, fun post z0 Z hp => ?_, rel 1 (wr a) (ld a) (Or.inl ⟨rfl, rfl, rfl⟩) (da (o * 8 + a)) (fun _ => rfl)⟩
    · unfold wpX_deliverRecall
      refine ⟨hin8, nm_r (e' := nI o) (by rw [hcl8]; exact how) (br_f hpos (nm_r (qa_ix o a) ⟨hin2, hin, nm_r (e' := upd cr c (da (o * 8 + a))) (by rw [hcl, hcl2]) ⟨hin, ?_⟩⟩))⟩
      rw [hcl, hcl2, hcl8]
      refine br_t hk1 ⟨hin8, hin8, hin2, qx_share (by omega) ?_⟩
      exact ⟨hin, nm_e hp⟩
    · refine And.intro hin (br_f hs1 ⟨hin, br_t hs' ⟨hin8, ?_⟩⟩)
      rw [hcl8, how]
      exact br_f hpos ⟨hin8, nm_r (qa_ix o a) (br_t hk1 (yw post 1 hp))⟩
  · have hk1 : ¬ kd c = 1 := by rw [hk2]; decide
    refine ⟨3, _, _, fun post hp => ?_, fun post z0 Z hp => ?_, rel 0 0 0 (Or.inr ⟨rfl, rfl, rfl⟩) 0 (fun z => absurd z (by decide))⟩
    · unfold wpX_deliverRecall
      refine ⟨hin8, nm_r (e' := nI o) (by rw [hcl8]; exact how) (br_f hpos (nm_r (qa_ix o a) ⟨hin2, hin, nm_r (e' := upd cr c (da (o * 8 + a))) (by rw [hcl, hcl2]) ⟨hin, ?_⟩⟩))⟩
      rw [hcl]
      refine br_f hk1 (qx_drop (by omega) ?_)
      exact ⟨hin, nm_e hp⟩
    · refine And.intro hin (br_f hs1 ⟨hin, br_t hs' ⟨hin8, ?_⟩⟩)
      rw [hcl8, how]
      exact br_f hpos ⟨hin8, nm_r (qa_ix o a) (br_f hk1 (yw post 0 hp))⟩
end QDV
end
section
section QDV2
variable {C N h e : Nat} {wy ls sp g : Int32} {ck cf rs st kd tg vl gF gU cr sa fr un da wr ld ow im me lS lC lK lL lV lT rg bf bu mS mC mK mL mV mT : Nat → Int32}
theorem qd_ret {k c a : Nat} (hk : k + 4 ≤ 2052) (hc : c < C) (ha : a < N) (ht : tg c = nI a) (hs : st c = 3) (hkd : kd c = 1 ∨ kd c = 2 ∨ kd c = 3) (A : (qp_A C N ls)) (T : (qp_T C N k g cf ck wr ld)) (P : (qp_P C N st kd tg)) (Q : (qp_Q C e kd)) (S : (qp_S C N g cf sa fr un bf bu da ld (qp_V h e rg lS lC lK lL lV lT im))) (M : (qp_M C N st kd tg ow sa cr da me wr ld cf (qp_V h e rg lS lC lK lL lV lT im))) (G : (qp_G C N g cf ck st kd tg gF gU cr ld (qp_V h e rg lS lC lK lL lV lT im))) (L : (qp_L N k h e sp rg lS lC lK lL lV lT mS mC mK mL mV mT wr)) : ∃ r u' v', (∀ post : Int32 → SX → Prop, post r u' → wpX_deliverReturn post ((nI C), (nI N), wy, ls, (nI h), (nI e), sp, g, ck, cf, rs, st, kd, tg, vl, gF, gU, cr, sa, fr, un, da, wr, ld, ow, im, me, lS, lC, lK, lL, lV, lT, rg) (nI c) (nI a)) ∧ (∀ (post : Int32 → SY → Prop) (z0 : Int32), qd_Z C kd ld cf c a z0 → post r v' → wY_deliver_67 post (nI c) (nI a) (kd c) z0 (nI C) (nI N) wy ls g sp (nI e) ck cf rs st kd tg vl gF gU wr ld ow im sa bf bu mS mC mK mL mV mT) ∧ i_Rel (k + 4) u' v' := by
  obtain ⟨a1, a2, a3, a4, a5, a6⟩ := id A
  have I' : i_Rel (k + 4) ((nI C), (nI N), wy, ls, (nI h), (nI e), sp, g, ck, cf, rs, st, kd, tg, vl, gF, gU, cr, sa, fr, un, da, wr, ld, ow, im, me, lS, lC, lK, lL, lV, lT, rg) ((nI C), (nI N), wy, ls, g, sp, (nI e), ck, cf, rs, st, kd, tg, vl, gF, gU, wr, ld, ow, im, sa, bf, bu, mS, mC, mK, mL, mV, mT) := zz_in A (qp_T_up T) P Q S M G (qp_L_up L)
  have hin : vp_in (nI c) 4 := vp_in_nI (by omega) (by omega)
  have hin8 : vp_in (nI a) 8 := vp_in_nI (by omega) (by omega)
  have hcl : (nI c).toNatClampNeg = c := nI_clamp (by omega)
  have hcl8 : (nI a).toNatClampNeg = a := nI_clamp (by omega)
  have hs1 : ¬ st (nI c).toNatClampNeg = 1 := by rw [hcl, hs]; decide
  have hs2 : ¬ st (nI c).toNatClampNeg = 2 := by rw [hcl, hs]; decide
  have hs' : st (nI c).toNatClampNeg = 3 := by rw [hcl]; exact hs
  obtain ⟨hcr, hx⟩ := ((M a ha).2.2.2.1 c hc ht).2.2.1 hs
  have hn : ∀ j, j < C → j ≠ c → ¬ qp_mv st kd tg j a := by
    intro j hj hjc hz
    exact hjc ((M a ha).2.2.1 j c hj hc hz ⟨ht, Or.inr (Or.inl hs)⟩)
  have hm : upd me a (cr c) a = (qp_V h e rg lS lC lK lL lV lT im) a (wr a).toInt := by rw [pk_us]; exact hcr
  have x21 : ∀ (post : Int32 → SX → Prop), ((kd c = 3 → wpX_becomeIdle (fun u => post 1 u) ((nI C), (nI N), wy, ls, (nI h), (nI e), sp, g, ck, cf, rs, st, kd, tg, vl, gF, gU, cr, sa, fr, un, da, wr, ld, (upd ow a (-1)), im, (upd me a (cr c)), lS, lC, lK, lL, lV, lT, rg) (nI c)) ∧ (¬ kd c = 3 → wpX_grant (fun u => post 3 u) ((nI C), (nI N), wy, ls, (nI h), (nI e), sp, g, ck, cf, rs, st, kd, tg, vl, gF, gU, cr, sa, fr, un, da, wr, ld, (upd ow a (-1)), im, (upd me a (cr c)), lS, lC, lK, lL, lV, lT, rg) (nI c) (nI a))) → wX_deliverReturn_21 post (nI c) (nI a) (nI C) (nI N) wy ls (nI h) (nI e) sp g ck cf rs st kd tg vl gF gU cr sa fr un da wr ld ow im me lS lC lK lL lV lT rg := by
    intro post hp
    refine And.intro hin ⟨hin8, nm_r (e' := upd me a (cr c)) (by rw [hcl, hcl8]) ⟨hin8, nm_r (e' := upd ow a (-1)) (by rw [hcl8]) ⟨hin, ?_⟩⟩⟩
    rw [hcl]
    exact hp
  have y3 : ∀ (post : Int32 → SY → Prop) (z0 : Int32), z0 = 0 → ((kd c = 3 → wY_deliver_402 post (nI c) (nI C) (nI N) wy ls g sp (nI e) ck cf rs st kd tg vl gF gU wr ld (upd ow a (-1)) im sa bf bu mS mC mK mL mV mT) ∧ (¬ kd c = 3 → wpY_grant post ((nI C), (nI N), wy, ls, g, sp, (nI e), ck, cf, rs, st, kd, tg, vl, gF, gU, wr, ld, (upd ow a (-1)), im, sa, bf, bu, mS, mC, mK, mL, mV, mT) (nI c) (nI a))) → wY_deliver_67 post (nI c) (nI a) (kd c) z0 (nI C) (nI N) wy ls g sp (nI e) ck cf rs st kd tg vl gF gU wr ld ow im sa bf bu mS mC mK mL mV mT := by
    intro post z0 hz hp
    exact And.intro hin (br_f hs1 ⟨hin, br_f hs2 ⟨hin, br_t hs' (br_t hz ⟨hin8, nm_r (by rw [hcl8]) hp⟩)⟩⟩)
  rcases hkd with hk1 | hk2 | hk3
  · have hk2 : ¬ kd c = 2 := by rw [hk1]; decide
    have hk3 : ¬ kd c = 3 := by rw [hk1]; decide
    refine ⟨3, _, _, fun post hp => ?_, fun post z0 Z hp => ?_, qk_gl (wy := wy) (rs := rs) (vl := vl) (me' := upd me a (cr c)) (ow' := upd ow a (-1)) hk hc ha ht hk1 rfl hn hx pk_us hm (fun b hb => ⟨pk_un hb, pk_un hb⟩) A T P Q S M G L⟩
    · unfold wpX_deliverReturn
      refine ⟨hin, ?_⟩
      rw [hcl]
      exact br_f hk2 (x21 post (br_f hk3 (qx_grantL a1 a2 (by omega) (by omega) hk1 rfl hp)))
    · have hz0 : z0 = 0 := by
        rcases Z with z | z
        · exact z.1
        · exact absurd z.2.1 hk2
      exact y3 post z0 hz0 (br_f hk3 (qy_grantL a1 a2 (by omega) (by omega) hk1 rfl hp))
  · have hk1 : ¬ kd c = 1 := by rw [hk2]; decide
    have hk3 : ¬ kd c = 3 := by rw [hk2]; decide
    by_cases hl : ld a < qx_LM cf C
    · refine ⟨3, _, _, fun post hp => ?_, fun post z0 Z hp => ?_, qk_gs (wy := wy) (rs := rs) (vl := vl) (me' := upd me a (cr c)) (ow' := upd (upd ow a (-1)) a (nI c)) hk hc ha ht hk2 hn hx pk_us (fun b hb => ⟨by rw [pk_un hb, pk_un hb], pk_un hb⟩) (qk_lm hk A T hl) A T P Q S M G L⟩
      · unfold wpX_deliverReturn
        refine ⟨hin, ?_⟩
        rw [hcl]
        exact br_t hk2 (qx_win0 a1 a2 (by omega) hl (br_t rfl (x21 post (br_f hk3 (qx_grantS (by omega) (by omega) hk1 hp)))))
      · have hz0 : z0 = 0 := by
          rcases Z with z | z
          · exact z.1
          · exact absurd hl z.2.2
        exact y3 post z0 hz0 (br_f hk3 (qy_grantS (by omega) (by omega) hk1 hp))
    · refine ⟨8, ((nI C), (nI N), wy, ls, (nI h), (nI e), sp, g, ck, cf, rs, st, kd, tg, vl, gF, gU, cr, sa, fr, un, da, wr, ld, ow, im, me, lS, lC, lK, lL, lV, lT, rg), ((nI C), (nI N), wy, ls, g, sp, (nI e), ck, cf, rs, st, kd, tg, vl, gF, gU, wr, ld, ow, im, sa, bf, bu, mS, mC, mK, mL, mV, mT), fun post hp => ?_, fun post z0 Z hp => ?_, I'⟩
      · unfold wpX_deliverReturn
        refine ⟨hin, ?_⟩
        rw [hcl]
        exact br_t hk2 (qx_win1 a1 a2 (by omega) hl (br_f (by decide) hp))
      · have hz0 : z0 = 1 := by
          rcases Z with z | z
          · exact absurd (z.2 hk2) hl
          · exact z.1
        exact And.intro hin (br_f hs1 ⟨hin, br_f hs2 ⟨hin, br_t hs' (br_f (by rw [hz0]; decide) hp)⟩⟩)
  · have hk2 : ¬ kd c = 2 := by rw [hk3]; decide
    refine ⟨1, ((nI C), (nI N), wy, ls, (nI h), (nI e), sp, g, ck, cf, rs, (upd st c 0), (upd kd c 0), (upd tg c (-1)), (upd vl c 0), (upd gF c 0), (upd gU c 0), cr, sa, fr, un, da, wr, ld, (upd ow a (-1)), im, (upd me a (cr c)), lS, lC, lK, lL, lV, lT, rg), ((nI C), (nI N), wy, ls, g, sp, (nI e), ck, cf, rs, (upd st c 0), (upd kd c 0), (upd tg c (-1)), (upd vl c 0), (upd gF c 0), (upd gU c 0), wr, ld, (upd ow a (-1)), im, sa, bf, bu, mS, mC, mK, mL, mV, mT), fun post hp => ?_, fun post z0 Z hp => ?_, ?_⟩
    · unfold wpX_deliverReturn
      refine ⟨hin, ?_⟩
      rw [hcl]
      exact br_f hk2 (x21 post (br_t hk3 (qx_idle (by omega) hp)))
    · have hz0 : z0 = 0 := by
        rcases Z with z | z
        · exact z.1
        · exact absurd z.2.1 hk2
      refine y3 post z0 hz0 (br_t hk3 ?_)
      unfold wY_deliver_402
      exact qy_setP (by omega) hp
    · refine zz_in A (qp_T_up T) ?_ (qp_Q_off hc Q) S ?_ ?_ (qp_L_up L)
      · exact qp_P_at (c := c) P (fun j _ hj => ⟨pk_un hj, pk_un hj, pk_un hj⟩) (Or.inl ⟨pk_us, pk_us, pk_us⟩)
      · intro b hb
        by_cases hab : a = b
        · subst hab
          exact qp_M_re a2 (by omega) (M a ha) hc ht hs pk_us pk_us
        · refine qp_M_fr (M b hb) (pk_un (fun z => hab z.symm)) (pk_un (fun z => hab z.symm)) rfl (fun _ _ => Iff.rfl) (fun _ _ _ => rfl) (qp_fr_pend hab (by omega) (by omega) (Or.inr ht) (Or.inl pk_us) (fun j hj => ⟨pk_un hj, pk_un hj, pk_un hj, rfl⟩)) (fun hz => hz)
      · refine qp_G_at (c := c) G (fun j _ hj => ⟨pk_un hj, pk_un hj, pk_un hj, pk_un hj, pk_un hj, rfl, rfl⟩) (fun _ _ => Int.le_refl _) (fun _ _ _ _ => rfl) (fun b hb _ z _ => ?_)
        rw [pk_us] at z
        exact absurd z (by decide)
theorem qx_cSLv {post : SX → Prop} {k c a : Nat} {t v : Int32} (L : (qp_L N k h e sp rg lS lC lK lL lV lT mS mC mK mL mV mT wr)) (hk : k ≤ 2052) (hN : N ≤ 8) (hc : c < 4) (ha : a < N) (he : e < 32) (hv : da (c * 8 + a) = v) (ht : qa_mx (ck c) (fr (c * 8 + a)) = t) (hp : ∀ rg', (qp_L N (k + 4) h (e + 1) (sp + 1) rg' (upd lS (ql_p h rg e) (sp + 1)) (upd lC (ql_p h rg e) (nI c)) (upd lK (ql_p h rg e) 1) (upd lL (ql_p h rg e) (nI a)) (upd lV (ql_p h rg e) v) (upd lT (ql_p h rg e) t) (upd mS e (sp + 1)) (upd mC e (nI c)) (upd mK e 1) (upd mL e (nI a)) (upd mV e v) (upd mT e t) wr) → (∀ (im : Nat → Int32) (b : Nat), b < N → ∀ s : Int, (qp_V h (e + 1) rg' (upd lS (ql_p h rg e) (sp + 1)) (upd lC (ql_p h rg e) (nI c)) (upd lK (ql_p h rg e) 1) (upd lL (ql_p h rg e) (nI a)) (upd lV (ql_p h rg e) v) (upd lT (ql_p h rg e) t) im) b s = (qp_V h e rg lS lC lK lL lV lT im) b s) → post ((nI C), (nI N), wy, ls, (nI h), (nI (e + 1)), (sp + 1), g, (upd ck c t), cf, (upd rs c v), st, kd, tg, vl, gF, gU, cr, sa, fr, un, da, wr, ld, ow, im, me, (upd lS (ql_p h rg e) (sp + 1)), (upd lC (ql_p h rg e) (nI c)), (upd lK (ql_p h rg e) 1), (upd lL (ql_p h rg e) (nI a)), (upd lV (ql_p h rg e) v), (upd lT (ql_p h rg e) t), rg')) : wpX_completeSharedLoad post ((nI C), (nI N), wy, ls, (nI h), (nI e), sp, g, ck, cf, rs, st, kd, tg, vl, gF, gU, cr, sa, fr, un, da, wr, ld, ow, im, me, lS, lC, lK, lL, lV, lT, rg) (nI c) (nI a) := by
  subst hv
  exact qx_cSL L hk hN hc ha he ht hp
/-- after a load grant came home -/
theorem qk_dl {k c a : Nat} {t : Int32} {rg' : Nat → Int32} (hk : k + 4 ≤ 2052) (hc : c < C) (ha : a < N) (ht : tg c = nI a) (hs : st c = 4) (hkd : kd c = 1) (htm : qa_mx (ck c) (gF c) = t) (A : (qp_A C N ls)) (T : (qp_T C N k g cf ck wr ld)) (P : (qp_P C N st kd tg)) (Q : (qp_Q C e kd)) (S : (qp_S C N g cf sa fr un bf bu da ld (qp_V h e rg lS lC lK lL lV lT im))) (M : (qp_M C N st kd tg ow sa cr da me wr ld cf (qp_V h e rg lS lC lK lL lV lT im))) (G : (qp_G C N g cf ck st kd tg gF gU cr ld (qp_V h e rg lS lC lK lL lV lT im))) (L' : (qp_L N (k + 4) h (e + 1) (sp + 1) rg' (upd lS (ql_p h rg e) (sp + 1)) (upd lC (ql_p h rg e) (nI c)) (upd lK (ql_p h rg e) 1) (upd lL (ql_p h rg e) (nI a)) (upd lV (ql_p h rg e) (cr c)) (upd lT (ql_p h rg e) t) (upd mS e (sp + 1)) (upd mC e (nI c)) (upd mK e 1) (upd mL e (nI a)) (upd mV e (cr c)) (upd mT e t) wr)) (V' : ∀ (im : Nat → Int32) (b : Nat), b < N → ∀ s : Int, (qp_V h (e + 1) rg' (upd lS (ql_p h rg e) (sp + 1)) (upd lC (ql_p h rg e) (nI c)) (upd lK (ql_p h rg e) 1) (upd lL (ql_p h rg e) (nI a)) (upd lV (ql_p h rg e) (cr c)) (upd lT (ql_p h rg e) t) im) b s = (qp_V h e rg lS lC lK lL lV lT im) b s) : i_Rel (k + 4) ((nI C), (nI N), wy, ls, (nI h), (nI (e + 1)), (sp + 1), g, (upd ck c t), cf, (upd rs c (cr c)), (upd st c 0), (upd kd c 0), (upd tg c (-1)), (upd vl c 0), (upd gF c 0), (upd gU c 0), cr, (upd sa (c * 8 + a) 1), (upd fr (c * 8 + a) (gF c)), (upd un (c * 8 + a) (gU c)), (upd da (c * 8 + a) (cr c)), wr, ld, ow, im, me, (upd lS (ql_p h rg e) (sp + 1)), (upd lC (ql_p h rg e) (nI c)), (upd lK (ql_p h rg e) 1), (upd lL (ql_p h rg e) (nI a)), (upd lV (ql_p h rg e) (cr c)), (upd lT (ql_p h rg e) t), rg') ((nI C), (nI N), wy, ls, g, (sp + 1), (nI (e + 1)), (upd ck c t), cf, (upd rs c (cr c)), (upd st c 0), (upd kd c 0), (upd tg c (-1)), (upd vl c 0), (upd gF c 0), (upd gU c 0), wr, ld, ow, im, (upd sa (c * 8 + a) 1), (upd bf (c * 8 + a) (gF c)), (upd bu (c * 8 + a) (gU c)), (upd mS e (sp + 1)), (upd mC e (nI c)), (upd mK e 1), (upd mL e (nI a)), (upd mV e (cr c)), (upd mT e t)) := by
  obtain ⟨a1, a2, a3, a4, _⟩ := id A
  obtain ⟨t0, t1, t2, t3⟩ := id T
  have x1 := qa_mxT (ck c) (gF c)
  rw [htm] at x1
  have c1 := t2 c hc
  have c2 := t3 a ha
  obtain ⟨g1, g2, g3, g4, g5, g6⟩ := G c hc a ha ht hs hkd
  have hVV : ∀ b, b < N → ∀ s : Int, s ≤ (ld b).toInt → (qp_V h (e + 1) rg' (upd lS (ql_p h rg e) (sp + 1)) (upd lC (ql_p h rg e) (nI c)) (upd lK (ql_p h rg e) 1) (upd lL (ql_p h rg e) (nI a)) (upd lV (ql_p h rg e) (cr c)) (upd lT (ql_p h rg e) t) im) b s = (qp_V h e rg lS lC lK lL lV lT im) b s := fun b hb s _ => V' im b hb s
  refine zz_in A (qp_T_up (qp_T_ck T (by omega) (fun d hd => ?_))) ?_ (qp_Q_fin hc (Or.inl hkd) Q) ?_ ?_ ?_ L'
  · have h1 := c1.2 d hd
    have h2 := c2.2.2 d hd
    omega
  · exact qp_P_at (c := c) P (fun j _ hj => ⟨pk_un hj, pk_un hj, pk_un hj⟩) (Or.inl ⟨pk_us, pk_us, pk_us⟩)
  · refine qp_S_at (c := c) (a := a) a4 ha (qp_S_ld S (fun _ _ => Int.le_refl _) hVV) (fun j hj => ⟨pk_un hj, pk_un hj, pk_un hj, pk_un hj, pk_un hj, pk_un hj⟩) ?_
    rw [pk_us, pk_us, pk_us, pk_us, pk_us, pk_us]
    refine Or.inr (Or.inl ⟨rfl, rfl, rfl, g1, g2, g3, g5, fun s h1 h2 => ?_⟩)
    rw [V' im a ha s]
    exact g6 s h1 h2
  · intro b hb
    by_cases hab : a = b
    · subst hab
      refine qp_M_dl a2 (by omega) (M a ha) hc ht hs hkd (fun d _ hd => pk_un (by omega)) (fun d _ hd => pk_un (by omega)) ?_ (V' im a ha _)
      rw [pk_us]; decide
    · refine qp_M_fr (M b hb) rfl rfl (V' im b hb _) (fun d _ => ?_) (fun d _ _ => ?_) (qp_fr_pend hab (by omega) (by omega) (Or.inr ht) (Or.inl pk_us) (fun j hj => ⟨pk_un hj, pk_un hj, pk_un hj, rfl⟩)) (fun hz => hz)
      · rw [pk_un (qp_ixne hab (by omega) (by omega))]
      · rw [pk_un (qp_ixne hab (by omega) (by omega))]
  · refine qp_G_at (c := c) G (fun j _ hj => ⟨pk_un hj, pk_un hj, pk_un hj, pk_un hj, pk_un hj, rfl, pk_un hj⟩) (fun _ _ => Int.le_refl _) hVV (fun b hb _ z _ => ?_)
    rw [pk_us] at z
    exact absurd z (by decide)
/-- after a store grant came home -/
theorem qk_ds {k c a : Nat} {t v : Int32} {rg' : Nat → Int32} (hk : k + 4 ≤ 2052) (hc : c < C) (ha : a < N) (ht : tg c = nI a) (hs : st c = 4) (hkd : kd c = 2) (htm : qa_mx (ck c) (ld a + 1) = t) (htl : (ld a).toInt < t.toInt) (htd : ∀ d, d < C → t.toInt ≤ (cf d).toInt + 31) (A : (qp_A C N ls)) (T : (qp_T C N k g cf ck wr ld)) (P : (qp_P C N st kd tg)) (Q : (qp_Q C e kd)) (S : (qp_S C N g cf sa fr un bf bu da ld (qp_V h e rg lS lC lK lL lV lT im))) (M : (qp_M C N st kd tg ow sa cr da me wr ld cf (qp_V h e rg lS lC lK lL lV lT im))) (G : (qp_G C N g cf ck st kd tg gF gU cr ld (qp_V h e rg lS lC lK lL lV lT im))) (L' : (qp_L N (k + 4) h (e + 1) (sp + 1) rg' (upd lS (ql_p h rg e) (sp + 1)) (upd lC (ql_p h rg e) (nI c)) (upd lK (ql_p h rg e) 2) (upd lL (ql_p h rg e) (nI a)) (upd lV (ql_p h rg e) v) (upd lT (ql_p h rg e) t) (upd mS e (sp + 1)) (upd mC e (nI c)) (upd mK e 2) (upd mL e (nI a)) (upd mV e v) (upd mT e t) (upd wr a t))) (V' : ∀ (im : Nat → Int32) (b : Nat), b < N → ∀ s : Int, (qp_V h (e + 1) rg' (upd lS (ql_p h rg e) (sp + 1)) (upd lC (ql_p h rg e) (nI c)) (upd lK (ql_p h rg e) 2) (upd lL (ql_p h rg e) (nI a)) (upd lV (ql_p h rg e) v) (upd lT (ql_p h rg e) t) im) b s = (if b = a ∧ t.toInt ≤ s then v else (qp_V h e rg lS lC lK lL lV lT im) b s)) : i_Rel (k + 4) ((nI C), (nI N), wy, ls, (nI h), (nI (e + 1)), (sp + 1), g, (upd ck c t), cf, rs, (upd st c 0), (upd kd c 0), (upd tg c (-1)), (upd vl c 0), (upd gF c 0), (upd gU c 0), cr, (upd (upd sa (c * 8 + a) 0) (c * 8 + a) 2), (upd fr (c * 8 + a) 0), (upd un (c * 8 + a) 0), (upd (upd da (c * 8 + a) 0) (c * 8 + a) v), (upd wr a t), (upd ld a t), ow, im, me, (upd lS (ql_p h rg e) (sp + 1)), (upd lC (ql_p h rg e) (nI c)), (upd lK (ql_p h rg e) 2), (upd lL (ql_p h rg e) (nI a)), (upd lV (ql_p h rg e) v), (upd lT (ql_p h rg e) t), rg') ((nI C), (nI N), wy, ls, g, (sp + 1), (nI (e + 1)), (upd ck c t), cf, rs, (upd st c 0), (upd kd c 0), (upd tg c (-1)), (upd vl c 0), (upd gF c 0), (upd gU c 0), (upd wr a t), (upd ld a t), ow, im, (upd (upd sa (c * 8 + a) 0) (c * 8 + a) 2), bf, bu, (upd mS e (sp + 1)), (upd mC e (nI c)), (upd mK e 2), (upd mL e (nI a)), (upd mV e v), (upd mT e t)) := by
  obtain ⟨a1, a2, a3, a4, _⟩ := id A
  obtain ⟨t0, t1, t2, t3⟩ := id T
  have x1 := qa_mxT (ck c) (ld a + 1)
  rw [htm] at x1
  have c1 := t2 c hc
  have c2 := t3 a ha
  have hld : ∀ b, b < N → (ld b).toInt ≤ (upd ld a t b).toInt := by
    intro b _
    by_cases hba : b = a
    · rw [hba, pk_us]; omega
    · rw [pk_un hba]; exact Int.le_refl _
  have hV : ∀ b, b < N → ∀ s : Int, s ≤ (ld b).toInt → (qp_V h (e + 1) rg' (upd lS (ql_p h rg e) (sp + 1)) (upd lC (ql_p h rg e) (nI c)) (upd lK (ql_p h rg e) 2) (upd lL (ql_p h rg e) (nI a)) (upd lV (ql_p h rg e) v) (upd lT (ql_p h rg e) t) im) b s = (qp_V h e rg lS lC lK lL lV lT im) b s := by
    intro b hb s hs
    rw [V' im b hb s]
    refine if_neg (fun z => ?_)
    have := z.2
    rw [z.1] at hs
    omega
  refine zz_in A (qp_T_up (qp_T_ck (qp_T_wl T (by omega) htd) (by omega) htd)) ?_ (qp_Q_fin hc (Or.inr hkd) Q) ?_ ?_ ?_ L'
  · exact qp_P_at (c := c) P (fun j _ hj => ⟨pk_un hj, pk_un hj, pk_un hj⟩) (Or.inl ⟨pk_us, pk_us, pk_us⟩)
  · exact qp_S_at (c := c) (a := a) a4 ha (qp_S_ld S hld hV) (fun j hj => ⟨by rw [pk_un hj, pk_un hj], pk_un hj, pk_un hj, by rw [pk_un hj, pk_un hj], rfl, rfl⟩) (Or.inr (Or.inr pk_us))
  · intro b hb
    by_cases hab : a = b
    · subst hab
      refine qp_M_ds (v := v) a2 (by omega) (M a ha) hc ht hs hkd (fun d _ hd => by rw [pk_un (by omega), pk_un (by omega)]) pk_us pk_us ?_
      rw [pk_us, V' im a hb _, if_pos ⟨rfl, Int.le_refl _⟩]
    · refine qp_M_fr (M b hb) rfl rfl ?_ (fun d _ => ?_) (fun d _ _ => ?_) (qp_fr_pend hab (by omega) (by omega) (Or.inr ht) (Or.inl pk_us) (fun j hj => ⟨pk_un hj, pk_un hj, pk_un hj, rfl⟩)) (fun hz d hd => ?_)
      · rw [V' im b hb _, if_neg (fun z => hab z.1.symm), pk_un (fun z => hab z.symm)]
      · rw [pk_un (qp_ixne hab (by omega) (by omega)), pk_un (qp_ixne hab (by omega) (by omega))]
      · rw [pk_un (qp_ixne hab (by omega) (by omega)), pk_un (qp_ixne hab (by omega) (by omega))]
      · rw [pk_un (fun z => hab z.symm)]; exact hz d hd
  · refine qp_G_at (c := c) G (fun j _ hj => ⟨pk_un hj, pk_un hj, pk_un hj, pk_un hj, pk_un hj, rfl, pk_un hj⟩) hld hV (fun b hb _ z _ => ?_)
    rw [pk_us] at z
    exact absurd z (by decide)
end QDV2
end
section
section QDV3
variable {C N h e : Nat} {wy ls sp g : Int32} {ck cf rs st kd tg vl gF gU cr sa fr un da wr ld ow im me lS lC lK lL lV lT rg bf bu mS mC mK mL mV mT : Nat → Int32}
theorem qa_uu {f : Nat → Int32} {i : Nat} {x y : Int32} : upd f i y = upd (upd f i x) i y := by
  funext j
  by_cases hj : j = i
  · rw [hj, pk_us, pk_us]
  · rw [pk_un hj, pk_un hj, pk_un hj]
theorem qy_del {post : Int32 → SY → Prop} {c a : Nat} (a1 : 2 ≤ C) (a2 : C ≤ 4) (a4 : N ≤ 8) (hc : c < C) (ha : a < N) (hs : ¬ st c = 0) (ht : tg c = nI a) (hp : ∀ z0, qd_Z C kd ld cf c a z0 → wY_deliver_67 post (nI c) (nI a) (kd c) z0 (nI C) (nI N) wy ls g sp (nI e) ck cf rs st kd tg vl gF gU wr ld ow im sa bf bu mS mC mK mL mV mT) : wpY_deliver post ((nI C), (nI N), wy, ls, g, sp, (nI e), ck, cf, rs, st, kd, tg, vl, gF, gU, wr, ld, ow, im, sa, bf, bu, mS, mC, mK, mL, mV, mT) (nI c) := by
  have hin : vp_in (nI c) 4 := vp_in_nI (by omega) (by omega)
  have hin8 : vp_in (nI a) 8 := vp_in_nI (by omega) (by omega)
  have hcl : (nI c).toNatClampNeg = c := nI_clamp (by omega)
  have hcl8 : (nI a).toNatClampNeg = a := nI_clamp (by omega)
  have hs' : ¬ st (nI c).toNatClampNeg = 0 := by rw [hcl]; exact hs
  unfold wpY_deliver
  dsimp only
  refine qy_bcF hc a2 (br_t rfl ⟨hin, nm_r (e' := nI a) (by rw [hcl]; exact ht) ⟨hin, br_f hs' (qy_blF ha a4 (br_t rfl ⟨hin, nm_r (e' := kd c) (by rw [hcl]) ?_⟩))⟩⟩)
  by_cases h2 : kd c = 2
  · refine br_t h2 ⟨hin8, qy_limit a1 a2 ?_⟩
    rw [hcl8]
    by_cases hl : ld a < qx_LM cf C
    · refine br_t hl ?_
      unfold wY_deliver_66
      exact hp 0 (Or.inl ⟨rfl, fun _ => hl⟩)
    · exact br_f hl (hp 1 (Or.inr ⟨rfl, h2, hl⟩))
  · refine br_f h2 ?_
    unfold wY_deliver_66
    exact hp 0 (Or.inl ⟨rfl, fun z => absurd z h2⟩)
theorem i_vc_deliver {k : Nat} {u : SX} {v : SY} (I : i_Rel k u v) (hk : k + 4 ≤ 2052) (v1 : Int32) : wpX_deliver (fun r u' => wpY_deliver (fun r' v' => r' = r ∧ i_Rel (k + 4) u' v') v v1) u v1 := by
  refine zz_el (P := fun u v => i_Rel (k + 4) u v → wpX_deliver (fun r u' => wpY_deliver (fun r' v' => r' = r ∧ i_Rel (k + 4) u' v') v v1) u v1) I ?_ (i_up I)
  intro C N h e wy ls sp g ck cf rs st kd tg vl gF gU cr sa fr un da wr ld ow im me lS lC lK lL lV lT rg bf bu mS mC mK mL mV mT A T P Q S M G L I'
  obtain ⟨a1, a2, a3, a4, _⟩ := id A
  unfold wpX_deliver
  dsimp only
  rcases qa_cs v1 (show C < 2 ^ 31 by omega) with ⟨c, hc, rfl⟩ | hb
  · have hin : vp_in (nI c) 4 := vp_in_nI (by omega) (by omega)
    have hcl : (nI c).toNatClampNeg = c := nI_clamp (by omega)
    rcases P c hc with ⟨hs, _, ht⟩ | ⟨a, ha, ht, hq⟩
    · have hs' : st (nI c).toNatClampNeg = 0 := by rw [hcl]; exact hs
      refine qx_bcF hc a2 (br_t rfl ⟨hin, nm_e ⟨hin, br_t hs' ?_⟩⟩)
      unfold wpY_deliver
      dsimp only
      exact qy_bcF hc a2 (br_t rfl ⟨hin, nm_e ⟨hin, br_t hs' ⟨rfl, I'⟩⟩⟩)
    · have hs0 : ¬ st c = 0 := by
        rcases hq with ⟨z | z | z, _⟩ | ⟨z, _⟩ <;> (rw [z]; decide)
      have hs' : ¬ st (nI c).toNatClampNeg = 0 := by rw [hcl]; exact hs0
      refine qx_bcF hc a2 (br_t rfl ⟨hin, nm_r (e' := nI a) (by rw [hcl]; exact ht) ⟨hin, br_f hs' (qx_blF ha a4 (br_t rfl ⟨hin, nm_r (e' := st c) (by rw [hcl]) ?_⟩))⟩⟩)
      rcases hq with ⟨hs | hs | hs, hkd⟩ | ⟨hs, hkd⟩
      · obtain ⟨r, u', v', kX, kY, kR⟩ := qd_req (wy := wy) (rs := rs) (vl := vl) hk hc ha ht hs hkd A T P Q S M G L
        refine br_f (by rw [hs]; decide) (br_f (by rw [hs]; decide) (br_t hs (kX _ (qy_del a1 a2 a4 hc ha hs0 ht (fun z0 Z => kY _ z0 Z ⟨rfl, kR⟩)))))
      · obtain ⟨r, u', v', kX, kY, kR⟩ := qd_rec (wy := wy) (rs := rs) (vl := vl) hk hc ha ht hs hkd A T P Q S M G L
        refine br_f (by rw [hs]; decide) (br_f (by rw [hs]; decide) (br_f (by rw [hs]; decide) (br_t hs (kX _ (qy_del a1 a2 a4 hc ha hs0 ht (fun z0 Z => kY _ z0 Z ⟨rfl, kR⟩))))))
      · -- a grant comes home
        have hin2 : vp_in (nI (c * 8 + a)) 32 := vp_in_nI (by omega) (by omega)
        have hcl2 : (nI (c * 8 + a)).toNatClampNeg = c * 8 + a := nI_clamp (by omega)
        have s1 : ¬ st (nI c).toNatClampNeg = 1 := by rw [hcl, hs]; decide
        have s2 : ¬ st (nI c).toNatClampNeg = 2 := by rw [hcl, hs]; decide
        have s3 : ¬ st (nI c).toNatClampNeg = 3 := by rw [hcl, hs]; decide
        have he : e < 32 := qp_Q_lt hc hkd Q
        refine br_f (by rw [hs]; decide) (br_t (by rw [hs]; decide) ?_)
        unfold wpX_deliverGrant
        refine nm_r (qa_ix c a) ⟨hin, ?_⟩
        rw [hcl]
        rcases hkd with hk1 | hk2
        · obtain ⟨g1, g2, g3, g4, g5, g6⟩ := G c hc a ha ht hs hk1
          have x1 := qa_mxT (ck c) (gF c)
          refine br_t hk1 ⟨hin, hin, hin, qx_share (by omega) ?_⟩
          dsimp only
          refine qx_cSLv (v := cr c) (t := qa_mx (ck c) (gF c)) L (by omega) a4 (by omega) ha he pk_us (by rw [pk_us]) (fun rg' l' v' => ?_)
          dsimp only
          unfold wX_deliverGrant_73
          refine qx_idle (by omega) (qy_del a1 a2 a4 hc ha hs0 ht (fun z0 Z => ?_))
          refine And.intro hin (br_f s1 ⟨hin, br_f s2 ⟨hin, br_f s3 (br_t hk1 ?_)⟩⟩)
          rw [qa_ix, hcl, hcl2]
          refine ⟨hin2, nm_e ⟨hin, hin2, nm_e ⟨hin, hin2, nm_e ?_⟩⟩⟩
          refine qy_sl (v := cr c) (t := qa_mx (ck c) (gF c)) L a4 (by omega) ha he (by rw [pk_us]) (g6 _ (by omega) (by omega)).symm ?_
          dsimp only
          unfold wY_deliver_402
          exact qy_setP (by omega) ⟨rfl, qk_dl hk hc ha ht hs hk1 rfl A T P Q S M G l' v'⟩
        · have hk1 : ¬ kd c = 1 := by rw [hk2]; decide
          obtain ⟨m1, m2, m3⟩ := ((M a ha).2.2.2.1 c hc ht).2.2.2 hs hk2
          obtain ⟨y1, y2, y3⟩ := qk_tm hk hc ha m3 rfl A T
          refine br_f hk1 (qx_drop (by omega) ?_)
          dsimp only
          refine ⟨hin2, nm_r (e' := upd (upd sa (c * 8 + a) 0) (c * 8 + a) 2) (by rw [hcl2]) ⟨hin, ?_⟩⟩
          refine qx_cST L (by omega) a4 (by omega) ha he rfl y2 (fun rg' l' v' => ?_)
          dsimp only
          unfold wX_deliverGrant_73
          refine qx_idle (by omega) (qy_del a1 a2 a4 hc ha hs0 ht (fun z0 Z => ?_))
          refine And.intro hin (br_f s1 ⟨hin, br_f s2 ⟨hin, br_f s3 (br_f hk1 ?_)⟩⟩)
          rw [qa_ix, hcl, hcl2]
          refine ⟨hin2, nm_r (e' := upd (upd sa (c * 8 + a) 0) (c * 8 + a) 2) qa_uu ⟨hin, ?_⟩⟩
          refine qy_cst a4 (by omega) ha he rfl ?_
          dsimp only
          unfold wY_deliver_402
          exact qy_setP (by omega) ⟨rfl, qk_ds hk hc ha ht hs hk2 rfl y1 y3 A T P Q S M G l' v'⟩
      · obtain ⟨r, u', v', kX, kY, kR⟩ := qd_ret (wy := wy) (rs := rs) (vl := vl) hk hc ha ht hs hkd A T P Q S M G L
        refine br_f (by rw [hs]; decide) (br_f (by rw [hs]; decide) (br_f (by rw [hs]; decide) (br_f (by rw [hs]; decide) (br_t hs (kX _ (qy_del a1 a2 a4 hc ha hs0 ht (fun z0 Z => kY _ z0 Z ⟨rfl, kR⟩)))))))
  · unfold wpY_deliver
    dsimp only
    exact qx_bcT hb (br_f (by decide) (qy_bcT hb (br_f (by decide) ⟨rfl, I'⟩)))
end QDV3
end
section
section QSE
variable {C N h e : Nat} {wy ls sp g : Int32} {ck cf rs st kd tg vl gF gU cr sa fr un da wr ld ow im me lS lC lK lL lV lT rg bf bu mS mC mK mL mV mT : Nat → Int32}
/-! copies lifted to the floor -/
def qt_d (g : Int32) (sa un : Nat → Int32) (i : Nat) : Bool := decide (sa i = 1 ∧ ¬ g ≤ un i)
def qt_a (g : Int32) (sa un : Nat → Int32) (i : Nat) : Bool := decide (sa i = 1 ∧ g ≤ un i)
def qt_s (sa : Nat → Int32) (i : Nat) : Bool := decide (sa i = 1)
def qt_0 (b j : Nat) (g : Int32) (sa un f : Nat → Int32) : Nat → Int32 := qs_F b j (qt_d g sa un) (fun _ => 0) f
def qt_f (b j : Nat) (g : Int32) (sa un fr : Nat → Int32) : Nat → Int32 := qs_F b j (qt_s sa) (fun i => if g ≤ un i then qa_mx (fr i) g else 0) fr
def qt_b (b j : Nat) (g : Int32) (sa un bf : Nat → Int32) : Nat → Int32 := qs_F b j (qt_a g sa un) (fun i => qa_mx (bf i) g) bf
theorem qt_0n {b j : Nat} {f : Nat → Int32} (hd : ¬ (sa (b + j) = 1 ∧ ¬ g ≤ un (b + j))) : qt_0 b (j + 1) g sa un f = qt_0 b j g sa un f := (qs_FN (decide_eq_false hd)).symm
theorem qt_0t {b j : Nat} {f : Nat → Int32} (hd : sa (b + j) = 1 ∧ ¬ g ≤ un (b + j)) : upd (qt_0 b j g sa un f) (b + j) 0 = qt_0 b (j + 1) g sa un f := qs_FT (P := qt_d g sa un) (v := fun _ => 0) (decide_eq_true hd)
theorem qt_fn {b j : Nat} (hd : ¬ sa (b + j) = 1) : qt_f b (j + 1) g sa un fr = qt_f b j g sa un fr := (qs_FN (decide_eq_false hd)).symm
theorem qt_ft {b j : Nat} (hd : sa (b + j) = 1) (hg : g ≤ un (b + j)) : upd (qt_f b j g sa un fr) (b + j) (qa_mx (fr (b + j)) g) = qt_f b (j + 1) g sa un fr := by
  have := qs_FT (b := b) (j := j) (P := qt_s sa) (v := fun i => if g ≤ un i then qa_mx (fr i) g else 0) (f := fr) (decide_eq_true hd)
  rw [if_pos hg] at this
  exact this
theorem qt_f0 {b j : Nat} (hd : sa (b + j) = 1) (hg : ¬ g ≤ un (b + j)) : upd (qt_f b j g sa un fr) (b + j) 0 = qt_f b (j + 1) g sa un fr := by
  have := qs_FT (b := b) (j := j) (P := qt_s sa) (v := fun i => if g ≤ un i then qa_mx (fr i) g else 0) (f := fr) (decide_eq_true hd)
  rw [if_neg hg] at this
  exact this
theorem qt_bn {b j : Nat} (hd : ¬ (sa (b + j) = 1 ∧ g ≤ un (b + j))) : qt_b b (j + 1) g sa un bf = qt_b b j g sa un bf := (qs_FN (decide_eq_false hd)).symm
theorem qt_bt {b j : Nat} (hd : sa (b + j) = 1 ∧ g ≤ un (b + j)) : upd (qt_b b j g sa un bf) (b + j) (qa_mx (bf (b + j)) g) = qt_b b (j + 1) g sa un bf := qs_FT (P := qt_a g sa un) (v := fun i => qa_mx (bf i) g) (decide_eq_true hd)
theorem qt_0r {b j : Nat} {f : Nat → Int32} : qt_0 b j g sa un f (b + j) = f (b + j) := qs_Fr
theorem qt_fr {b j : Nat} : qt_f b j g sa un fr (b + j) = fr (b + j) := qs_Fr
theorem qt_br {b j : Nat} : qt_b b j g sa un bf (b + j) = bf (b + j) := qs_Fr
theorem qx_lift {post : SX → Prop} {c : Nat} (hc : c < 4) (hN : N ≤ 8) (hp : post ((nI C), (nI N), wy, ls, (nI h), (nI e), sp, g, ck, cf, rs, st, kd, tg, vl, gF, gU, cr, (qt_0 (c * 8) N g sa un sa), (qt_f (c * 8) N g sa un fr), (qt_0 (c * 8) N g sa un un), (qt_0 (c * 8) N g sa un da), wr, ld, ow, im, me, lS, lC, lK, lL, lV, lT, rg)) : wpX_liftCopies post ((nI C), (nI N), wy, ls, (nI h), (nI e), sp, g, ck, cf, rs, st, kd, tg, vl, gF, gU, cr, sa, fr, un, da, wr, ld, ow, im, me, lS, lC, lK, lL, lV, lT, rg) (nI c) := by
  refine nm_r (qa_x8 c) ?_
  have key := qx_fold (W := fun n j (s : (Nat → Int32) × (Nat → Int32) × (Nat → Int32) × (Nat → Int32)) => wX_liftCopies_7 post (nI (c * 8)) n (nI (c * 8 + j)) (nI C) (nI N) wy ls (nI h) (nI e) sp g ck cf rs st kd tg vl gF gU cr s.1 s.2.1 s.2.2.1 s.2.2.2 wr ld ow im me lS lC lK lL lV lT rg) (fun j => (qt_0 (c * 8) j g sa un sa, qt_f (c * 8) j g sa un fr, qt_0 (c * 8) j g sa un un, qt_0 (c * 8) j g sa un da)) N ?_ ?_
  · unfold qt_0 qt_f at key
    dsimp only at key
    rw [qs_F0, qs_F0, qs_F0, qs_F0] at key
    exact key
  · intro n
    exact br_t (by rw [nI_add]; exact nI_le (Nat.le_refl _) (by omega)) hp
  · intro n j hj hi
    have hin : vp_in (nI (c * 8 + j)) 32 := vp_in_nI (by omega) (by omega)
    have hcl : (nI (c * 8 + j)).toNatClampNeg = c * 8 + j := nI_clamp (by omega)
    dsimp only at hi ⊢
    refine br_f (by rw [nI_add]; exact nI_ge (by omega) (by omega)) ⟨hin, ?_⟩
    rw [hcl, qt_0r, qt_0r, qt_fr]
    by_cases h1 : sa (c * 8 + j) = 1
    · refine br_t h1 ⟨hin, ?_⟩
      by_cases h2 : g ≤ un (c * 8 + j)
      · have hd : ¬ (sa (c * 8 + j) = 1 ∧ ¬ g ≤ un (c * 8 + j)) := fun z => z.2 h2
        rw [qt_0n hd, qt_0n hd, qt_0n hd] at hi
        exact br_t h2 ⟨hin, qx_max ⟨hin, nm_r (qt_ft h1 h2) (nm_r (nI_1 _) hi)⟩⟩
      · refine br_f h2 (qx_drop (by omega) ?_)
        dsimp only
        rw [qt_0t ⟨h1, h2⟩, qt_0t ⟨h1, h2⟩, qt_0t ⟨h1, h2⟩, qt_f0 h1 h2]
        exact nm_r (nI_1 _) hi
    · have hd : ¬ (sa (c * 8 + j) = 1 ∧ ¬ g ≤ un (c * 8 + j)) := fun z => h1 z.1
      rw [qt_0n hd, qt_0n hd, qt_0n hd, qt_fn h1] at hi
      exact br_f h1 (nm_r (nI_1 _) hi)
theorem qy_set71 {post : Int32 → SY → Prop} {c : Nat} (hc : c < 4) (hN : N ≤ 8) (hu : ∀ j, j < N → sa (c * 8 + j) = 1 → bu (c * 8 + j) = un (c * 8 + j)) (hp : ∃ n, wY_settle_157 post (nI C) (nI N) wy ls g sp (nI e) ck cf rs st kd tg vl gF gU wr ld ow im (qt_0 (c * 8) N g sa un sa) (qt_b (c * 8) N g sa un bf) bu mS mC mK mL mV mT n 0) : ∃ n, wY_settle_71 post (nI c) (nI C) (nI N) wy ls g sp (nI e) n 0 ck cf rs st kd tg vl gF gU wr ld ow im sa bf bu mS mC mK mL mV mT := by
  have key := qx_fold (W := fun n j (s : (Nat → Int32) × (Nat → Int32)) => wY_settle_71 post (nI c) (nI C) (nI N) wy ls g sp (nI e) n (nI j) ck cf rs st kd tg vl gF gU wr ld ow im s.1 s.2 bu mS mC mK mL mV mT) (fun j => (qt_0 (c * 8) j g sa un sa, qt_b (c * 8) j g sa un bf)) N ?_ ?_
  · unfold qt_0 qt_b at key
    dsimp only at key
    rw [qs_F0, qs_F0] at key
    exact key
  · intro n
    exact br_t (nI_le (Nat.le_refl _) (by omega)) hp
  · intro n j hj hi
    have hin : vp_in (nI (c * 8 + j)) 32 := vp_in_nI (by omega) (by omega)
    have hcl : (nI (c * 8 + j)).toNatClampNeg = c * 8 + j := nI_clamp (by omega)
    dsimp only at hi ⊢
    refine br_f (nI_ge hj (by omega)) (nm_r (qa_ix c j) ⟨hin, ?_⟩)
    rw [hcl, qt_0r]
    by_cases h1 : sa (c * 8 + j) = 1
    · refine br_t h1 ⟨hin, ?_⟩
      rw [hu j hj h1]
      by_cases h2 : g ≤ un (c * 8 + j)
      · have hd : ¬ (sa (c * 8 + j) = 1 ∧ ¬ g ≤ un (c * 8 + j)) := fun z => z.2 h2
        rw [qt_0n hd] at hi
        refine br_t h2 (And.intro hin ?_)
        rw [hcl, qt_0r, qt_br]
        exact br_t h1 ⟨hin, qy_max ⟨hin, nm_r (qt_bt ⟨h1, h2⟩) (nm_r (nI_1 _) hi)⟩⟩
      · have hb : ¬ (sa (c * 8 + j) = 1 ∧ g ≤ un (c * 8 + j)) := fun z => h2 z.2
        rw [qt_bn hb] at hi
        exact br_f h2 ⟨hin, nm_r (qt_0t ⟨h1, h2⟩) (nm_r (nI_1 _) hi)⟩
    · have hd : ¬ (sa (c * 8 + j) = 1 ∧ ¬ g ≤ un (c * 8 + j)) := fun z => h1 z.1
      have hb : ¬ (sa (c * 8 + j) = 1 ∧ g ≤ un (c * 8 + j)) := fun z => h1 z.1
      rw [qt_0n hd, qt_bn hb] at hi
      refine br_f h1 (And.intro hin ?_)
      rw [hcl, qt_0r]
      exact br_f h1 (nm_r (nI_1 _) hi)
theorem qx_all {post : Int32 → Prop} (hC : C ≤ 4) (h0 : (∃ j, j < C ∧ ¬ cf j = g) → post 0) (h1 : (∀ j, j < C → ¬ ¬ cf j = g) → post 1) : wpX_isAllSettled post ((nI C), (nI N), wy, ls, (nI h), (nI e), sp, g, ck, cf, rs, st, kd, tg, vl, gF, gU, cr, sa, fr, un, da, wr, ld, ow, im, me, lS, lC, lK, lL, lV, lT, rg) := by
  refine qx_scan (W := fun n j => wX_isAllSettled_2 post (nI C) (nI N) wy ls (nI h) (nI e) sp g ck cf rs st kd tg vl gF gU cr sa fr un da wr ld ow im me lS lC lK lL lV lT rg n (nI j)) (D := fun j => ¬ cf j = g) (C := C) ?_ ?_ ?_
  · intro hn n
    exact br_t (nI_le (Nat.le_refl _) (by omega)) (h1 hn)
  · intro n j hj hD
    have hcl : (nI j).toNatClampNeg = j := nI_clamp (by omega)
    refine br_f (nI_ge hj (by omega)) ⟨vp_in_nI (by omega) (by omega), ?_⟩
    rw [hcl]
    exact br_f hD (h0 ⟨j, hj, hD⟩)
  · intro n j hj hD hi
    have hcl : (nI j).toNatClampNeg = j := nI_clamp (by omega)
    refine br_f (nI_ge hj (by omega)) ⟨vp_in_nI (by omega) (by omega), ?_⟩
    rw [hcl]
    exact br_t (Classical.not_not.mp hD) (nm_r (nI_1 j) hi)
theorem qy_all {post : Int32 → SY → Prop} (hC : C ≤ 4) (h0 : (∃ j, j < C ∧ ¬ cf j = g) → post 1 ((nI C), (nI N), wy, ls, g, sp, (nI e), ck, cf, rs, st, kd, tg, vl, gF, gU, wr, ld, ow, im, sa, bf, bu, mS, mC, mK, mL, mV, mT)) (h1 : (∀ j, j < C → ¬ ¬ cf j = g) → ∃ n, wY_settle_188 post (nI C) (nI N) wy ls g sp (nI e) n 0 ck cf rs st kd tg vl gF gU wr ld ow im sa bf bu mS mC mK mL mV mT) : ∃ n, wY_settle_157 post (nI C) (nI N) wy ls g sp (nI e) ck cf rs st kd tg vl gF gU wr ld ow im sa bf bu mS mC mK mL mV mT n 0 := by
  refine qx_scan (W := fun n j => wY_settle_157 post (nI C) (nI N) wy ls g sp (nI e) ck cf rs st kd tg vl gF gU wr ld ow im sa bf bu mS mC mK mL mV mT n (nI j)) (D := fun j => ¬ cf j = g) (C := C) ?_ ?_ ?_
  · intro hn n
    exact br_t (nI_le (Nat.le_refl _) (by omega)) (h1 hn)
  · intro n j hj hD
    have hcl : (nI j).toNatClampNeg = j := nI_clamp (by omega)
    refine br_f (nI_ge hj (by omega)) ⟨vp_in_nI (by omega) (by omega), ?_⟩
    rw [hcl]
    exact br_f hD (h0 ⟨j, hj, hD⟩)
  · intro n j hj hD hi
    have hcl : (nI j).toNatClampNeg = j := nI_clamp (by omega)
    refine br_f (nI_ge hj (by omega)) ⟨vp_in_nI (by omega) (by omega), ?_⟩
    rw [hcl]
    exact br_t (Classical.not_not.mp hD) (nm_r (nI_1 j) hi)
/-! retiring -/
def qr_im (f : Nat → ql_E) (im : Nat → Int32) : Nat → (Nat → Int32)
  | 0 => im
  | j + 1 => if (f j).2.2.1 = 2 then upd (qr_im f im j) ((f j).2.2.2.1).toNatClampNeg (f j).2.2.2.2.1 else qr_im f im j
theorem qr_im_s (f : Nat → ql_E) (im : Nat → Int32) (j : Nat) : qr_im f im (j + 1) = if (f j).2.2.1 = 2 then upd (qr_im f im j) ((f j).2.2.2.1).toNatClampNeg (f j).2.2.2.2.1 else qr_im f im j := rfl
theorem qx_retire {post : SX → Prop} {k cc : Nat} (L : (qp_L N k h e sp rg lS lC lK lL lV lT mS mC mK mL mV mT wr)) (hN : N ≤ 8) (hcc : cc ≤ e) (hcut : ∀ i, i < e → (ql_t ((ql_x h rg lS lC lK lL lV lT) i) ≤ (g - 1).toInt ↔ i < cc)) (hp : post ((nI C), (nI N), wy, ls, (nI ((h + cc) % 32)), (nI (e - cc)), sp, g, ck, cf, rs, st, kd, tg, vl, gF, gU, cr, sa, fr, un, da, wr, ld, ow, (qr_im (ql_x h rg lS lC lK lL lV lT) im cc), me, lS, lC, lK, lL, lV, lT, rg)) : wpX_retire post ((nI C), (nI N), wy, ls, (nI h), (nI e), sp, g, ck, cf, rs, st, kd, tg, vl, gF, gU, cr, sa, fr, un, da, wr, ld, ow, im, me, lS, lC, lK, lL, lV, lT, rg) := by
  obtain ⟨he, _, R, _, _, hall⟩ := L
  have hh := R.1
  unfold wpX_retire
  refine qx_cut R he hcc hcut ?_
  have key := qx_fold (W := fun n j (s : Nat → Int32) => wX_retire_13 post (nI cc) (nI C) (nI N) wy ls (nI h) (nI e) sp g n (nI j) ck cf rs st kd tg vl gF gU cr sa fr un da wr ld ow s me lS lC lK lL lV lT rg) (fun j => qr_im (ql_x h rg lS lC lK lL lV lT) im j) cc ?_ ?_
  · exact key
  · intro n
    exact br_t (nI_le (Nat.le_refl _) (by omega)) (nm_r (qa_ring (by omega)) (nm_r (pk_sub hcc) hp))
  · intro n j hj hi
    obtain ⟨_, a, ha, hl, _⟩ := hall j (by omega)
    have hin : vp_in (nI (ql_p h rg j)) 32 := vp_in_nI (qp_plt R j) (by omega)
    have hcl : (nI (ql_p h rg j)).toNatClampNeg = ql_p h rg j := nI_clamp (by have := qp_plt R j; omega)
    have hl' : lL (ql_p h rg j) = nI a := hl
    rw [qr_im_s] at hi
    refine br_f (nI_ge hj (by omega)) (qx_slot R (by omega) ⟨hin, ?_⟩)
    rw [hcl]
    by_cases h2 : lK (ql_p h rg j) = 2
    · rw [if_pos (show ((ql_x h rg lS lC lK lL lV lT) j).2.2.1 = 2 from h2)] at hi
      refine br_t h2 ⟨hin, hin, ?_⟩
      refine ⟨by rw [hl']; exact vp_in_nI (by omega) (by omega), nm_e (nm_r (nI_1 j) hi)⟩
    · rw [if_neg (show ¬ ((ql_x h rg lS lC lK lL lV lT) j).2.2.1 = 2 from h2)] at hi
      exact br_f h2 (nm_r (nI_1 j) hi)
theorem qy_188 {post : Int32 → SY → Prop} {k : Nat} (L : (qp_L N k h e sp rg lS lC lK lL lV lT mS mC mK mL mV mT wr)) (hN : N ≤ 8) (hp : ∃ n, wY_settle_223 post (nI C) (nI N) wy ls g sp (nI e) n 0 0 ck cf rs st kd tg vl gF gU wr ld ow (qs_F 0 N (fun _ => true) (fun a => (qp_V h e rg lS lC lK lL lV lT im) a (g - 1).toInt) im) sa bf bu mS mC mK mL mV mT) : ∃ n, wY_settle_188 post (nI C) (nI N) wy ls g sp (nI e) n 0 ck cf rs st kd tg vl gF gU wr ld ow im sa bf bu mS mC mK mL mV mT := by
  have key := qx_fold (W := fun n j (s : Nat → Int32) => wY_settle_188 post (nI C) (nI N) wy ls g sp (nI e) n (nI j) ck cf rs st kd tg vl gF gU wr ld ow s sa bf bu mS mC mK mL mV mT) (fun j => qs_F 0 j (fun _ => true) (fun a => (qp_V h e rg lS lC lK lL lV lT im) a (g - 1).toInt) im) N ?_ ?_
  · rw [qs_F0] at key
    exact key
  · intro n
    exact br_t (nI_le (Nat.le_refl _) (by omega)) hp
  · intro n j hj hi
    have hin : vp_in (nI j) 8 := vp_in_nI (by omega) (by omega)
    have hcl : (nI j).toNatClampNeg = j := nI_clamp (by omega)
    refine br_f (nI_ge hj (by omega)) (qy_val L hN hj ⟨hin, ?_⟩)
    unfold qp_V
    rw [hcl, qs_0r]
    refine nm_r ?_ (nm_r (nI_1 j) hi)
    exact qs_0T (P := fun _ => true) (v := fun a => (qp_V h e rg lS lC lK lL lV lT im) a (g - 1).toInt) rfl
end QSE
end
section
section QRT
variable {C N h e : Nat} {wy ls sp g : Int32} {ck cf rs st kd tg vl gF gU cr sa fr un da wr ld ow im me lS lC lK lL lV lT rg bf bu mS mC mK mL mV mT : Nat → Int32}
def qr_P (g : Int32) (x : ql_E) : Bool := decide (g.toInt ≤ ql_t x)
def qr_I (g : Int32) (f : Nat → ql_E) (i : Nat) (s : Int32 × (Nat → Int32) × (Nat → Int32) × (Nat → Int32) × (Nat → Int32) × (Nat → Int32) × (Nat → Int32)) : Prop := ∃ m, m ≤ i ∧ s.1 = nI m ∧ ql_L (ql_en s.2.1 s.2.2.1 s.2.2.2.1 s.2.2.2.2.1 s.2.2.2.2.2.1 s.2.2.2.2.2.2) m = (ql_L f i).filter (qr_P g) ∧ ∀ j, i ≤ j → ql_en s.2.1 s.2.2.1 s.2.2.2.1 s.2.2.2.2.1 s.2.2.2.2.2.1 s.2.2.2.2.2.2 j = f j
theorem qr_I_no {g : Int32} {f : Nat → ql_E} {i : Nat} {s : Int32 × (Nat → Int32) × (Nat → Int32) × (Nat → Int32) × (Nat → Int32) × (Nat → Int32) × (Nat → Int32)} (H : qr_I g f i s) (hn : ¬ g.toInt ≤ ql_t (f i)) : qr_I g f (i + 1) s := by
  obtain ⟨m, h1, h2, h3, h4⟩ := H
  refine ⟨m, by omega, h2, ?_, fun j hj => h4 j (by omega)⟩
  have hP : qr_P g (f i) = false := decide_eq_false hn
  rw [ql_L_s, List.filter_append, h3]
  simp [hP]
theorem qr_I_yes {g : Int32} {f : Nat → ql_E} {i m : Nat} {x : Int32} {sS sC sK sL sV sT : Nat → Int32} (h1 : m ≤ i) (h3 : ql_L (ql_en sS sC sK sL sV sT) m = (ql_L f i).filter (qr_P g)) (h4 : ∀ j, i ≤ j → ql_en sS sC sK sL sV sT j = f j) (hx : x = nI (m + 1)) (hy : g.toInt ≤ ql_t (f i)) : qr_I g f (i + 1) (x, upd sS m (sS i), upd sC m (sC i), upd sK m (sK i), upd sL m (sL i), upd sV m (sV i), upd sT m (sT i)) := by
  refine ⟨m + 1, by omega, hx, ?_, fun j hj => ?_⟩
  · dsimp only
    have hP : qr_P g (f i) = true := decide_eq_true hy
    rw [ql_L_s, ql_L_s, List.filter_append, ← h3, ql_en_s, ql_L_cg (fun k hk => ql_en_u (show k ≠ m by omega))]
    have : (sS i, sC i, sK i, sL i, sV i, sT i) = f i := h4 i (Nat.le_refl _)
    rw [this]
    simp [hP]
  · dsimp only
    rw [ql_en_u (show j ≠ m by omega)]
    exact h4 j (by omega)
theorem qy_223 {post : Int32 → SY → Prop} (he : e ≤ 32) (hp : ∀ (m : Nat) (mS' mC' mK' mL' mV' mT' : Nat → Int32), ql_L (ql_en mS' mC' mK' mL' mV' mT') m = (ql_L (ql_en mS mC mK mL mV mT) e).filter (qr_P g) → post 1 ((nI C), (nI N), wy, ls, g, sp, (nI m), ck, cf, rs, st, kd, tg, vl, gF, gU, wr, ld, ow, im, sa, bf, bu, mS', mC', mK', mL', mV', mT')) : ∃ n, wY_settle_223 post (nI C) (nI N) wy ls g sp (nI e) n 0 0 ck cf rs st kd tg vl gF gU wr ld ow im sa bf bu mS mC mK mL mV mT := by
  refine loop_0 (fun n i (s : Int32 × (Nat → Int32) × (Nat → Int32) × (Nat → Int32) × (Nat → Int32) × (Nat → Int32) × (Nat → Int32)) => wY_settle_223 post (nI C) (nI N) wy ls g sp (nI e) n s.1 (nI i) ck cf rs st kd tg vl gF gU wr ld ow im sa bf bu s.2.1 s.2.2.1 s.2.2.2.1 s.2.2.2.2.1 s.2.2.2.2.2.1 s.2.2.2.2.2.2) (fun i s => qr_I g (ql_en mS mC mK mL mV mT) i s) e (0, mS, mC, mK, mL, mV, mT) ⟨0, Nat.le_refl _, rfl, rfl, fun _ _ => rfl⟩ ?_ ?_
  · intro n s ⟨m, h1, h2, h3, h4⟩
    refine br_t (nI_le (Nat.le_refl _) (by omega)) ?_
    rw [h2]
    exact hp m _ _ _ _ _ _ h3
  · intro n i s hi H hn
    obtain ⟨x, sS, sC, sK, sL, sV, sT⟩ := s
    have hin : vp_in (nI i) 32 := vp_in_nI (by omega) (by omega)
    have hcl : (nI i).toNatClampNeg = i := nI_clamp (by omega)
    dsimp only
    refine br_f (nI_ge hi (by omega)) ⟨hin, ?_⟩
    rw [hcl]
    by_cases hl : sT i < g
    · refine br_t hl (nm_r (nI_1 i) (hn (x, sS, sC, sK, sL, sV, sT) (qr_I_no H ?_)))
      obtain ⟨m, h1, h2, h3, h4⟩ := H
      have h5 := h4 i (Nat.le_refl _)
      dsimp only at h5
      rw [← h5]
      rw [qa_lt] at hl
      show ¬ g.toInt ≤ (sT i).toInt
      omega
    · obtain ⟨m, h1, h2, h3, h4⟩ := H
      dsimp only at h2 h3 h4
      have h5 := h4 i (Nat.le_refl _)
      have hinm : vp_in x 32 := by rw [h2]; exact vp_in_nI (by omega) (by omega)
      have hclm : x.toNatClampNeg = m := by rw [h2]; exact nI_clamp (by omega)
      rw [hclm]
      have hy : g.toInt ≤ ql_t ((ql_en mS mC mK mL mV mT) i) := by
        rw [← h5]
        rw [qa_lt] at hl
        show g.toInt ≤ (sT i).toInt
        omega
      have hx : x + 1 = nI (m + 1) := by rw [h2, nI_1]
      exact br_f hl ⟨hin, hinm, nm_e ⟨hin, hinm, nm_e ⟨hin, hinm, nm_e ⟨hin, hinm, nm_e ⟨hin, hinm, nm_e ⟨hin, hinm, nm_e (nm_e (nm_r (nI_1 i) (hn (x + 1, upd sS m (sS i), upd sC m (sC i), upd sK m (sK i), upd sL m (sL i), upd sV m (sV i), upd sT m (sT i)) (qr_I_yes h1 h3 h4 hx hy))))⟩⟩⟩⟩⟩⟩
theorem qr_im_in {f : Nat → ql_E} {im : Nat → Int32} {t : Int} (hN : N ≤ 8) {j : Nat} (hj : j < N) : ∀ n : Nat, (∀ i, i < n → ql_t (f i) ≤ t ∧ ∃ a, a < N ∧ (f i).2.2.2.1 = nI a) → qr_im f im n j = ql_V (ql_L f n) (im j) j t := by
  intro n
  induction n with
  | zero => intro _; rfl
  | succ n ih =>
    intro h
    rw [qr_im_s, ql_L_s, ql_V_app, ql_V_cons, ← ih (fun i hi => h i (by omega))]
    obtain ⟨ht, a, ha, hl⟩ := h n (by omega)
    have hv : ∀ d, ql_V [] d j t = d := fun d => rfl
    rw [hv]
    by_cases h2 : (f n).2.2.1 = 2
    · rw [if_pos h2, hl, nI_clamp (by omega)]
      by_cases hja : j = a
      · subst hja
        rw [pk_us, if_pos (ql_hit_iff.mpr ⟨h2, hl, ht⟩)]
      · rw [pk_un hja, if_neg]
        intro z
        have := (ql_hit_iff.mp z).2.1
        rw [hl] at this
        exact hja (qa_inj this (by omega) (by omega)).symm
    · rw [if_neg h2, if_neg (fun z => h2 (ql_hit_iff.mp z).1)]
theorem qr_im_out {f : Nat → ql_E} {im : Nat → Int32} (hN : N ≤ 8) {j : Nat} (hj : N ≤ j) : ∀ n : Nat, (∀ i, i < n → ∃ a, a < N ∧ (f i).2.2.2.1 = nI a) → qr_im f im n j = im j := by
  intro n
  induction n with
  | zero => intro _; rfl
  | succ n ih =>
    intro h
    rw [qr_im_s]
    obtain ⟨a, ha, hl⟩ := h n (by omega)
    by_cases h2 : (f n).2.2.1 = 2
    · rw [if_pos h2, hl, nI_clamp (by omega), pk_un (by omega), ih (fun i hi => h i (by omega))]
    · rw [if_neg h2, ih (fun i hi => h i (by omega))]
/-- after retiring -/
theorem qk_ret {k cc m : Nat} {mS' mC' mK' mL' mV' mT' : Nat → Int32} (A : (qp_A C N ls)) (T : (qp_T C N k g cf ck wr ld)) (P : (qp_P C N st kd tg)) (Q : (qp_Q C e kd)) (S : (qp_S C N g cf sa fr un bf bu da ld (qp_V h e rg lS lC lK lL lV lT im))) (M : (qp_M C N st kd tg ow sa cr da me wr ld cf (qp_V h e rg lS lC lK lL lV lT im))) (G : (qp_G C N g cf ck st kd tg gF gU cr ld (qp_V h e rg lS lC lK lL lV lT im))) (L : (qp_L N k h e sp rg lS lC lK lL lV lT mS mC mK mL mV mT wr)) (hk : k + 4 ≤ 2052) (hg : ∀ d, d < C → cf d = g) (hcc : cc ≤ e) (hcut : ∀ i, i < e → (ql_t ((ql_x h rg lS lC lK lL lV lT) i) ≤ (g - 1).toInt ↔ i < cc)) (hm : ql_L (ql_en mS' mC' mK' mL' mV' mT') m = (ql_L (ql_en mS mC mK mL mV mT) e).filter (qr_P g)) : i_Rel (k + 4) ((nI C), (nI N), wy, ls, (nI ((h + cc) % 32)), (nI (e - cc)), sp, g, ck, cf, rs, st, kd, tg, vl, gF, gU, cr, sa, fr, un, da, wr, ld, ow, (qr_im (ql_x h rg lS lC lK lL lV lT) im cc), me, lS, lC, lK, lL, lV, lT, rg) ((nI C), (nI N), wy, ls, g, sp, (nI m), ck, cf, rs, st, kd, tg, vl, gF, gU, wr, ld, ow, (qs_F 0 N (fun _ => true) (fun a => (qp_V h e rg lS lC lK lL lV lT im) a (g - 1).toInt) im), sa, bf, bu, mS', mC', mK', mL', mV', mT') := by
  obtain ⟨a1, a2, a3, a4, _⟩ := id A
  obtain ⟨he, hsp, R, hperm, hsort, hall⟩ := id L
  obtain ⟨⟨t0, t1⟩, t2, t3, t4⟩ := id T
  have g1 : (g - 1).toInt = g.toInt - 1 := by
    rw [qa_sub (by rw [qa_1]; omega) (by rw [qa_1]; omega), qa_1]
  have hx' : ql_x ((h + cc) % 32) rg lS lC lK lL lV lT = fun i => (ql_x h rg lS lC lK lL lV lT) (cc + i) := by
    funext i
    unfold ql_x ql_p
    rw [show ((h + cc) % 32 + i) % 32 = (h + (cc + i)) % 32 by omega]
  have hfl : (ql_L (ql_x h rg lS lC lK lL lV lT) e).filter (qr_P g) = ql_L (fun i => (ql_x h rg lS lC lK lL lV lT) (cc + i)) (e - cc) := by
    rw [ql_L_split (ql_x h rg lS lC lK lL lV lT) hcc, List.filter_append]
    have f1 : (ql_L (ql_x h rg lS lC lK lL lV lT) cc).filter (qr_P g) = [] := by
      rw [List.filter_eq_nil_iff]
      intro y hy hz
      obtain ⟨i, hi, rfl⟩ := ql_L_mem.mp hy
      have h1 := (hcut i (by omega)).mpr hi
      have h2 : g.toInt ≤ ql_t ((ql_x h rg lS lC lK lL lV lT) i) := of_decide_eq_true hz
      omega
    have f2 : (ql_L (fun i => (ql_x h rg lS lC lK lL lV lT) (cc + i)) (e - cc)).filter (qr_P g) = ql_L (fun i => (ql_x h rg lS lC lK lL lV lT) (cc + i)) (e - cc) := by
      rw [List.filter_eq_self]
      intro y hy
      obtain ⟨i, hi, rfl⟩ := ql_L_mem.mp hy
      refine decide_eq_true ?_
      have h1 : ¬ ql_t ((ql_x h rg lS lC lK lL lV lT) (cc + i)) ≤ (g - 1).toInt := fun z => by have := (hcut (cc + i) (by omega)).mp z; omega
      show g.toInt ≤ ql_t ((ql_x h rg lS lC lK lL lV lT) (cc + i))
      omega
    rw [f1, f2, List.nil_append]
  have hperm' : (ql_L (fun i => (ql_x h rg lS lC lK lL lV lT) (cc + i)) (e - cc)).Perm (ql_L (ql_en mS' mC' mK' mL' mV' mT') m) := by
    rw [hm, ← hfl]
    exact hperm.filter _
  have hme : m = e - cc := by
    have := hperm'.length_eq
    rw [ql_L_len, ql_L_len] at this
    exact this.symm
  subst hme
  have hVg : ∀ a, a < N → (qp_V h e rg lS lC lK lL lV lT im) a (g - 1).toInt = ql_V (ql_L (ql_x h rg lS lC lK lL lV lT) cc) (im a) a (g - 1).toInt := by
    intro a ha
    unfold qp_V
    rw [ql_L_split (ql_x h rg lS lC lK lL lV lT) hcc, ql_V_app]
    refine ql_V_no (fun y hy hh => ?_)
    obtain ⟨i, hi, rfl⟩ := ql_L_mem.mp hy
    have := (hcut (cc + i) (by omega)).mp (ql_hit_iff.mp hh).2.2
    omega
  have him : qs_F 0 N (fun _ => true) (fun a => (qp_V h e rg lS lC lK lL lV lT im) a (g - 1).toInt) im = qr_im (ql_x h rg lS lC lK lL lV lT) im cc := by
    funext j
    by_cases hj : j < N
    · rw [qs_FP (by omega) (by omega) rfl, hVg j hj]
      refine (qr_im_in a4 hj cc (fun i hi => ⟨(hcut i (by omega)).mpr hi, ?_⟩)).symm
      obtain ⟨_, b, hb, hl, _⟩ := hall i (by omega)
      exact ⟨b, hb, hl⟩
    · rw [qs_FO (by omega)]
      refine (qr_im_out a4 (by omega) cc (fun i hi => ?_)).symm
      obtain ⟨_, b, hb, hl, _⟩ := hall i (by omega)
      exact ⟨b, hb, hl⟩
  rw [him]
  have hV' : ∀ a, a < N → ∀ s : Int, g.toInt ≤ s → (qp_V ((h + cc) % 32) (e - cc) rg lS lC lK lL lV lT (qr_im (ql_x h rg lS lC lK lL lV lT) im cc)) a s = (qp_V h e rg lS lC lK lL lV lT im) a s := by
    intro a ha s hs
    have i1 : qr_im (ql_x h rg lS lC lK lL lV lT) im cc a = ql_V (ql_L (ql_x h rg lS lC lK lL lV lT) cc) (im a) a (g - 1).toInt := by
      rw [← hVg a ha, ← him, qs_FP (by omega) (by omega) rfl]
    unfold qp_V
    rw [hx', i1, ql_L_split (ql_x h rg lS lC lK lL lV lT) hcc, ql_V_app]
    have i2 : ql_V (ql_L (ql_x h rg lS lC lK lL lV lT) cc) (im a) a (g - 1).toInt = ql_V (ql_L (ql_x h rg lS lC lK lL lV lT) cc) (im a) a s := by
      apply ql_V_cg
      intro y hy
      obtain ⟨i, hi, rfl⟩ := ql_L_mem.mp hy
      have h1 := (hcut i (by omega)).mpr hi
      rw [Bool.eq_iff_iff, ql_hit_iff, ql_hit_iff]
      constructor
      · intro ⟨z1, z2, z3⟩; exact ⟨z1, z2, by omega⟩
      · intro ⟨z1, z2, z3⟩; exact ⟨z1, z2, h1⟩
    rw [i2]
  refine zz_in A (qp_T_up T) P ?_ ?_ ?_ ?_ ?_
  · unfold qp_Q at *; omega
  · intro c hc a ha
    obtain ⟨s1, s2, s3⟩ := S c hc a ha
    refine ⟨s1, s2, fun z => ?_⟩
    obtain ⟨h1, h2, h3, h4, h5, h6, h7⟩ := s3 z
    refine ⟨h1, h2, h3, h4, h5, h6, fun t y1 y2 => ?_⟩
    have := h6 (hg c hc)
    rw [hV' a ha t (by omega)]
    exact h7 t y1 y2
  · intro b hb
    exact qp_M_fr (M b hb) rfl rfl (hV' b hb _ (t4 b hb).1) (fun _ _ => Iff.rfl) (fun _ _ _ => rfl) (fun _ _ => ⟨Iff.rfl, fun _ => ⟨rfl, rfl, rfl⟩⟩) (fun z => z)
  · intro c hc a ha y1 y2 y3
    obtain ⟨z1, z2, z3, z4, z5, z6⟩ := G c hc a ha y1 y2 y3
    refine ⟨z1, z2, z3, z4, z5, fun t w1 w2 => ?_⟩
    have := z5 (hg c hc)
    rw [hV' a ha t (by omega)]
    exact z6 t w1 w2
  · refine ⟨by omega, ⟨hsp.1, by omega⟩, ⟨Nat.mod_lt _ (by omega), R.2.1, R.2.2⟩, ?_, ?_, ?_⟩
    · rw [hx']; exact hperm'
    · rw [hx']; exact fun i j hij hj => hsort _ _ (by omega) (by omega)
    · rw [hx']; exact fun i hi => hall _ (by omega)
end QRT
end
section
section QSE2
variable {C N h e : Nat} {wy ls sp g : Int32} {ck cf rs st kd tg vl gF gU cr sa fr un da wr ld ow im me lS lC lK lL lV lT rg bf bu mS mC mK mL mV mT : Nat → Int32}
theorem qt_0v {b j i : Nat} {f : Nat → Int32} (hd : ¬ (sa i = 1 ∧ ¬ g ≤ un i)) : qt_0 b j g sa un f i = f i := qs_FO (Or.inr (Or.inr (decide_eq_false hd)))
theorem qt_0z {b j i : Nat} {f : Nat → Int32} (h1 : b ≤ i) (h2 : i < b + j) (hd : sa i = 1 ∧ ¬ g ≤ un i) : qt_0 b j g sa un f i = 0 := qs_FP (P := qt_d g sa un) h1 h2 (decide_eq_true hd)
theorem qt_0o {b j i : Nat} {f : Nat → Int32} (h : i < b ∨ b + j ≤ i) : qt_0 b j g sa un f i = f i := qs_FO (by rcases h with h | h; exact Or.inl h; exact Or.inr (Or.inl h))
theorem qt_fo {b j i : Nat} (h : i < b ∨ b + j ≤ i) : qt_f b j g sa un fr i = fr i := qs_FO (by rcases h with h | h; exact Or.inl h; exact Or.inr (Or.inl h))
theorem qt_bo {b j i : Nat} (h : i < b ∨ b + j ≤ i) : qt_b b j g sa un bf i = bf i := qs_FO (by rcases h with h | h; exact Or.inl h; exact Or.inr (Or.inl h))
theorem qt_fv {b j i : Nat} (hd : ¬ sa i = 1) : qt_f b j g sa un fr i = fr i := qs_FO (Or.inr (Or.inr (decide_eq_false hd)))
theorem qt_fm {b j i : Nat} (h1 : b ≤ i) (h2 : i < b + j) (hd : sa i = 1) (hg : g ≤ un i) : qt_f b j g sa un fr i = qa_mx (fr i) g := by
  have := qs_FP (P := qt_s sa) (v := fun i => if g ≤ un i then qa_mx (fr i) g else 0) (f := fr) h1 h2 (decide_eq_true hd)
  rw [if_pos hg] at this
  exact this
theorem qt_fz {b j i : Nat} (h1 : b ≤ i) (h2 : i < b + j) (hd : sa i = 1) (hg : ¬ g ≤ un i) : qt_f b j g sa un fr i = 0 := by
  have := qs_FP (P := qt_s sa) (v := fun i => if g ≤ un i then qa_mx (fr i) g else 0) (f := fr) h1 h2 (decide_eq_true hd)
  rw [if_neg hg] at this
  exact this
theorem qt_bm {b j i : Nat} (h1 : b ≤ i) (h2 : i < b + j) (hd : sa i = 1 ∧ g ≤ un i) : qt_b b j g sa un bf i = qa_mx (bf i) g := qs_FP (P := qt_a g sa un) (v := fun i => qa_mx (bf i) g) h1 h2 (decide_eq_true hd)
theorem qt_sa2 {b j i : Nat} : qt_0 b j g sa un sa i = 2 ↔ sa i = 2 := by
  by_cases hd : sa i = 1 ∧ ¬ g ≤ un i
  · by_cases hr : i < b ∨ b + j ≤ i
    · rw [qt_0o hr]
    · rw [qt_0z (by omega) (by omega) hd, hd.1]; decide
  · rw [qt_0v hd]
theorem qt_da2 {b j i : Nat} (h2 : sa i = 2) : qt_0 b j g sa un da i = da i := qt_0v (fun z => by rw [h2] at z; exact absurd z.1 (by decide))
/-- after a core has settled -/
theorem qk_set {k c : Nat} {V : Nat → Int → Int32} (hc : c < C) (h4 : ¬ st c = 4) (A : (qp_A C N ls)) (T : (qp_T C N k g cf ck wr ld)) (S : (qp_S C N g cf sa fr un bf bu da ld V)) (M : (qp_M C N st kd tg ow sa cr da me wr ld cf V)) (G : (qp_G C N g cf ck st kd tg gF gU cr ld V)) : (qp_T C N k g (upd cf c g) (upd ck c (qa_mx (ck c) g)) wr ld) ∧ (qp_S C N g (upd cf c g) (qt_0 (c * 8) N g sa un sa) (qt_f (c * 8) N g sa un fr) (qt_0 (c * 8) N g sa un un) (qt_b (c * 8) N g sa un bf) bu (qt_0 (c * 8) N g sa un da) ld V) ∧ (qp_M C N st kd tg ow (qt_0 (c * 8) N g sa un sa) cr (qt_0 (c * 8) N g sa un da) me wr ld (upd cf c g) V) ∧ (qp_G C N g (upd cf c g) (upd ck c (qa_mx (ck c) g)) st kd tg gF gU cr ld V) := by
  obtain ⟨a1, a2, a3, a4, _⟩ := id A
  obtain ⟨t1, t2, t3, t4⟩ := id T
  have x1 := qa_mxT (ck c) g
  have hcf : ∀ d, d < C → (cf d).toInt ≤ (upd cf c g d).toInt ∧ g.toInt ≤ (upd cf c g d).toInt + 16 ∧ (upd cf c g d).toInt ≤ g.toInt := by
    intro d hd
    have := t2 d hd
    by_cases hdc : d = c
    · rw [hdc, pk_us]; rw [hdc] at this; omega
    · rw [pk_un hdc]; omega
  refine ⟨⟨t1, fun d hd => ?_, fun d hd => ?_, fun a ha => ?_⟩, fun d hd a ha => ?_, fun b hb => ?_, fun d hd a ha y1 y2 y3 => ?_⟩
  · have h1 := hcf d hd
    have h2 := t2 d hd
    omega
  · by_cases hdc : d = c
    · subst hdc
      rw [pk_us, pk_us]
      refine ⟨by omega, fun d' hd' => ?_⟩
      have h1 := hcf d' hd'
      have h2 := (t3 d hd).2 d' hd'
      omega
    · rw [pk_un hdc, pk_un hdc]
      refine ⟨(t3 d hd).1, fun d' hd' => ?_⟩
      have h1 := hcf d' hd'
      have h2 := (t3 d hd).2 d' hd'
      omega
  · refine ⟨(t4 a ha).1, (t4 a ha).2.1, fun d hd => ?_⟩
    have h1 := hcf d hd
    have h2 := (t4 a ha).2.2 d hd
    omega
  · obtain ⟨s1, s2, s3⟩ := S d hd a ha
    by_cases hdc : d = c
    · subst hdc
      rw [pk_us]
      rcases s1 with s0 | s0 | s0
      · have n1 : ¬ sa (d * 8 + a) = 1 := by rw [s0]; decide
        have nd : ¬ (sa (d * 8 + a) = 1 ∧ ¬ g ≤ un (d * 8 + a)) := fun z => n1 z.1
        rw [qt_0v nd, qt_0v nd, qt_fv n1]
        exact ⟨Or.inl s0, s2, fun z => absurd z n1⟩
      · by_cases hg : g ≤ un (d * 8 + a)
        · have nd : ¬ (sa (d * 8 + a) = 1 ∧ ¬ g ≤ un (d * 8 + a)) := fun z => z.2 hg
          rw [qt_0v nd, qt_0v nd, qt_0v nd, qt_fm (by omega) (by omega) s0 hg, qt_bm (by omega) (by omega) ⟨s0, hg⟩]
          obtain ⟨h1, h2, h3, h4, h5, h6, h7⟩ := s3 s0
          have x2 := qa_mxT (fr (d * 8 + a)) g
          rw [qa_le] at hg
          refine ⟨Or.inr (Or.inl s0), fun z => by rw [s0] at z; exact absurd z (by decide), fun _ => ⟨by rw [h1], h2, by omega, by omega, h5, fun _ => x2.2.1, fun t w1 w2 => h7 t (by omega) w2⟩⟩
        · rw [qt_0z (by omega) (by omega) ⟨s0, hg⟩, qt_0z (by omega) (by omega) ⟨s0, hg⟩, qt_fz (by omega) (by omega) s0 hg]
          exact ⟨Or.inl rfl, fun _ => ⟨rfl, rfl⟩, fun z => absurd z (by decide)⟩
      · have n1 : ¬ sa (d * 8 + a) = 1 := by rw [s0]; decide
        have nd : ¬ (sa (d * 8 + a) = 1 ∧ ¬ g ≤ un (d * 8 + a)) := fun z => n1 z.1
        rw [qt_0v nd, qt_0v nd, qt_fv n1]
        exact ⟨Or.inr (Or.inr s0), s2, fun z => absurd z n1⟩
    · have ho : d * 8 + a < c * 8 ∨ c * 8 + N ≤ d * 8 + a := by omega
      rw [pk_un hdc, qt_0o ho, qt_0o ho, qt_0o ho, qt_fo ho, qt_bo ho]
      exact ⟨s1, s2, s3⟩
  · refine qp_M_fr (M b hb) rfl rfl rfl (fun d _ => qt_sa2) (fun d _ hz => qt_da2 hz) (fun _ _ => ⟨Iff.rfl, fun _ => ⟨rfl, rfl, rfl⟩⟩) (fun hz d hd => ?_)
    have h1 := hcf d hd
    have h2 := hz d hd
    omega
  · have hdc : d ≠ c := fun z => h4 (by rw [← z]; exact y2)
    rw [pk_un hdc, pk_un hdc]
    exact G d hd a ha y1 y2 y3
theorem i_vc_settle {k : Nat} {u : SX} {v : SY} (I : i_Rel k u v) (hk : k + 4 ≤ 2052) (v1 : Int32) : wpX_settle (fun r u' => wpY_settle (fun r' v' => r' = r ∧ i_Rel (k + 4) u' v') v v1) u v1 := by
  refine zz_el (P := fun u v => i_Rel (k + 4) u v → wpX_settle (fun r u' => wpY_settle (fun r' v' => r' = r ∧ i_Rel (k + 4) u' v') v v1) u v1) I ?_ (i_up I)
  intro C N h e wy ls sp g ck cf rs st kd tg vl gF gU cr sa fr un da wr ld ow im me lS lC lK lL lV lT rg bf bu mS mC mK mL mV mT A T P Q S M G L I'
  obtain ⟨a1, a2, a3, a4, _⟩ := id A
  unfold wpX_settle wpY_settle
  dsimp only
  rcases qa_cs v1 (show C < 2 ^ 31 by omega) with ⟨c, hc, rfl⟩ | hb
  · have hin : vp_in (nI c) 4 := vp_in_nI (by omega) (by omega)
    have hcl : (nI c).toNatClampNeg = c := nI_clamp (by omega)
    refine qx_bcF hc a2 (br_t rfl ⟨hin, ?_⟩)
    rw [hcl]
    by_cases hcg : cf c = g
    · exact br_t hcg (qy_bcF hc a2 (br_t rfl ⟨hin, br_t hcg ⟨rfl, I'⟩⟩))
    · refine br_f hcg ⟨hin, ?_⟩
      by_cases h4 : st c = 4
      · exact br_t h4 (qy_bcF hc a2 (br_t rfl ⟨hin, br_f hcg ⟨hin, br_t h4 ⟨rfl, I'⟩⟩⟩))
      · obtain ⟨T', S', M', G'⟩ := qk_set hc h4 A T S M G
        have hu : ∀ j, j < N → sa (c * 8 + j) = 1 → bu (c * 8 + j) = un (c * 8 + j) := fun j hj hz => ((S c hc j hj).2.2 hz).2.1
        refine br_f h4 ⟨hin, nm_e ⟨hin, qx_max ⟨hin, nm_e (qx_lift (by omega) a4 ?_)⟩⟩⟩
        dsimp only
        refine qx_all a2 (fun h0 => br_t rfl ?_) (fun h1 => ?_)
        · refine qy_bcF hc a2 (br_t rfl ⟨hin, br_f hcg ⟨hin, br_f h4 ⟨hin, nm_e ⟨hin, qy_max ⟨hin, nm_e (qy_set71 (by omega) a4 hu (qy_all a2 (fun _ => ⟨rfl, ?_⟩) (fun h1 => ?_)))⟩⟩⟩⟩⟩)
          · exact zz_in A (qp_T_up T') P Q S' M' G' (qp_L_up L)
          · obtain ⟨j, hj, hz⟩ := h0
            exact absurd hz (h1 j hj)
        · obtain ⟨cc, hcc, hcut⟩ := qx_cutL L (g - 1).toInt
          refine br_f (by decide) (qx_retire L a4 hcc hcut ?_)
          dsimp only
          refine qy_bcF hc a2 (br_t rfl ⟨hin, br_f hcg ⟨hin, br_f h4 ⟨hin, nm_e ⟨hin, qy_max ⟨hin, nm_e (qy_set71 (by omega) a4 hu (qy_all a2 (fun h0 => ?_) (fun _ => qy_188 L a4 (qy_223 L.1 (fun m mS' mC' mK' mL' mV' mT' hm => ⟨rfl, ?_⟩)))))⟩⟩⟩⟩⟩)
          · obtain ⟨j, hj, hz⟩ := h0
            exact absurd hz (h1 j hj)
          · exact qk_ret A T' P Q S' M' G' L hk (fun d hd => Classical.not_not.mp (h1 d hd)) hcc hcut hm
  · exact qx_bcT hb (br_f (by decide) (qy_bcT hb (br_f (by decide) ⟨rfl, I'⟩)))
end QSE2
end
section
section QIN
variable {C N h e : Nat} {wy ls sp g : Int32} {ck cf rs st kd tg vl gF gU cr sa fr un da wr ld ow im me lS lC lK lL lV lT rg bf bu mS mC mK mL mV mT : Nat → Int32}
def qc_v (p lo hi : Int32) : Int32 := if lo ≤ p then (if p ≤ hi then p else hi) else lo
theorem qx_clamp {post : Int32 → Prop} {u : SX} {p lo hi : Int32} (hp : post (qc_v p lo hi)) : wpX_clamp post u p lo hi := by
  unfold qc_v at hp
  by_cases h1 : lo ≤ p
  · rw [if_pos h1] at hp
    by_cases h2 : p ≤ hi
    · rw [if_pos h2] at hp; exact br_t h1 (br_t h2 hp)
    · rw [if_neg h2] at hp; exact br_t h1 (br_f h2 hp)
  · rw [if_neg h1] at hp; exact br_f h1 hp
theorem qy_clamp {post : Int32 → Prop} {u : SY} {p lo hi : Int32} (hp : post (qc_v p lo hi)) : wpY_clamp post u p lo hi := by
  unfold qc_v at hp
  by_cases h1 : lo ≤ p
  · rw [if_pos h1] at hp
    by_cases h2 : p ≤ hi
    · rw [if_pos h2] at hp; exact br_t h1 (br_t h2 hp)
    · rw [if_neg h2] at hp; exact br_t h1 (br_f h2 hp)
  · rw [if_neg h1] at hp; exact br_f h1 hp
theorem qc_in {p lo hi : Int32} (h : lo.toInt ≤ hi.toInt) : lo.toInt ≤ (qc_v p lo hi).toInt ∧ (qc_v p lo hi).toInt ≤ hi.toInt := by
  unfold qc_v
  by_cases h1 : lo ≤ p
  · rw [if_pos h1]
    by_cases h2 : p ≤ hi
    · rw [if_pos h2]; exact ⟨qa_le.mp h1, qa_le.mp h2⟩
    · rw [if_neg h2]; exact ⟨h, Int.le_refl _⟩
  · rw [if_neg h1]; exact ⟨Int.le_refl _, h⟩
theorem qc_nat {x : Int32} {lo hi : Nat} (h1 : (lo : Int) ≤ x.toInt) (h2 : x.toInt ≤ (hi : Int)) (hh : hi < 2 ^ 31) : ∃ n, lo ≤ n ∧ n ≤ hi ∧ x = nI n := by
  obtain ⟨j, hj, rfl⟩ := nI_of (x := x) (by rw [qa_lt, qa_0]; omega)
  rw [nI_toInt hj] at h1 h2
  exact ⟨j, by omega, by omega, rfl⟩
def qi_m (n : Nat) : Nat → Int32 := qs_F 0 n (fun _ => true) (fun _ => -1) (fun _ => 0)
def qi_r (n : Nat) : Nat → Int32 := qs_F 0 n (fun _ => true) (fun i => nI i) (fun _ => 0)
theorem qi_ms {j : Nat} : upd (qi_m j) j (-1) = qi_m (j + 1) := qs_0T (P := fun _ => true) (v := fun _ => -1) rfl
theorem qi_rs {j : Nat} : upd (qi_r j) j (nI j) = qi_r (j + 1) := qs_0T (P := fun _ => true) (v := fun i => nI i) rfl
theorem qi_mv {n j : Nat} (h : j < n) : qi_m n j = -1 := qs_FP (P := fun _ => true) (v := fun _ => -1) (by omega) (by omega) rfl
theorem qi_rv {n j : Nat} (h : j < n) : qi_r n j = nI j := qs_FP (P := fun _ => true) (v := fun i => nI i) (by omega) (by omega) rfl
theorem qi_m0 : qi_m 0 = fun _ => 0 := qs_F0 _ _ _ _
theorem qi_r0 : qi_r 0 = fun _ => 0 := qs_F0 _ _ _ _
theorem qi_x299 {post : SX → Prop} (hp : post ((nI C), (nI N), wy, ls, (nI h), (nI e), sp, g, ck, cf, rs, st, kd, tg, vl, gF, gU, cr, sa, fr, un, da, wr, ld, ow, im, me, lS, lC, lK, lL, lV, lT, (qi_r 32))) : ∃ n, wX_init_299 post (nI C) (nI N) wy ls (nI h) (nI e) sp g n 0 ck cf rs st kd tg vl gF gU cr sa fr un da wr ld ow im me lS lC lK lL lV lT (fun _ => 0) := by
  have key := qx_fold (W := fun n j (s : Nat → Int32) => wX_init_299 post (nI C) (nI N) wy ls (nI h) (nI e) sp g n (nI j) ck cf rs st kd tg vl gF gU cr sa fr un da wr ld ow im me lS lC lK lL lV lT s) (fun j => qi_r j) 32 ?_ ?_
  · rw [qi_r0] at key
    exact key
  · intro n
    exact br_t (Int32.le_refl _) hp
  · intro n j hj hi
    refine br_f (nI_ge (b := 32) hj (by decide)) ⟨vp_in_nI hj (by omega), nm_r (e' := qi_r (j + 1)) ?_ (nm_r (nI_1 j) hi)⟩
    rw [nI_clamp (by omega)]
    exact qi_rs
theorem qi_x275 {post : SX → Prop} (hp : post ((nI C), (nI N), wy, ls, (nI h), (nI e), sp, g, ck, cf, rs, st, kd, tg, vl, gF, gU, cr, sa, fr, un, da, wr, ld, (qi_m 8), im, me, lS, lC, lK, lL, lV, lT, (qi_r 32))) : ∃ n, wX_init_275 post (nI C) (nI N) wy ls (nI h) (nI e) sp g n 0 ck cf rs st kd tg vl gF gU cr sa fr un da wr ld (fun _ => 0) im me lS lC lK lL lV lT (fun _ => 0) := by
  have key := qx_fold (W := fun n j (s : Nat → Int32) => wX_init_275 post (nI C) (nI N) wy ls (nI h) (nI e) sp g n (nI j) ck cf rs st kd tg vl gF gU cr sa fr un da wr ld s im me lS lC lK lL lV lT (fun _ => 0)) (fun j => qi_m j) 8 ?_ ?_
  · rw [qi_m0] at key
    exact key
  · intro n
    exact br_t (Int32.le_refl _) (qi_x299 hp)
  · intro n j hj hi
    refine br_f (nI_ge (b := 8) hj (by decide)) ⟨vp_in_nI hj (by omega), nm_r (e' := qi_m (j + 1)) ?_ (nm_r (nI_1 j) hi)⟩
    rw [nI_clamp (by omega)]
    exact qi_ms
theorem qi_x252 {post : SX → Prop} (hp : post ((nI C), (nI N), wy, ls, (nI h), (nI e), sp, g, ck, cf, rs, st, kd, (qi_m 4), vl, gF, gU, cr, sa, fr, un, da, wr, ld, (qi_m 8), im, me, lS, lC, lK, lL, lV, lT, (qi_r 32))) : ∃ n, wX_init_252 post (nI C) (nI N) wy ls (nI h) (nI e) sp g n 0 ck cf rs st kd (fun _ => 0) vl gF gU cr sa fr un da wr ld (fun _ => 0) im me lS lC lK lL lV lT (fun _ => 0) := by
  have key := qx_fold (W := fun n j (s : Nat → Int32) => wX_init_252 post (nI C) (nI N) wy ls (nI h) (nI e) sp g n (nI j) ck cf rs st kd s vl gF gU cr sa fr un da wr ld (fun _ => 0) im me lS lC lK lL lV lT (fun _ => 0)) (fun j => qi_m j) 4 ?_ ?_
  · rw [qi_m0] at key
    exact key
  · intro n
    exact br_t (Int32.le_refl _) (qi_x275 hp)
  · intro n j hj hi
    refine br_f (nI_ge (b := 4) hj (by decide)) ⟨vp_in_nI hj (by omega), nm_r (e' := qi_m (j + 1)) ?_ (nm_r (nI_1 j) hi)⟩
    rw [nI_clamp (by omega)]
    exact qi_ms
theorem qi_y244 {post : SY → Prop} (hp : post ((nI C), (nI N), wy, ls, g, sp, (nI e), ck, cf, rs, st, kd, tg, vl, gF, gU, wr, ld, (qi_m 8), im, sa, bf, bu, mS, mC, mK, mL, mV, mT)) : ∃ n, wY_init_244 post (nI C) (nI N) wy ls g sp (nI e) n 0 ck cf rs st kd tg vl gF gU wr ld (fun _ => 0) im sa bf bu mS mC mK mL mV mT := by
  have key := qx_fold (W := fun n j (s : Nat → Int32) => wY_init_244 post (nI C) (nI N) wy ls g sp (nI e) n (nI j) ck cf rs st kd tg vl gF gU wr ld s im sa bf bu mS mC mK mL mV mT) (fun j => qi_m j) 8 ?_ ?_
  · rw [qi_m0] at key
    exact key
  · intro n
    exact br_t (Int32.le_refl _) hp
  · intro n j hj hi
    refine br_f (nI_ge (b := 8) hj (by decide)) ⟨vp_in_nI hj (by omega), nm_r (e' := qi_m (j + 1)) ?_ (nm_r (nI_1 j) hi)⟩
    rw [nI_clamp (by omega)]
    exact qi_ms
theorem qi_y221 {post : SY → Prop} (hp : post ((nI C), (nI N), wy, ls, g, sp, (nI e), ck, cf, rs, st, kd, (qi_m 4), vl, gF, gU, wr, ld, (qi_m 8), im, sa, bf, bu, mS, mC, mK, mL, mV, mT)) : ∃ n, wY_init_221 post (nI C) (nI N) wy ls g sp (nI e) n 0 ck cf rs st kd (fun _ => 0) vl gF gU wr ld (fun _ => 0) im sa bf bu mS mC mK mL mV mT := by
  have key := qx_fold (W := fun n j (s : Nat → Int32) => wY_init_221 post (nI C) (nI N) wy ls g sp (nI e) n (nI j) ck cf rs st kd s vl gF gU wr ld (fun _ => 0) im sa bf bu mS mC mK mL mV mT) (fun j => qi_m j) 4 ?_ ?_
  · rw [qi_m0] at key
    exact key
  · intro n
    exact br_t (Int32.le_refl _) (qi_y244 hp)
  · intro n j hj hi
    refine br_f (nI_ge (b := 4) hj (by decide)) ⟨vp_in_nI hj (by omega), nm_r (e' := qi_m (j + 1)) ?_ (nm_r (nI_1 j) hi)⟩
    rw [nI_clamp (by omega)]
    exact qi_ms
theorem qi_rel (h1 : 2 ≤ C) (h2 : C ≤ 4) (h3 : 2 ≤ N) (h4 : N ≤ 8) (h5 : 1 ≤ ls.toInt) (h6 : ls.toInt ≤ 12) : i_Rel 4 ((nI C), (nI N), wy, ls, (nI 0), (nI 0), 0, 0, (fun _ => 0), (fun _ => 0), (fun _ => 0), (fun _ => 0), (fun _ => 0), (qi_m 4), (fun _ => 0), (fun _ => 0), (fun _ => 0), (fun _ => 0), (fun _ => 0), (fun _ => 0), (fun _ => 0), (fun _ => 0), (fun _ => 0), (fun _ => 0), (qi_m 8), (fun _ => 0), (fun _ => 0), (fun _ => 0), (fun _ => 0), (fun _ => 0), (fun _ => 0), (fun _ => 0), (fun _ => 0), (qi_r 32)) ((nI C), (nI N), wy, ls, 0, 0, (nI 0), (fun _ => 0), (fun _ => 0), (fun _ => 0), (fun _ => 0), (fun _ => 0), (qi_m 4), (fun _ => 0), (fun _ => 0), (fun _ => 0), (fun _ => 0), (fun _ => 0), (qi_m 8), (fun _ => 0), (fun _ => 0), (fun _ => 0), (fun _ => 0), (fun _ => 0), (fun _ => 0), (fun _ => 0), (fun _ => 0), (fun _ => 0), (fun _ => 0)) := by
  have z := qa_0
  have d1 : ¬ (0 : Int32) = 1 := by decide
  have d2 : ¬ (0 : Int32) = 2 := by decide
  have d3 : ¬ (0 : Int32) = 3 := by decide
  have d4 : ¬ (0 : Int32) = 4 := by decide
  refine zz_in ⟨h1, h2, h3, h4, h5, h6⟩ ?_ ?_ ?_ ?_ ?_ ?_ ?_
  · refine ⟨⟨by rw [z]; omega, by rw [z]; omega⟩, fun c hc => ?_, fun c hc => ?_, fun a ha => ?_⟩
    · dsimp only; rw [z]; omega
    · dsimp only; rw [z]; exact ⟨Int.le_refl _, fun d hd => by omega⟩
    · dsimp only; rw [z]; exact ⟨Int.le_refl _, Int.le_refl _, fun d hd => by omega⟩
  · intro c hc
    exact Or.inl ⟨rfl, rfl, qi_mv (by omega)⟩
  · have hcb : ∀ n, qp_cnt (fun _ => 0) n ≤ n := by
      intro n
      induction n with
      | zero => exact Nat.le_refl _
      | succ n ih => unfold qp_cnt; split <;> omega
    unfold qp_Q
    have := hcb C
    omega
  · intro c hc a ha
    exact ⟨Or.inl rfl, fun _ => ⟨rfl, rfl⟩, fun w => absurd w d1⟩
  · intro a ha
    have ho : qi_m 8 a = -1 := qi_mv (by omega)
    have nmv : ∀ c, ¬ qp_mv (fun _ => 0) (fun _ => 0) (qi_m 4) c a := by
      intro c ⟨_, w⟩
      rcases w with w | w | w
      · exact d2 w
      · exact d3 w
      · exact d4 w.1
    exact ⟨fun _ => ⟨rfl, fun c _ => nmv c⟩, Or.inl ho, fun c d _ _ w => absurd w (nmv c), fun c _ _ => ⟨d2, fun w => absurd w d2, fun w => absurd w d3, fun w => absurd w d4⟩, fun c _ w => absurd w d2⟩
  · intro c hc a ha _ w
    exact absurd w d4
  · refine ⟨by omega, ⟨by rw [z]; omega, by rw [z]; omega⟩, ⟨by omega, fun i hi => ?_, fun i j hi hj he => ?_⟩, List.Perm.refl _, fun i j _ hj => by omega, fun i hi => by omega⟩
    · rw [qi_rv hi, nI_clamp (by omega)]
      exact ⟨hi, rfl⟩
    · rw [qi_rv hi, qi_rv hj, nI_clamp (by omega), nI_clamp (by omega)] at he
      exact he
theorem i_vc0 (k0 : Int32) (k1 : Int32) (k2 : Int32) (k3 : Int32) : wpX_init (fun u => wpY_init (fun v => i_Rel 4 u v) k0 k1 k2 k3) k0 k1 k2 k3 := by
  have hC := qc_in (p := k0) (lo := 2) (hi := 4) (by decide)
  have hN := qc_in (p := k1) (lo := 2) (hi := 8) (by decide)
  have hl := qc_in (p := k3) (lo := 1) (hi := 12) (by decide)
  have e1 : (1 : Int32).toInt = 1 := by decide
  have e2 : (2 : Int32).toInt = 2 := by decide
  have e4 : (4 : Int32).toInt = 4 := by decide
  have e8 : (8 : Int32).toInt = 8 := by decide
  have e12 : (12 : Int32).toInt = 12 := by decide
  rw [e2, e4] at hC
  rw [e2, e8] at hN
  rw [e1, e12] at hl
  obtain ⟨C, c1, c2, c3⟩ := qc_nat (lo := 2) (hi := 4) hC.1 hC.2 (by omega)
  obtain ⟨N, n1, n2, n3⟩ := qc_nat (lo := 2) (hi := 8) hN.1 hN.2 (by omega)
  have R := qi_rel (wy := qc_v k2 1 4) c1 c2 n1 n2 hl.1 hl.2
  unfold wpX_init
  refine qx_clamp (qx_clamp (qx_clamp (qx_clamp ?_)))
  rw [c3, n3]
  refine qi_x252 ?_
  unfold wpY_init
  refine qy_clamp (qy_clamp (qy_clamp (qy_clamp ?_)))
  rw [c3, n3]
  exact qi_y221 R
end QIN
end
