section
/-! rows of kit/rows/PURE-ROWS.to-paste.lean.txt, pasted -/
theorem pk_us {f : Nat → Int32} {k : Nat} {x : Int32} : upd f k x k = x := if_pos rfl
theorem pk_un {f : Nat → Int32} {k j : Nat} {x : Int32} (h : j ≠ k) : upd f k x j = f j := if_neg h
theorem pk_sub {a b : Nat} (h : b ≤ a) : nI a - nI b = nI (a - b) := by
  obtain ⟨c, rfl⟩ : ∃ c, a = c + b := ⟨a - b, by omega⟩
  rw [← nI_add, Int32.add_sub_cancel, Nat.add_sub_cancel]
theorem pk_m1 (n : Nat) : nI (n + 1) + (-1) = nI n := by
  rw [← nI_1, Int32.add_assoc, show (1 : Int32) + (-1) = 0 from rfl, Int32.add_zero]
theorem pk_mul (a b : Nat) : nI a * nI b = nI (a * b) := (Int32.ofNat_mul a b).symm
theorem pk_ix (x : Int32) {n : Nat} (hn : n < 2 ^ 31) : x < 0 ∨ nI n ≤ x ∨ ∃ j : Nat, j < n ∧ x = nI j := by
  by_cases h : x < 0
  · exact Or.inl h
  · obtain ⟨j, hj, rfl⟩ := nI_of h
    by_cases h2 : j < n
    · exact Or.inr (Or.inr ⟨j, h2, rfl⟩)
    · exact Or.inr (Or.inl (nI_le (by omega) hj))
theorem pk_le {x y : Int32} {A B : Prop} (a b : Nat) (f : a ≤ b → A) (g : b < a → B) (hx : x = nI a := by rfl) (hy : y = nI b := by rfl) (ha : a < 2 ^ 31 := by omega) (hb : b < 2 ^ 31 := by omega) : (x ≤ y → A) ∧ (¬ x ≤ y → B) := by
  subst hx hy
  rw [nI_leI ha hb]
  exact ⟨f, fun z => g (by omega)⟩
theorem pk_lt {x y : Int32} {A B : Prop} (a b : Nat) (f : a < b → A) (g : b ≤ a → B) (hx : x = nI a := by rfl) (hy : y = nI b := by rfl) (ha : a < 2 ^ 31 := by omega) (hb : b < 2 ^ 31 := by omega) : (x < y → A) ∧ (¬ x < y → B) := by
  subst hx hy
  rw [nI_ltI ha hb]
  exact ⟨f, fun z => g (by omega)⟩
theorem pk_eq {x y : Int32} {A B : Prop} (a b : Nat) (f : a = b → A) (g : a ≠ b → B) (hx : x = nI a := by rfl) (hy : y = nI b := by rfl) (ha : a < 2 ^ 31 := by omega) (hb : b < 2 ^ 31 := by omega) : (x = y → A) ∧ (¬ x = y → B) := by
  subst hx hy
  rw [nI_eq ha hb]
  exact ⟨f, g⟩
theorem pk_in {x : Int32} (n N : Nat) (h : n < N) (hx : x = nI n := by rfl) (hN : N < 2 ^ 31 := by omega) : vp_in x N := by
  subst hx
  exact vp_in_nI h hN
theorem pk_cl {x : Int32} (n : Nat) (hx : x = nI n := by rfl) (h : n < 2 ^ 31 := by omega) : x.toNatClampNeg = n := by
  subst hx
  exact nI_clamp h
theorem pk_tn {n : Nat} (h : n < 2 ^ 32) : (nI n).toBitVec.toNat = n := Nat.mod_eq_of_lt h
theorem pk_and (x : Int32) {m : Int32} (k : Nat) (hm : m.toBitVec.toNat = 2 ^ k - 1) : x &&& m = nI (x.toBitVec.toNat % 2 ^ k) := by
  apply Int32.toBitVec_inj.mp
  apply BitVec.eq_of_toNat_eq
  rw [Int32.toBitVec_and, BitVec.toNat_and, hm, Nat.and_two_pow_sub_one_eq_mod]
  show _ = (BitVec.ofNat 32 _).toNat
  rw [BitVec.toNat_ofNat]
  exact (Nat.mod_eq_of_lt (Nat.lt_of_le_of_lt (Nat.mod_le _ _) x.toBitVec.isLt)).symm
theorem pk_andN {n : Nat} (h : n < 2 ^ 32) {m : Int32} (k : Nat) (hm : m.toBitVec.toNat = 2 ^ k - 1) : nI n &&& m = nI (n % 2 ^ k) := by
  rw [pk_and _ k hm, pk_tn h]
theorem pk_andE (x : Int32) {m : Int32} (k : Nat) (hm : m.toBitVec.toNat = 2 ^ k - 1) : ∃ j : Nat, j < 2 ^ k ∧ x &&& m = nI j := ⟨_, Nat.mod_lt _ (Nat.two_pow_pos k), pk_and x k hm⟩
end
section
/-! the pure machine: what instructions take, put, cost; a run; stretches -/
abbrev gm_C (w : Int32) : Prop := w = 0 ∨ w = 1 ∨ w = 2 ∨ w = 3 ∨ w = 4 ∨ w = 5 ∨ w = 6 ∨ w = 7 ∨ w = 8 ∨ w = 9 ∨ w = 10 ∨ w = 11 ∨ w = 12 ∨ w = 13 ∨ w = 14
theorem gm_C_fin : ∀ j : Fin 15, gm_C (nI j.val) := by decide
theorem gm_C_of {w : Int32} (h0 : ¬ w < 0) (h1 : w ≤ 14) : gm_C w := by
  obtain ⟨j, hj, rfl⟩ := nI_of2 (M := 14) (n := 14) (by decide) h0 h1
  exact gm_C_fin ⟨j, by omega⟩
def gm_tk (w : Int32) : Nat := if w = 1 ∨ w = 2 ∨ w = 3 ∨ w = 4 ∨ w = 6 then 2 else if w = 5 ∨ w = 7 ∨ w = 9 ∨ w = 11 ∨ w = 12 then 1 else 0
def gm_pu (w : Int32) : Nat := if w = 5 ∨ w = 6 then 2 else if w = 0 ∨ w = 1 ∨ w = 2 ∨ w = 3 ∨ w = 4 ∨ w = 8 ∨ w = 13 then 1 else 0
def gm_pr (w : Int32) : Nat := if w = 3 ∨ w = 11 then 5 else if w = 9 ∨ w = 10 then 4 else if w = 7 ∨ w = 12 then 1 else if w = 14 then 0 else if w = 0 ∨ w = 5 ∨ w = 6 ∨ w = 13 then 2 else 3
def gm_cb (w x y : Int32) : Int32 := if w = 1 then x + y else if w = 2 then x - y else if w = 3 then x * y else if y ≤ x then 0 else 1
def gm_va (w a : Int32) (h : Nat) (va pi : Nat → Int32) : Nat → Int32 := if w = 9 then upd va a.toNatClampNeg (pi (h - 1)) else va
def gm_pi (w a : Int32) (g h : Nat) (va pi : Nat → Int32) : Nat → Int32 :=
  if w = 0 then upd pi h a else if w = 1 ∨ w = 2 ∨ w = 3 ∨ w = 4 then upd pi (h - 2) (gm_cb w (pi (h - 2)) (pi (h - 1)))
  else if w = 5 then upd pi h (pi (h - 1)) else if w = 6 then upd (upd pi (h - 1) (pi (h - 2))) (h - 2) (pi (h - 1))
  else if w = 8 then upd pi h (va a.toNatClampNeg) else if w = 13 then upd pi h (nI g) else pi
def gm_nx (w a : Int32) (p h : Nat) (pi : Nat → Int32) : Nat :=
  if w = 10 then a.toNatClampNeg else if w = 11 then (if pi (h - 1) = 0 then p + 1 else a.toNatClampNeg) else p + 1
def gm_co (w : Int32) (h : Nat) (pi : Nat → Int32) : Nat := if w = 12 then 1 + (pi (h - 1) &&& 15).toNatClampNeg else gm_pr w
def gm_en (sz : Nat) (w : Int32) (g p d h : Nat) (pi : Nat → Int32) : Int32 :=
  if p < sz then (if d = 300 then 2 else if h < gm_tk w ∨ 8 < h - gm_tk w + gm_pu w then 3 else if gm_co w h pi ≤ g then 0 else 4) else 1
abbrev gm_R : Type := Int32 × Nat × Nat × Nat × Nat × (Nat → Int32) × (Nat → Int32)
def gm_ex (sz : Nat) (op nu : Nat → Int32) : Nat → Nat → Nat → Nat → Nat → (Nat → Int32) → (Nat → Int32) → gm_R
  | 0 => fun g p d h va pi => (2, g, p, d, h, va, pi)
  | n + 1 => fun g p d h va pi => if gm_en sz (op p) g p d h pi = 0 then (if op p = 14 then (1, g, p, d + 1, h, va, pi) else gm_ex sz op nu n (g - gm_co (op p) h pi) (gm_nx (op p) (nu p) p h pi) (d + 1) (h - gm_tk (op p) + gm_pu (op p)) (gm_va (op p) (nu p) h va pi) (gm_pi (op p) (nu p) (g - gm_co (op p) h pi) h va pi)) else (gm_en sz (op p) g p d h pi, g, p, d, h, va, pi)
def gm_Fit (w a : Int32) : Prop := gm_C w ∧ (w = 8 ∨ w = 9 → ∃ j : Nat, j < 4 ∧ a = nI j) ∧ (w = 10 ∨ w = 11 → ∃ j : Nat, j ≤ 20 ∧ a = nI j)

section
variable {sz : Nat} {op nu : Nat → Int32} {w a : Int32} {n g p d h : Nat} {va pi : Nat → Int32}
theorem gm_tk2 (w : Int32) : gm_tk w ≤ 2 := by unfold gm_tk; split; omega; split <;> omega
theorem gm_pu2 (w : Int32) : gm_pu w ≤ 2 := by unfold gm_pu; split; omega; split <;> omega
theorem gm_pr5 (w : Int32) : gm_pr w ≤ 5 := by unfold gm_pr; split; omega; split; omega; split; omega; split; omega; split <;> omega
theorem gm_tp (w : Int32) : gm_pu w ≤ gm_tk w + 1 := by
  by_cases h5 : w = 5
  · subst h5; decide
  by_cases h6 : w = 6
  · subst h6; decide
  have : gm_pu w ≤ 1 := by unfold gm_pu; rw [if_neg (by simp [h5, h6])]; split <;> omega
  omega
theorem gm_ex_e (he : ¬ gm_en sz (op p) g p d h pi = 0) : gm_ex sz op nu (n + 1) g p d h va pi = (gm_en sz (op p) g p d h pi, g, p, d, h, va, pi) := if_neg he
theorem gm_ex_h (he : gm_en sz (op p) g p d h pi = 0) (h14 : op p = 14) : gm_ex sz op nu (n + 1) g p d h va pi = (1, g, p, d + 1, h, va, pi) := (if_pos he).trans (if_pos h14)
theorem gm_ex_t (he : gm_en sz (op p) g p d h pi = 0) (h14 : ¬ op p = 14) : gm_ex sz op nu (n + 1) g p d h va pi = gm_ex sz op nu n (g - gm_co (op p) h pi) (gm_nx (op p) (nu p) p h pi) (d + 1) (h - gm_tk (op p) + gm_pu (op p)) (gm_va (op p) (nu p) h va pi) (gm_pi (op p) (nu p) (g - gm_co (op p) h pi) h va pi) := (if_pos he).trans (if_neg h14)
theorem gm_en1 (h1 : sz ≤ p) : gm_en sz w g p d h pi = 1 := if_neg (by omega)
theorem gm_en2 (h1 : p < sz) (h2 : d = 300) : gm_en sz w g p d h pi = 2 := (if_pos h1).trans (if_pos h2)
theorem gm_en3 (h1 : p < sz) (h2 : ¬ d = 300) (h3 : h < gm_tk w ∨ 8 < h - gm_tk w + gm_pu w) : gm_en sz w g p d h pi = 3 := (if_pos h1).trans ((if_neg h2).trans (if_pos h3))
theorem gm_en4 (h1 : p < sz) (h2 : ¬ d = 300) (h3 : ¬ (h < gm_tk w ∨ 8 < h - gm_tk w + gm_pu w)) (h4 : ¬ gm_co w h pi ≤ g) : gm_en sz w g p d h pi = 4 := (if_pos h1).trans ((if_neg h2).trans ((if_neg h3).trans (if_neg h4)))
theorem gm_en0 (h1 : p < sz) (h2 : ¬ d = 300) (h3 : ¬ (h < gm_tk w ∨ 8 < h - gm_tk w + gm_pu w)) (h4 : gm_co w h pi ≤ g) : gm_en sz w g p d h pi = 0 := (if_pos h1).trans ((if_neg h2).trans ((if_neg h3).trans (if_pos h4)))
theorem gm_en_of (he : gm_en sz w g p d h pi = 0) : p < sz ∧ ¬ d = 300 ∧ gm_tk w ≤ h ∧ h - gm_tk w + gm_pu w ≤ 8 ∧ gm_co w h pi ≤ g := by
  by_cases h1 : p < sz
  · by_cases h2 : d = 300
    · rw [gm_en2 h1 h2] at he; exact absurd he (by decide)
    · by_cases h3 : h < gm_tk w ∨ 8 < h - gm_tk w + gm_pu w
      · rw [gm_en3 h1 h2 h3] at he; exact absurd he (by decide)
      · by_cases h4 : gm_co w h pi ≤ g
        · exact ⟨h1, h2, by omega, by omega, h4⟩
        · rw [gm_en4 h1 h2 h3 h4] at he; exact absurd he (by decide)
  · rw [gm_en1 (by omega)] at he; exact absurd he (by decide)
theorem gm_ex_b : ∀ (n g p d h : Nat) (va pi : Nat → Int32), h ≤ 8 → (gm_ex sz op nu n g p d h va pi).2.1 ≤ g ∧ (gm_ex sz op nu n g p d h va pi).2.2.2.2.1 ≤ 8 := by
  intro n
  induction n with
  | zero => intro g p d h va pi h8; exact ⟨Nat.le_refl _, h8⟩
  | succ n ih =>
    intro g p d h va pi h8
    by_cases he : gm_en sz (op p) g p d h pi = 0
    · by_cases h14 : op p = 14
      · rw [gm_ex_h he h14]; exact ⟨Nat.le_refl _, h8⟩
      · rw [gm_ex_t he h14]
        have := ih (g - gm_co (op p) h pi) (gm_nx (op p) (nu p) p h pi) (d + 1) (h - gm_tk (op p) + gm_pu (op p)) (gm_va (op p) (nu p) h va pi) (gm_pi (op p) (nu p) (g - gm_co (op p) h pi) h va pi) (gm_en_of he).2.2.2.1
        exact ⟨Nat.le_trans this.1 (Nat.sub_le _ _), this.2⟩
    · rw [gm_ex_e he]; exact ⟨Nat.le_refl _, h8⟩
theorem gm_nx20 (hF : gm_Fit w a) (hp : p < 20) : gm_nx w a p h pi ≤ 20 := by
  unfold gm_nx
  split
  · next e => obtain ⟨j, hj, rfl⟩ := hF.2.2 (Or.inl e); rw [nI_clamp (by omega)]; exact hj
  · split
    · next e =>
      split
      · omega
      · obtain ⟨j, hj, rfl⟩ := hF.2.2 (Or.inr e); rw [nI_clamp (by omega)]; exact hj
    · omega
end

def gm_pl (op : Nat → Int32) (sz : Nat) : Nat → Nat × Nat × Nat × Nat
  | 0 => (0, 0, 0, 0)
  | k + 1 => if 10 ≤ op (sz - (k + 1)) then (0, 0, 0, 0) else ((gm_pl op sz k).1 + 1, (gm_pl op sz k).2.1 + gm_pr (op (sz - (k + 1))), max ((gm_pl op sz k).2.2.1 + gm_tk (op (sz - (k + 1))) - gm_pu (op (sz - (k + 1)))) (gm_tk (op (sz - (k + 1)))), max ((gm_pl op sz k).2.2.2 + gm_pu (op (sz - (k + 1))) - gm_tk (op (sz - (k + 1)))) (gm_pu (op (sz - (k + 1))) - gm_tk (op (sz - (k + 1)))))
def gm_L (op : Nat → Int32) (sz i : Nat) : Nat := (gm_pl op sz (sz - i)).1
def gm_P (op : Nat → Int32) (sz i : Nat) : Nat := (gm_pl op sz (sz - i)).2.1
def gm_N (op : Nat → Int32) (sz i : Nat) : Nat := (gm_pl op sz (sz - i)).2.2.1
def gm_Q (op : Nat → Int32) (sz i : Nat) : Nat := (gm_pl op sz (sz - i)).2.2.2
def gm_At (op : Nat → Int32) (sz : Nat) (le pr ne ri : Nat → Int32) (i : Nat) : Prop := le i = nI (gm_L op sz i) ∧ pr i = nI (gm_P op sz i) ∧ ne i = nI (gm_N op sz i) ∧ ri i = nI (gm_Q op sz i)
def gm_Pl (op : Nat → Int32) (sz : Nat) (le pr ne ri : Nat → Int32) : Prop := ∀ i, i ≤ sz → gm_At op sz le pr ne ri i

section
variable {sz i : Nat} {op : Nat → Int32}
theorem gm_pl_z : gm_L op sz sz = 0 ∧ gm_P op sz sz = 0 ∧ gm_N op sz sz = 0 ∧ gm_Q op sz sz = 0 := by
  unfold gm_L gm_P gm_N gm_Q
  rw [Nat.sub_self]
  exact ⟨rfl, rfl, rfl, rfl⟩
theorem gm_pl_s (hi : i < sz) : gm_pl op sz (sz - i) = if 10 ≤ op i then (0, 0, 0, 0) else (gm_L op sz (i + 1) + 1, gm_P op sz (i + 1) + gm_pr (op i), max (gm_N op sz (i + 1) + gm_tk (op i) - gm_pu (op i)) (gm_tk (op i)), max (gm_Q op sz (i + 1) + gm_pu (op i) - gm_tk (op i)) (gm_pu (op i) - gm_tk (op i))) := by
  have e : sz - i = (sz - (i + 1)) + 1 := by omega
  have e2 : sz - ((sz - (i + 1)) + 1) = i := by omega
  rw [e, gm_pl, e2]
  rfl
theorem gm_pl_b (hi : i < sz) (hb : 10 ≤ op i) : gm_L op sz i = 0 ∧ gm_P op sz i = 0 ∧ gm_N op sz i = 0 ∧ gm_Q op sz i = 0 := by
  have e := (gm_pl_s hi).trans (if_pos hb)
  have e1 : gm_L op sz i = (gm_pl op sz (sz - i)).1 := rfl
  have e2 : gm_P op sz i = (gm_pl op sz (sz - i)).2.1 := rfl
  have e3 : gm_N op sz i = (gm_pl op sz (sz - i)).2.2.1 := rfl
  have e4 : gm_Q op sz i = (gm_pl op sz (sz - i)).2.2.2 := rfl
  rw [e1, e2, e3, e4, e]
  exact ⟨rfl, rfl, rfl, rfl⟩
theorem gm_pl_n (hi : i < sz) (hb : ¬ 10 ≤ op i) : gm_L op sz i = gm_L op sz (i + 1) + 1 ∧ gm_P op sz i = gm_P op sz (i + 1) + gm_pr (op i) ∧ gm_N op sz i = max (gm_N op sz (i + 1) + gm_tk (op i) - gm_pu (op i)) (gm_tk (op i)) ∧ gm_Q op sz i = max (gm_Q op sz (i + 1) + gm_pu (op i) - gm_tk (op i)) (gm_pu (op i) - gm_tk (op i)) := by
  have e := (gm_pl_s hi).trans (if_neg hb)
  have e1 : gm_L op sz i = (gm_pl op sz (sz - i)).1 := rfl
  have e2 : gm_P op sz i = (gm_pl op sz (sz - i)).2.1 := rfl
  have e3 : gm_N op sz i = (gm_pl op sz (sz - i)).2.2.1 := rfl
  have e4 : gm_Q op sz i = (gm_pl op sz (sz - i)).2.2.2 := rfl
  rw [e1, e2, e3, e4, e]
  exact ⟨rfl, rfl, rfl, rfl⟩
theorem gm_pl_d : ∀ k i, i + k = sz → gm_L op sz i ≤ k ∧ gm_P op sz i ≤ 5 * k ∧ gm_N op sz i ≤ 2 * k ∧ gm_Q op sz i ≤ k := by
  intro k
  induction k with
  | zero =>
    intro i hi
    obtain rfl : i = sz := by omega
    have := gm_pl_z (op := op) (sz := i)
    omega
  | succ k ih =>
    intro i hi
    have h := ih (i + 1) (by omega)
    by_cases hb : 10 ≤ op i
    · have := gm_pl_b (sz := sz) (i := i) (by omega) hb
      omega
    · have q := gm_pl_n (sz := sz) (i := i) (by omega) hb
      have t2 := gm_tk2 (op i)
      have p2 := gm_pu2 (op i)
      have r5 := gm_pr5 (op i)
      have tp := gm_tp (op i)
      omega
theorem gm_pl_20 (hs : sz ≤ 20) (hi : i ≤ sz) : i + gm_L op sz i ≤ sz ∧ gm_P op sz i ≤ 100 ∧ gm_N op sz i ≤ 40 ∧ gm_Q op sz i ≤ 20 := by
  have := gm_pl_d (op := op) (sz := sz) (sz - i) i (by omega)
  omega
/-- what planAt reckons with ints is what the pure rows say -/
theorem gm_mx1 {n t p : Nat} (hn : n ≤ 1000) (ht : t ≤ 2) (hp : p ≤ 2) : (nI n - (nI p - nI t) ≤ nI t → nI t = nI (max (n + t - p) t)) ∧ (¬ nI n - (nI p - nI t) ≤ nI t → nI n - (nI p - nI t) = nI (max (n + t - p) t)) := by
  have e : nI n - (nI p - nI t) = nI (n + t) - nI p := by rw [← nI_add]; grind
  have ti : (nI (n + t) - nI p).toInt = ((n + t : Nat) : Int) - (p : Nat) := by
    rw [Int32.toInt_sub, nI_toInt (by omega), nI_toInt (by omega)]
    exact Int.bmod_eq_of_le (by omega) (by omega)
  rw [e, Int32.le_iff_toInt_le, ti, nI_toInt (by omega)]
  refine ⟨fun h => congrArg nI (by omega), fun h => ?_⟩
  rw [pk_sub (by omega)]
  exact congrArg nI (by omega)
theorem gm_mx2 {r t p : Nat} (hn : r ≤ 1000) (ht : t ≤ 2) (hp : p ≤ 2) :
    (nI p - nI t ≤ 0 → (nI r + (nI p - nI t) ≤ 0 → 0 = nI (max (r + p - t) (p - t))) ∧ (¬ nI r + (nI p - nI t) ≤ 0 → nI r + (nI p - nI t) = nI (max (r + p - t) (p - t))))
    ∧ (¬ nI p - nI t ≤ 0 → (nI r + (nI p - nI t) ≤ nI p - nI t → nI p - nI t = nI (max (r + p - t) (p - t))) ∧ (¬ nI r + (nI p - nI t) ≤ nI p - nI t → nI r + (nI p - nI t) = nI (max (r + p - t) (p - t)))) := by
  have e : nI r + (nI p - nI t) = nI (r + p) - nI t := by rw [← nI_add]; grind
  have ti : (nI (r + p) - nI t).toInt = ((r + p : Nat) : Int) - (t : Nat) := by
    rw [Int32.toInt_sub, nI_toInt (by omega), nI_toInt (by omega)]
    exact Int.bmod_eq_of_le (by omega) (by omega)
  have tj : (nI p - nI t).toInt = (p : Int) - t := by
    rw [Int32.toInt_sub, nI_toInt (by omega), nI_toInt (by omega)]
    exact Int.bmod_eq_of_le (by omega) (by omega)
  rw [e]
  simp only [Int32.le_iff_toInt_le, ti, tj, show (0 : Int32).toInt = 0 from by decide]
  refine ⟨fun h => ⟨fun h1 => ?_, fun h1 => ?_⟩, fun h => ⟨fun h1 => ?_, fun h1 => ?_⟩⟩
  · rw [← nI_0]; exact congrArg nI (by omega)
  · rw [pk_sub (by omega)]; exact congrArg nI (by omega)
  · rw [pk_sub (by omega)]; exact congrArg nI (by omega)
  · rw [pk_sub (by omega)]; exact congrArg nI (by omega)
end
end
section
/-! the small methods of both sides -/
theorem gm_X_takes {post : Int32 → Prop} {u : SX} {w : Int32} (hw : gm_C w) (h : post (nI (gm_tk w))) : wpX_takes post u w := by
  obtain ⟨s1, s2, s3, s4, s5, s6, s7, s8, b1, b2, b3, b4, b5, b6, b7, b8, b9, b10⟩ := u
  unfold wpX_takes wX_takes_10
  dsimp only
  rcases hw with rfl | rfl | rfl | rfl | rfl | rfl | rfl | rfl | rfl | rfl | rfl | rfl | rfl | rfl | rfl <;>
    repeat' first | exact h | refine br_t (by decide) ?_ | refine br_f (by decide) ?_
theorem gm_X_puts {post : Int32 → Prop} {u : SX} {w : Int32} (hw : gm_C w) (h : post (nI (gm_pu w))) : wpX_puts post u w := by
  obtain ⟨s1, s2, s3, s4, s5, s6, s7, s8, b1, b2, b3, b4, b5, b6, b7, b8, b9, b10⟩ := u
  unfold wpX_puts
  dsimp only
  rcases hw with rfl | rfl | rfl | rfl | rfl | rfl | rfl | rfl | rfl | rfl | rfl | rfl | rfl | rfl | rfl <;>
    repeat' first | exact h | refine br_t (by decide) ?_ | refine br_f (by decide) ?_
theorem gm_X_price {post : Int32 → Prop} {u : SX} {w : Int32} (hw : gm_C w) (h : post (nI (gm_pr w))) : wpX_priceOf post u w := by
  obtain ⟨s1, s2, s3, s4, s5, s6, s7, s8, b1, b2, b3, b4, b5, b6, b7, b8, b9, b10⟩ := u
  unfold wpX_priceOf
  dsimp only
  rcases hw with rfl | rfl | rfl | rfl | rfl | rfl | rfl | rfl | rfl | rfl | rfl | rfl | rfl | rfl | rfl <;>
    repeat' first | exact h | refine br_t (by decide) ?_ | refine br_f (by decide) ?_
theorem gm_X_breaks {post : Int32 → Prop} {u : SX} {w : Int32} (h1 : 10 ≤ w → post 1) (h0 : ¬ 10 ≤ w → post 0) : wpX_breaks post u w := by
  obtain ⟨s1, s2, s3, s4, s5, s6, s7, s8, b1, b2, b3, b4, b5, b6, b7, b8, b9, b10⟩ := u
  exact br_c (fun z => h0 (Int32.not_le.mpr z)) (fun z => h1 (Int32.not_lt.mp z))
theorem gm_X_put {post : SX → Prop} {h : Nat} {v sz' : Int32} {gs pl nx en dn tn : Int32} {op nu va le pr ne ri pi kv kp : Nat → Int32} (hh : h < 8) (H : post (sz', gs, pl, nx, en, dn, tn, nI (h + 1), op, nu, va, le, pr, ne, ri, upd pi h v, kv, kp)) : wpX_put post (sz', gs, pl, nx, en, dn, tn, nI h, op, nu, va, le, pr, ne, ri, pi, kv, kp) v := by
  unfold wpX_put
  dsimp only
  rw [nI_clamp (by omega)]
  exact ⟨vp_in_nI hh (by decide), nm_e (nm_r (nI_1 h) H)⟩
theorem gm_X_comb {post : Int32 → Prop} {u : SX} {w x y : Int32} (h : post (gm_cb w x y)) : wpX_combined post u w x y := by
  obtain ⟨s1, s2, s3, s4, s5, s6, s7, s8, b1, b2, b3, b4, b5, b6, b7, b8, b9, b10⟩ := u
  unfold wpX_combined
  dsimp only
  unfold gm_cb at h
  refine br_c (fun z => ?_) (fun z => br_c (fun z2 => ?_) (fun z2 => br_c (fun z3 => ?_) (fun z3 => br_c (fun z4 => ?_) (fun z4 => ?_))))
  · rwa [if_pos z] at h
  · rwa [if_neg z, if_pos z2] at h
  · rwa [if_neg z, if_neg z2, if_pos z3] at h
  · rwa [if_neg z, if_neg z2, if_neg z3, if_pos z4] at h
  · rwa [if_neg z, if_neg z2, if_neg z3, if_neg z4] at h
theorem gm_Fit_n {w a : Int32} (hw : gm_C w) (h8 : ¬ w = 8) (h9 : ¬ w = 9) (h10 : ¬ w = 10) (h11 : ¬ w = 11) : gm_Fit w a :=
  ⟨hw, fun z => z.elim (fun e => absurd e h8) (fun e => absurd e h9), fun z => z.elim (fun e => absurd e h10) (fun e => absurd e h11)⟩
theorem gm_bad0 {a : Int32} (w : Int32) (hw : gm_C w) (h0 : ¬ w = 0) (h8 : ¬ w = 8) (h9 : ¬ w = 9) (h10 : ¬ w = 10) (h11 : ¬ w = 11) :
    gm_Fit w a ∧ (∀ (post : Int32 → Prop) (u : SX), post 0 → wpX_bad post u w a) ∧ (∀ (post : Int32 → Prop) (v : SY), post 1 → wpY_isFit post v w a) := by
  have hn : ¬ w < 0 := by rcases hw with rfl | rfl | rfl | rfl | rfl | rfl | rfl | rfl | rfl | rfl | rfl | rfl | rfl | rfl | rfl <;> decide
  have hl : w ≤ 14 := by rcases hw with rfl | rfl | rfl | rfl | rfl | rfl | rfl | rfl | rfl | rfl | rfl | rfl | rfl | rfl | rfl <;> decide
  refine ⟨gm_Fit_n hw h8 h9 h10 h11, fun post u h => ?_, fun post v h => ?_⟩
  · obtain ⟨s1, s2, s3, s4, s5, s6, s7, s8, b1, b2, b3, b4, b5, b6, b7, b8, b9, b10⟩ := u
    exact br_f hn (br_t hl (br_f h0 (br_f h8 (br_f h9 (br_f h10 (br_f h11 h))))))
  · obtain ⟨s1, s2, s3, s4, s5, s6, s7, b1, b2, b3, b4, b5, b6⟩ := v
    exact br_f hn (br_f (Int32.not_lt.mpr hl) (br_f h0 (br_f (c := w = 8) h8 (br_f h9 (br_f (c := w = 10) h10 (br_f h11 h))))))
theorem gm_bad (w a : Int32) : (gm_Fit w a ∧ (∀ (post : Int32 → Prop) (u : SX), post 0 → wpX_bad post u w a) ∧ (∀ (post : Int32 → Prop) (v : SY), post 1 → wpY_isFit post v w a))
    ∨ ((∀ (post : Int32 → Prop) (u : SX), post 1 → wpX_bad post u w a) ∧ (∀ (post : Int32 → Prop) (v : SY), post 0 → wpY_isFit post v w a)) := by
  by_cases hn : w < 0
  · exact Or.inr ⟨fun post u h => by obtain ⟨s1, s2, s3, s4, s5, s6, s7, s8, b1, b2, b3, b4, b5, b6, b7, b8, b9, b10⟩ := u; exact br_t hn h, fun post v h => by obtain ⟨s1, s2, s3, s4, s5, s6, s7, b1, b2, b3, b4, b5, b6⟩ := v; exact br_t hn h⟩
  by_cases hl : w ≤ 14
  rotate_left
  · exact Or.inr ⟨fun post u h => by obtain ⟨s1, s2, s3, s4, s5, s6, s7, s8, b1, b2, b3, b4, b5, b6, b7, b8, b9, b10⟩ := u; exact br_f hn (br_f hl h), fun post v h => by obtain ⟨s1, s2, s3, s4, s5, s6, s7, b1, b2, b3, b4, b5, b6⟩ := v; exact br_f hn (br_t (Int32.not_le.mp hl) h)⟩
  have hw := gm_C_of hn hl
  by_cases h0 : w = 0
  · subst h0
    by_cases a1 : a < -100
    · exact Or.inr ⟨fun post u h => by obtain ⟨s1, s2, s3, s4, s5, s6, s7, s8, b1, b2, b3, b4, b5, b6, b7, b8, b9, b10⟩ := u; exact br_f hn (br_t hl (br_t rfl (br_t a1 h))), fun post v h => by obtain ⟨s1, s2, s3, s4, s5, s6, s7, b1, b2, b3, b4, b5, b6⟩ := v; exact br_f hn (br_f (by decide) (br_t rfl (br_t a1 h)))⟩
    by_cases a2 : a ≤ 100
    · refine Or.inl ⟨gm_Fit_n hw (by decide) (by decide) (by decide) (by decide), fun post u h => ?_, fun post v h => ?_⟩
      · obtain ⟨s1, s2, s3, s4, s5, s6, s7, s8, b1, b2, b3, b4, b5, b6, b7, b8, b9, b10⟩ := u
        exact br_f hn (br_t hl (br_t rfl (br_f a1 (br_t a2 h))))
      · obtain ⟨s1, s2, s3, s4, s5, s6, s7, b1, b2, b3, b4, b5, b6⟩ := v
        exact br_f hn (br_f (by decide) (br_t rfl (br_f a1 (br_t a2 (br_f (c := (0 : Int32) = 8) (by decide) (br_f (by decide) (br_f (c := (0 : Int32) = 10) (by decide) (br_f (by decide) h))))))))
    · exact Or.inr ⟨fun post u h => by obtain ⟨s1, s2, s3, s4, s5, s6, s7, s8, b1, b2, b3, b4, b5, b6, b7, b8, b9, b10⟩ := u; exact br_f hn (br_t hl (br_t rfl (br_f a1 (br_f a2 h)))), fun post v h => by obtain ⟨s1, s2, s3, s4, s5, s6, s7, b1, b2, b3, b4, b5, b6⟩ := v; exact br_f hn (br_f (by decide) (br_t rfl (br_f a1 (br_f a2 h))))⟩
  by_cases h89 : w = 8 ∨ w = 9
  · have h10 : ¬ w = 10 := by rcases h89 with rfl | rfl <;> decide
    have h11 : ¬ w = 11 := by rcases h89 with rfl | rfl <;> decide
    have X : ∀ (post : Int32 → Prop) (u : SX), ((a < 0 → post 1) ∧ (¬ a < 0 → ((a ≤ 3 → post 0) ∧ (¬ a ≤ 3 → post 1)))) → wpX_bad post u w a := by
      intro post u h
      obtain ⟨s1, s2, s3, s4, s5, s6, s7, s8, b1, b2, b3, b4, b5, b6, b7, b8, b9, b10⟩ := u
      refine br_f hn (br_t hl (br_f h0 (br_c (fun _ => h) (fun h8 => br_t (h89.resolve_left h8) h))))
    have Y : ∀ (post : Int32 → Prop) (v : SY), ((a < 0 → post 0) ∧ (¬ a < 0 → ((a ≤ 3 → post 1) ∧ (¬ a ≤ 3 → post 0)))) → wpY_isFit post v w a := by
      intro post v h
      obtain ⟨s1, s2, s3, s4, s5, s6, s7, b1, b2, b3, b4, b5, b6⟩ := v
      have K : wY_isFit_40 post w a s1 s2 s3 s4 s5 s6 s7 b1 b2 b3 b4 b5 b6 := br_c h.1 (fun z => br_c (fun z2 => br_f (c := w = 10) h10 (br_f h11 ((h.2 z).1 z2))) (h.2 z).2)
      exact br_f hn (br_f (Int32.not_lt.mpr hl) (br_f h0 (br_c (c := w = 8) (fun _ => K) (fun h8 => br_t (h89.resolve_left h8) K))))
    by_cases a1 : a < 0
    · exact Or.inr ⟨fun post u h => X post u (br_t a1 h), fun post v h => Y post v (br_t a1 h)⟩
    by_cases a2 : a ≤ 3
    · obtain ⟨j, hj, ej⟩ := nI_of2 (M := 3) (n := 3) (by decide) a1 a2
      exact Or.inl ⟨⟨hw, fun _ => ⟨j, by omega, ej⟩, fun z => z.elim (fun e => absurd e h10) (fun e => absurd e h11)⟩, fun post u h => X post u (br_f a1 (br_t a2 h)), fun post v h => Y post v (br_f a1 (br_t a2 h))⟩
    · exact Or.inr ⟨fun post u h => X post u (br_f a1 (br_f a2 h)), fun post v h => Y post v (br_f a1 (br_f a2 h))⟩
  have h8 : ¬ w = 8 := fun z => h89 (Or.inl z)
  have h9 : ¬ w = 9 := fun z => h89 (Or.inr z)
  by_cases h101 : w = 10 ∨ w = 11
  · have X : ∀ (post : Int32 → Prop) (u : SX), ((a < 0 → post 1) ∧ (¬ a < 0 → ((a ≤ 20 → post 0) ∧ (¬ a ≤ 20 → post 1)))) → wpX_bad post u w a := by
      intro post u h
      obtain ⟨s1, s2, s3, s4, s5, s6, s7, s8, b1, b2, b3, b4, b5, b6, b7, b8, b9, b10⟩ := u
      refine br_f hn (br_t hl (br_f h0 (br_f h8 (br_f h9 (br_c (fun _ => h) (fun h10 => br_t (h101.resolve_left h10) h))))))
    have Y : ∀ (post : Int32 → Prop) (v : SY), ((a < 0 → post 0) ∧ (¬ a < 0 → ((20 < a → post 0) ∧ (¬ 20 < a → post 1)))) → wpY_isFit post v w a := by
      intro post v h
      obtain ⟨s1, s2, s3, s4, s5, s6, s7, b1, b2, b3, b4, b5, b6⟩ := v
      exact br_f hn (br_f (Int32.not_lt.mpr hl) (br_f h0 (br_f (c := w = 8) h8 (br_f h9 (br_c (c := w = 10) (fun _ => h) (fun h10 => br_t (h101.resolve_left h10) h))))))
    by_cases a1 : a < 0
    · exact Or.inr ⟨fun post u h => X post u (br_t a1 h), fun post v h => Y post v (br_t a1 h)⟩
    by_cases a2 : a ≤ 20
    · obtain ⟨j, hj, ej⟩ := nI_of2 (M := 20) (n := 20) (by decide) a1 a2
      exact Or.inl ⟨⟨hw, fun z => z.elim (fun e => absurd e h8) (fun e => absurd e h9), fun _ => ⟨j, hj, ej⟩⟩, fun post u h => X post u (br_f a1 (br_t a2 h)), fun post v h => Y post v (br_f a1 (br_f (Int32.not_lt.mpr a2) h))⟩
    · exact Or.inr ⟨fun post u h => X post u (br_f a1 (br_f a2 h)), fun post v h => Y post v (br_f a1 (br_t (Int32.not_le.mp a2) h))⟩
  exact Or.inl (gm_bad0 w hw h0 h8 h9 (fun z => h101 (Or.inl z)) (fun z => h101 (Or.inr z)))

/-! the reference's -/
theorem gm_Y_push {post : SY → Prop} {h : Nat} {v sz' : Int32} {gs nx en dn tn : Int32} {op nu va pi qv qp : Nat → Int32} (hh : h < 8) (H : post (sz', nI (h + 1), gs, en, nx, dn, tn, op, nu, va, upd pi h v, qv, qp)) : wpY_push post (sz', nI h, gs, en, nx, dn, tn, op, nu, va, pi, qv, qp) v := by
  unfold wpY_push
  dsimp only
  rw [nI_clamp (by omega)]
  exact ⟨vp_in_nI hh (by decide), nm_e (nm_r (nI_1 h) H)⟩
theorem gm_Y_pop {post : Int32 → SY → Prop} {h : Nat} {sz' : Int32} {gs nx en dn tn : Int32} {op nu va pi qv qp : Nat → Int32} (h1 : 1 ≤ h) (hh : h ≤ 8) (H : post (pi (h - 1)) (sz', nI (h - 1), gs, en, nx, dn, tn, op, nu, va, pi, qv, qp)) : wpY_pop post (sz', nI h, gs, en, nx, dn, tn, op, nu, va, pi, qv, qp) := by
  unfold wpY_pop
  dsimp only
  refine nm_r (e' := nI (h - 1)) (pk_sub (b := 1) h1) ?_
  rw [nI_clamp (by omega)]
  exact ⟨vp_in_nI (by omega) (by decide), H⟩
theorem gm_Y_price {post : Int32 → Prop} {w : Int32} {h : Nat} {sz' : Int32} {gs nx en dn tn : Int32} {op nu va pi qv qp : Nat → Int32} (hw : gm_C w) (h1 : gm_tk w ≤ h) (hh : h ≤ 8) (H : post (nI (gm_co w h pi))) : wpY_price post (sz', nI h, gs, en, nx, dn, tn, op, nu, va, pi, qv, qp) w := by
  unfold wpY_price wY_price_60
  dsimp only
  by_cases h12 : w = 12
  · subst h12
    have h1' : 1 ≤ h := h1
    refine br_t rfl ?_
    have e : nI h - 1 = nI (h - 1) := pk_sub (b := 1) h1'
    obtain ⟨j, hj, ej⟩ := pk_andE (pi (h - 1)) (m := 15) 4 (by decide)
    have e2 : gm_co 12 h pi = 1 + j := by
      show 1 + (pi (h - 1) &&& 15).toNatClampNeg = _
      rw [ej, nI_clamp (by omega)]
    rw [e, nI_clamp (by omega), ej]
    refine ⟨vp_in_nI (by omega) (by decide), ?_⟩
    rw [e2, ← nI_add] at H
    exact H
  · have e : gm_co w h pi = gm_pr w := if_neg h12
    rw [e] at H
    refine br_f h12 ?_
    rcases hw with rfl | rfl | rfl | rfl | rfl | rfl | rfl | rfl | rfl | rfl | rfl | rfl | rfl | rfl | rfl
    all_goals first | exact absurd rfl h12 | skip
    all_goals repeat' first | exact H | refine br_t (by decide) ?_ | refine br_f (by decide) ?_
theorem gm_Y_tr81 {post : Int32 → Prop} {h t : Nat} {z : Int32} {sz' : Int32} {gs nx en dn tn : Int32} {op nu va pi qv qp : Nat → Int32} (hh : h ≤ 8) (ht : t ≤ 2) (H3 : h < t ∨ (¬ z = 0 ∧ h = 8) → post 1) (H0 : ¬ (h < t ∨ (¬ z = 0 ∧ h = 8)) → post 0) : wY_traps_81 post (nI t) z sz' (nI h) gs en nx dn tn op nu va pi qv qp :=
  pk_lt h t (fun z1 => H3 (Or.inl z1)) (fun z1 => br_c (fun z2 => H0 (fun k => k.elim (fun k1 => absurd k1 (by omega)) (fun k2 => k2.1 z2))) (fun z2 => pk_eq h 8 (fun z3 => H3 (Or.inr ⟨z2, z3⟩)) (fun z3 => H0 (fun k => k.elim (fun k1 => absurd k1 (by omega)) (fun k2 => z3 k2.2)))))
def gm_tz (w : Int32) : Int32 := if w = 0 ∨ w = 5 ∨ w = 8 ∨ w = 13 then 1 else 0
theorem gm_tz_of {w : Int32} (hw : gm_C w) : (gm_tz w = 0 ∧ gm_pu w ≤ gm_tk w) ∨ (gm_tz w = 1 ∧ gm_pu w = gm_tk w + 1) := by
  rcases hw with rfl | rfl | rfl | rfl | rfl | rfl | rfl | rfl | rfl | rfl | rfl | rfl | rfl | rfl | rfl <;> decide
theorem gm_tz_iff {w : Int32} {h : Nat} (hw : gm_C w) (hh : h ≤ 8) : (h < gm_tk w ∨ (¬ gm_tz w = 0 ∧ h = 8)) ↔ (h < gm_tk w ∨ 8 < h - gm_tk w + gm_pu w) := by
  rcases gm_tz_of hw with ⟨e, q⟩ | ⟨e, q⟩
  · rw [e]
    constructor
    · rintro (k | k)
      · exact Or.inl k
      · exact absurd rfl k.1
    · intro k; omega
  · rw [e]
    constructor
    · rintro (k | k) <;> omega
    · rintro (k | k)
      · exact Or.inl k
      · by_cases z : h < gm_tk w
        · exact Or.inl z
        · exact Or.inr ⟨by decide, by omega⟩
theorem gm_Y_traps {post : Int32 → Prop} {w : Int32} {h : Nat} {sz' : Int32} {gs nx en dn tn : Int32} {op nu va pi qv qp : Nat → Int32} (hw : gm_C w) (hh : h ≤ 8) (H3 : h < gm_tk w ∨ 8 < h - gm_tk w + gm_pu w → post 1) (H0 : ¬ (h < gm_tk w ∨ 8 < h - gm_tk w + gm_pu w) → post 0) : wpY_traps post (sz', nI h, gs, en, nx, dn, tn, op, nu, va, pi, qv, qp) w := by
  have K : wY_traps_81 post (nI (gm_tk w)) (gm_tz w) sz' (nI h) gs en nx dn tn op nu va pi qv qp := gm_Y_tr81 hh (gm_tk2 w) (fun k => H3 ((gm_tz_iff hw hh).mp k)) (fun k => H0 (fun k2 => k ((gm_tz_iff hw hh).mpr k2)))
  clear H3 H0
  unfold wpY_traps wY_traps_10 wY_traps_16 wY_traps_49 wY_traps_54 wY_traps_76
  dsimp only
  rcases hw with rfl | rfl | rfl | rfl | rfl | rfl | rfl | rfl | rfl | rfl | rfl | rfl | rfl | rfl | rfl <;>
    repeat' first | exact K | refine br_t (by decide) ?_ | refine br_f (by decide) ?_
end
section
/-! the component's plan -/
section
variable {post : SX → Prop} {sz i : Nat} {gs pl nx en dn tn ht : Int32} {op nu va le pr ne ri pi kv kp : Nat → Int32}
theorem gm_X_p152 {r : Nat} {x6 z0 : Int32} (hi : i < 21) (h1 : x6 ≤ z0 → z0 = nI r) (h2 : ¬ x6 ≤ z0 → x6 = nI r) (H : post (nI sz, gs, pl, nx, en, dn, tn, ht, op, nu, va, le, pr, ne, upd ri i (nI r), pi, kv, kp)) : wX_planAt_152 post (nI i) x6 z0 (nI sz) gs pl nx en dn tn ht op nu va le pr ne ri pi kv kp := by
  unfold wX_planAt_152
  rw [nI_clamp (by omega)]
  exact br_c (fun z => ⟨vp_in_nI hi (by decide), nm_r (by rw [h1 z]) H⟩) (fun z => ⟨vp_in_nI hi (by decide), nm_r (by rw [h2 z]) H⟩)
theorem gm_X_p130 {r t p : Nat} {z0 : Int32} (hi : i < 20) (hr : ri (i + 1) = nI r) (r1 : r ≤ 1000) (t2 : t ≤ 2) (p2 : p ≤ 2) (H : post (nI sz, gs, pl, nx, en, dn, tn, ht, op, nu, va, le, pr, upd ne i z0, upd ri i (nI (max (r + p - t) (p - t))), pi, kv, kp)) : wX_planAt_130 post (nI i) (nI p - nI t) z0 (nI i) (nI sz) gs pl nx en dn tn ht op nu va le pr ne ri pi kv kp := by
  unfold wX_planAt_130
  rw [nI_clamp (by omega), nI_1 i, nI_clamp (by omega), hr]
  have q := gm_mx2 r1 t2 p2
  exact ⟨vp_in_nI (by omega) (by decide), nm_e ⟨vp_in_nI (by omega) (by decide), nm_e (br_c (fun z => gm_X_p152 (by omega) (q.1 z).1 (q.1 z).2 H) (fun z => gm_X_p152 (by omega) (q.2 z).1 (q.2 z).2 H))⟩⟩
theorem gm_X_planAt (hs : sz ≤ 20) (hi : i < sz) (hw : gm_C (op i)) (hA : gm_At op sz le pr ne ri (i + 1)) (H : ∀ le' pr' ne' ri' : Nat → Int32, gm_At op sz le' pr' ne' ri' i → (∀ j, j ≠ i → le' j = le j ∧ pr' j = pr j ∧ ne' j = ne j ∧ ri' j = ri j) → post (nI sz, gs, pl, nx, en, dn, tn, ht, op, nu, va, le', pr', ne', ri', pi, kv, kp)) : wpX_planAt post (nI sz, gs, pl, nx, en, dn, tn, ht, op, nu, va, le, pr, ne, ri, pi, kv, kp) (nI i) := by
  have v20 : vp_in (nI i) 20 := vp_in_nI (by omega) (by decide)
  have v21 : vp_in (nI i) 21 := vp_in_nI (by omega) (by decide)
  have v22 : vp_in (nI (i + 1)) 21 := vp_in_nI (by omega) (by decide)
  unfold wpX_planAt
  dsimp only
  rw [nI_clamp (by omega), nI_1 i, nI_clamp (by omega), hA.1, hA.2.1, hA.2.2.1]
  refine ⟨v20, nm_e (gm_X_breaks (fun hb => br_f (by decide) ?_) (fun hb => br_t rfl ?_))⟩
  · have q := gm_pl_b hi hb
    refine ⟨v21, nm_e ⟨v21, nm_e ⟨v21, nm_e ⟨v21, nm_e (H _ _ _ _ ?_ ?_)⟩⟩⟩⟩
    · unfold gm_At
      rw [q.1, q.2.1, q.2.2.1, q.2.2.2]
      exact ⟨pk_us, pk_us, pk_us, pk_us⟩
    · exact fun j hj => ⟨pk_un hj, pk_un hj, pk_un hj, pk_un hj⟩
  · have q := gm_pl_n hi hb
    have b := gm_pl_20 (op := op) hs (i := i + 1) (by omega)
    have m1 := gm_mx1 (n := gm_N op sz (i + 1)) (t := gm_tk (op i)) (p := gm_pu (op i)) (by omega) (gm_tk2 _) (gm_pu2 _)
    have K : post (nI sz, gs, pl, nx, en, dn, tn, ht, op, nu, va, upd le i (nI (gm_L op sz (i + 1)) + 1), upd pr i (nI (gm_P op sz (i + 1)) + nI (gm_pr (op i))), upd ne i (nI (max (gm_N op sz (i + 1) + gm_tk (op i) - gm_pu (op i)) (gm_tk (op i)))), upd ri i (nI (max (gm_Q op sz (i + 1) + gm_pu (op i) - gm_tk (op i)) (gm_pu (op i) - gm_tk (op i)))), pi, kv, kp) := by
      refine H _ _ _ _ ?_ ?_
      · unfold gm_At
        rw [q.1, q.2.1, q.2.2.1, q.2.2.2, pk_us, pk_us, pk_us, pk_us, nI_1, nI_add]
        exact ⟨rfl, rfl, rfl, rfl⟩
      · exact fun j hj => ⟨pk_un hj, pk_un hj, pk_un hj, pk_un hj⟩
    refine gm_X_puts hw (gm_X_takes hw (nm_e ⟨v22, v21, nm_e ⟨v22, gm_X_price hw ⟨v21, nm_e ⟨v22, nm_e (gm_X_takes hw ?_)⟩⟩⟩⟩))
    refine br_c (fun z => ?_) (fun z => ?_)
    · exact gm_X_p130 (by omega) hA.2.2.2 (by omega) (gm_tk2 _) (gm_pu2 _) (by rw [m1.1 z]; exact K)
    · rw [m1.2 z]
      exact gm_X_p130 (by omega) hA.2.2.2 (by omega) (gm_tk2 _) (gm_pu2 _) K
end
section
variable {post : SX → Prop} {sz : Nat} {gs pl nx en dn tn ht : Int32} {op nu va pi kv kp : Nat → Int32}
theorem gm_X_pl55 (hs : sz ≤ 20) (hF : ∀ i, i < sz → gm_C (op i)) (H : ∀ le' pr' ne' ri' : Nat → Int32, gm_Pl op sz le' pr' ne' ri' → post (nI sz, gs, 1, nx, en, dn, tn, ht, op, nu, va, le', pr', ne', ri', pi, kv, kp)) : ∀ (j : Nat) (le pr ne ri : Nat → Int32), j ≤ sz → (∀ i, j ≤ i → i ≤ sz → gm_At op sz le pr ne ri i) → wX_plan_55 post (j + 1) (nI j - 1) (nI sz) gs pl nx en dn tn ht op nu va le pr ne ri pi kv kp := by
  intro j
  induction j with
  | zero =>
    intro le pr ne ri hj hA
    rw [wX_plan_55]
    exact br_t (by decide) (H le pr ne ri (fun i hi => hA i (by omega) hi))
  | succ j ih =>
    intro le pr ne ri hj hA
    rw [nI_pred, wX_plan_55]
    refine br_f (nI_pos (by omega)) (gm_X_planAt hs (by omega) (hF j (by omega)) (hA (j + 1) (by omega) hj) (fun le' pr' ne' ri' hAt hne => ?_))
    dsimp only
    refine nm_r (e' := nI j - 1) (by rw [Int32.sub_eq_add_neg]) (ih le' pr' ne' ri' (by omega) (fun i h1 h2 => ?_))
    by_cases z : i = j
    · rw [z]; exact hAt
    · have q := hne i z
      have a := hA i (by omega) h2
      unfold gm_At
      rw [q.1, q.2.1, q.2.2.1, q.2.2.2]
      exact a
theorem gm_X_plan {le pr ne ri : Nat → Int32} (hs : sz ≤ 20) (hF : ∀ i, i < sz → gm_C (op i)) (hp : pl = 0 ∨ (pl = 1 ∧ gm_Pl op sz le pr ne ri)) (H : ∀ le' pr' ne' ri' : Nat → Int32, gm_Pl op sz le' pr' ne' ri' → post (nI sz, gs, 1, nx, en, dn, tn, ht, op, nu, va, le', pr', ne', ri', pi, kv, kp)) : wpX_plan post (nI sz, gs, pl, nx, en, dn, tn, ht, op, nu, va, le, pr, ne, ri, pi, kv, kp) := by
  have v : vp_in (nI sz) 21 := vp_in_nI (by omega) (by decide)
  unfold wpX_plan
  dsimp only
  rw [nI_clamp (by omega)]
  rcases hp with rfl | ⟨rfl, hP⟩
  · refine br_t rfl ⟨v, nm_e ⟨v, nm_e ⟨v, nm_e ⟨v, nm_e (nm_e ⟨sz + 1, gm_X_pl55 hs hF H sz _ _ _ _ (Nat.le_refl _) (fun i h1 h2 => ?_)⟩)⟩⟩⟩⟩
    obtain rfl : i = sz := by omega
    have z := gm_pl_z (op := op) (sz := i)
    unfold gm_At
    rw [z.1, z.2.1, z.2.2.1, z.2.2.2, pk_us, pk_us, pk_us, pk_us]
    exact ⟨rfl, rfl, rfl, rfl⟩
  · exact br_f (by decide) (H _ _ _ _ hP)
end
end
section
/-! tables of the codes -/
theorem gm_t0 : gm_tk 0 = 0 := by decide
theorem gm_u0 : gm_pu 0 = 1 := by decide
theorem gm_t1 : gm_tk 1 = 2 := by decide
theorem gm_u1 : gm_pu 1 = 1 := by decide
theorem gm_t2 : gm_tk 2 = 2 := by decide
theorem gm_u2 : gm_pu 2 = 1 := by decide
theorem gm_t3 : gm_tk 3 = 2 := by decide
theorem gm_u3 : gm_pu 3 = 1 := by decide
theorem gm_t4 : gm_tk 4 = 2 := by decide
theorem gm_u4 : gm_pu 4 = 1 := by decide
theorem gm_t5 : gm_tk 5 = 1 := by decide
theorem gm_u5 : gm_pu 5 = 2 := by decide
theorem gm_t6 : gm_tk 6 = 2 := by decide
theorem gm_u6 : gm_pu 6 = 2 := by decide
theorem gm_t7 : gm_tk 7 = 1 := by decide
theorem gm_u7 : gm_pu 7 = 0 := by decide
theorem gm_t8 : gm_tk 8 = 0 := by decide
theorem gm_u8 : gm_pu 8 = 1 := by decide
theorem gm_t9 : gm_tk 9 = 1 := by decide
theorem gm_u9 : gm_pu 9 = 0 := by decide
theorem gm_t10 : gm_tk 10 = 0 := by decide
theorem gm_u10 : gm_pu 10 = 0 := by decide
theorem gm_t11 : gm_tk 11 = 1 := by decide
theorem gm_u11 : gm_pu 11 = 0 := by decide
theorem gm_t12 : gm_tk 12 = 1 := by decide
theorem gm_u12 : gm_pu 12 = 0 := by decide
theorem gm_t13 : gm_tk 13 = 0 := by decide
theorem gm_u13 : gm_pu 13 = 1 := by decide
theorem gm_t14 : gm_tk 14 = 0 := by decide
theorem gm_u14 : gm_pu 14 = 0 := by decide
section
variable {a : Int32} {g h p : Nat} {va pi : Nat → Int32}
theorem gm_v0 : gm_va 0 a h va pi = va := rfl
theorem gm_i0 : gm_pi 0 a g h va pi = upd pi h a := rfl
theorem gm_n0 : gm_nx 0 a p h pi = p + 1 := rfl
theorem gm_v1 : gm_va 1 a h va pi = va := rfl
theorem gm_i1 : gm_pi 1 a g h va pi = upd pi (h - 2) (gm_cb 1 (pi (h - 2)) (pi (h - 1))) := rfl
theorem gm_n1 : gm_nx 1 a p h pi = p + 1 := rfl
theorem gm_v2 : gm_va 2 a h va pi = va := rfl
theorem gm_i2 : gm_pi 2 a g h va pi = upd pi (h - 2) (gm_cb 2 (pi (h - 2)) (pi (h - 1))) := rfl
theorem gm_n2 : gm_nx 2 a p h pi = p + 1 := rfl
theorem gm_v3 : gm_va 3 a h va pi = va := rfl
theorem gm_i3 : gm_pi 3 a g h va pi = upd pi (h - 2) (gm_cb 3 (pi (h - 2)) (pi (h - 1))) := rfl
theorem gm_n3 : gm_nx 3 a p h pi = p + 1 := rfl
theorem gm_v4 : gm_va 4 a h va pi = va := rfl
theorem gm_i4 : gm_pi 4 a g h va pi = upd pi (h - 2) (gm_cb 4 (pi (h - 2)) (pi (h - 1))) := rfl
theorem gm_n4 : gm_nx 4 a p h pi = p + 1 := rfl
theorem gm_v5 : gm_va 5 a h va pi = va := rfl
theorem gm_i5 : gm_pi 5 a g h va pi = upd pi h (pi (h - 1)) := rfl
theorem gm_n5 : gm_nx 5 a p h pi = p + 1 := rfl
theorem gm_v6 : gm_va 6 a h va pi = va := rfl
theorem gm_i6 : gm_pi 6 a g h va pi = upd (upd pi (h - 1) (pi (h - 2))) (h - 2) (pi (h - 1)) := rfl
theorem gm_n6 : gm_nx 6 a p h pi = p + 1 := rfl
theorem gm_v7 : gm_va 7 a h va pi = va := rfl
theorem gm_i7 : gm_pi 7 a g h va pi = pi := rfl
theorem gm_n7 : gm_nx 7 a p h pi = p + 1 := rfl
theorem gm_v8 : gm_va 8 a h va pi = va := rfl
theorem gm_i8 : gm_pi 8 a g h va pi = upd pi h (va a.toNatClampNeg) := rfl
theorem gm_n8 : gm_nx 8 a p h pi = p + 1 := rfl
theorem gm_v9 : gm_va 9 a h va pi = upd va a.toNatClampNeg (pi (h - 1)) := rfl
theorem gm_i9 : gm_pi 9 a g h va pi = pi := rfl
theorem gm_n9 : gm_nx 9 a p h pi = p + 1 := rfl
theorem gm_v10 : gm_va 10 a h va pi = va := rfl
theorem gm_i10 : gm_pi 10 a g h va pi = pi := rfl
theorem gm_n10 : gm_nx 10 a p h pi = a.toNatClampNeg := rfl
theorem gm_v11 : gm_va 11 a h va pi = va := rfl
theorem gm_i11 : gm_pi 11 a g h va pi = pi := rfl
theorem gm_n11 : gm_nx 11 a p h pi = (if pi (h - 1) = 0 then p + 1 else a.toNatClampNeg) := rfl
theorem gm_v12 : gm_va 12 a h va pi = va := rfl
theorem gm_i12 : gm_pi 12 a g h va pi = pi := rfl
theorem gm_n12 : gm_nx 12 a p h pi = p + 1 := rfl
theorem gm_v13 : gm_va 13 a h va pi = va := rfl
theorem gm_i13 : gm_pi 13 a g h va pi = upd pi h (nI g) := rfl
theorem gm_n13 : gm_nx 13 a p h pi = p + 1 := rfl
theorem gm_v14 : gm_va 14 a h va pi = va := rfl
theorem gm_i14 : gm_pi 14 a g h va pi = pi := rfl
theorem gm_n14 : gm_nx 14 a p h pi = p + 1 := rfl
end
end
section
/-! the component's work, a theorem a code -/
section
variable {post : SX → Prop} {i h g : Nat} {sz' : Int32} {gs pl nx en dn tn : Int32} {op nu va le pr ne ri pi kv kp : Nat → Int32}
theorem gm_h1 {h : Nat} (h1 : 1 ≤ h) : nI h - 1 = nI (h - 1) := pk_sub (b := 1) h1
theorem gm_h2 {h : Nat} (h1 : 2 ≤ h) : nI h - 2 = nI (h - 2) := pk_sub (b := 2) h1
theorem gm_X_wk0 (hi : i < 20) (e : op i = 0) (hh : h < 8) (h8 : h ≤ 8) (H : post (sz', gs, pl, nx, en, dn, tn, nI (h + 1), op, nu, va, le, pr, ne, ri, upd pi h (nu i), kv, kp)) : wpX_work post (sz', gs, pl, nx, en, dn, tn, nI h, op, nu, va, le, pr, ne, ri, pi, kv, kp) (nI i) := by
  have v20 : vp_in (nI i) 20 := vp_in_nI hi (by decide)
  unfold wpX_work
  dsimp only
  rw [nI_clamp (by omega), e]
  refine ⟨v20, nm_e ?_⟩
  exact br_t rfl ⟨v20, gm_X_put hh H⟩
theorem gm_X_wk1 (hi : i < 20) (e : op i = 1) (h1 : 2 ≤ h) (h8 : h ≤ 8) (H : post (sz', gs, pl, nx, en, dn, tn, nI (h - 1), op, nu, va, le, pr, ne, ri, upd pi (h - 2) (gm_cb 1 (pi (h - 2)) (pi (h - 1))), kv, kp)) : wpX_work post (sz', gs, pl, nx, en, dn, tn, nI h, op, nu, va, le, pr, ne, ri, pi, kv, kp) (nI i) := by
  have v20 : vp_in (nI i) 20 := vp_in_nI hi (by decide)
  unfold wpX_work
  dsimp only
  rw [nI_clamp (by omega), e]
  refine ⟨v20, nm_e ?_⟩
  have e2 : h - 2 + 1 = h - 1 := by omega
  refine br_f (by decide) (br_f (by decide) (nm_r (e' := nI (h - 2)) (gm_h2 h1) ?_))
  rw [nI_1, e2, nI_clamp (by omega), nI_clamp (by omega)]
  refine ⟨vp_in_nI (by omega) (by decide), vp_in_nI (by omega) (by decide), gm_X_comb (gm_X_put (by omega) ?_)⟩
  rw [e2]
  exact H
theorem gm_X_wk2 (hi : i < 20) (e : op i = 2) (h1 : 2 ≤ h) (h8 : h ≤ 8) (H : post (sz', gs, pl, nx, en, dn, tn, nI (h - 1), op, nu, va, le, pr, ne, ri, upd pi (h - 2) (gm_cb 2 (pi (h - 2)) (pi (h - 1))), kv, kp)) : wpX_work post (sz', gs, pl, nx, en, dn, tn, nI h, op, nu, va, le, pr, ne, ri, pi, kv, kp) (nI i) := by
  have v20 : vp_in (nI i) 20 := vp_in_nI hi (by decide)
  unfold wpX_work
  dsimp only
  rw [nI_clamp (by omega), e]
  refine ⟨v20, nm_e ?_⟩
  have e2 : h - 2 + 1 = h - 1 := by omega
  refine br_f (by decide) (br_f (by decide) (nm_r (e' := nI (h - 2)) (gm_h2 h1) ?_))
  rw [nI_1, e2, nI_clamp (by omega), nI_clamp (by omega)]
  refine ⟨vp_in_nI (by omega) (by decide), vp_in_nI (by omega) (by decide), gm_X_comb (gm_X_put (by omega) ?_)⟩
  rw [e2]
  exact H
theorem gm_X_wk3 (hi : i < 20) (e : op i = 3) (h1 : 2 ≤ h) (h8 : h ≤ 8) (H : post (sz', gs, pl, nx, en, dn, tn, nI (h - 1), op, nu, va, le, pr, ne, ri, upd pi (h - 2) (gm_cb 3 (pi (h - 2)) (pi (h - 1))), kv, kp)) : wpX_work post (sz', gs, pl, nx, en, dn, tn, nI h, op, nu, va, le, pr, ne, ri, pi, kv, kp) (nI i) := by
  have v20 : vp_in (nI i) 20 := vp_in_nI hi (by decide)
  unfold wpX_work
  dsimp only
  rw [nI_clamp (by omega), e]
  refine ⟨v20, nm_e ?_⟩
  have e2 : h - 2 + 1 = h - 1 := by omega
  refine br_f (by decide) (br_f (by decide) (nm_r (e' := nI (h - 2)) (gm_h2 h1) ?_))
  rw [nI_1, e2, nI_clamp (by omega), nI_clamp (by omega)]
  refine ⟨vp_in_nI (by omega) (by decide), vp_in_nI (by omega) (by decide), gm_X_comb (gm_X_put (by omega) ?_)⟩
  rw [e2]
  exact H
theorem gm_X_wk4 (hi : i < 20) (e : op i = 4) (h1 : 2 ≤ h) (h8 : h ≤ 8) (H : post (sz', gs, pl, nx, en, dn, tn, nI (h - 1), op, nu, va, le, pr, ne, ri, upd pi (h - 2) (gm_cb 4 (pi (h - 2)) (pi (h - 1))), kv, kp)) : wpX_work post (sz', gs, pl, nx, en, dn, tn, nI h, op, nu, va, le, pr, ne, ri, pi, kv, kp) (nI i) := by
  have v20 : vp_in (nI i) 20 := vp_in_nI hi (by decide)
  unfold wpX_work
  dsimp only
  rw [nI_clamp (by omega), e]
  refine ⟨v20, nm_e ?_⟩
  have e2 : h - 2 + 1 = h - 1 := by omega
  refine br_f (by decide) (br_f (by decide) (nm_r (e' := nI (h - 2)) (gm_h2 h1) ?_))
  rw [nI_1, e2, nI_clamp (by omega), nI_clamp (by omega)]
  refine ⟨vp_in_nI (by omega) (by decide), vp_in_nI (by omega) (by decide), gm_X_comb (gm_X_put (by omega) ?_)⟩
  rw [e2]
  exact H
theorem gm_X_wk5 (hi : i < 20) (e : op i = 5) (h1 : 1 ≤ h) (hh : h < 8) (h8 : h ≤ 8) (H : post (sz', gs, pl, nx, en, dn, tn, nI (h + 1), op, nu, va, le, pr, ne, ri, upd pi h (pi (h - 1)), kv, kp)) : wpX_work post (sz', gs, pl, nx, en, dn, tn, nI h, op, nu, va, le, pr, ne, ri, pi, kv, kp) (nI i) := by
  have v20 : vp_in (nI i) 20 := vp_in_nI hi (by decide)
  unfold wpX_work
  dsimp only
  rw [nI_clamp (by omega), e]
  refine ⟨v20, nm_e ?_⟩
  rw [gm_h1 h1, nI_clamp (by omega)]
  exact br_f (by decide) (br_t (by decide) (br_t rfl ⟨vp_in_nI (by omega) (by decide), gm_X_put hh H⟩))
theorem gm_X_wk6 (hi : i < 20) (e : op i = 6) (h1 : 2 ≤ h) (h8 : h ≤ 8) (H : post (sz', gs, pl, nx, en, dn, tn, nI h, op, nu, va, le, pr, ne, ri, upd (upd pi (h - 1) (pi (h - 2))) (h - 2) (pi (h - 1)), kv, kp)) : wpX_work post (sz', gs, pl, nx, en, dn, tn, nI h, op, nu, va, le, pr, ne, ri, pi, kv, kp) (nI i) := by
  have v20 : vp_in (nI i) 20 := vp_in_nI hi (by decide)
  unfold wpX_work
  dsimp only
  rw [nI_clamp (by omega), e]
  refine ⟨v20, nm_e ?_⟩
  have va1 : vp_in (nI (h - 1)) 8 := vp_in_nI (by omega) (by decide)
  have va2 : vp_in (nI (h - 2)) 8 := vp_in_nI (by omega) (by decide)
  rw [gm_h1 (by omega), gm_h2 h1, nI_clamp (by omega), nI_clamp (by omega)]
  exact br_f (by decide) (br_t (by decide) (br_f (by decide) (br_t rfl ⟨va1, nm_e ⟨va2, va1, nm_e ⟨va2, nm_e H⟩⟩⟩)))
theorem gm_X_wk7 (hi : i < 20) (e : op i = 7) (h1 : 1 ≤ h) (h8 : h ≤ 8) (H : post (sz', gs, pl, nx, en, dn, tn, nI (h - 1), op, nu, va, le, pr, ne, ri, pi, kv, kp)) : wpX_work post (sz', gs, pl, nx, en, dn, tn, nI h, op, nu, va, le, pr, ne, ri, pi, kv, kp) (nI i) := by
  have v20 : vp_in (nI i) 20 := vp_in_nI hi (by decide)
  unfold wpX_work
  dsimp only
  rw [nI_clamp (by omega), e]
  refine ⟨v20, nm_e ?_⟩
  exact br_f (by decide) (br_t (by decide) (br_f (by decide) (br_f (by decide) (br_f (by decide) (nm_r (gm_h1 h1) (br_f (by decide) H))))))
theorem gm_X_wk8 (hi : i < 20) (e : op i = 8) (hv : ∃ j : Nat, j < 4 ∧ nu i = nI j) (hh : h < 8) (h8 : h ≤ 8) (H : post (sz', gs, pl, nx, en, dn, tn, nI (h + 1), op, nu, va, le, pr, ne, ri, upd pi h (va (nu i).toNatClampNeg), kv, kp)) : wpX_work post (sz', gs, pl, nx, en, dn, tn, nI h, op, nu, va, le, pr, ne, ri, pi, kv, kp) (nI i) := by
  have v20 : vp_in (nI i) 20 := vp_in_nI hi (by decide)
  unfold wpX_work
  dsimp only
  rw [nI_clamp (by omega), e]
  refine ⟨v20, nm_e ?_⟩
  have v4 : vp_in (nu i) 4 := by obtain ⟨j, hj, ej⟩ := hv; rw [ej]; exact vp_in_nI hj (by decide)
  exact br_f (by decide) (br_t (by decide) (br_f (by decide) (br_f (by decide) (br_t rfl ⟨v20, v4, gm_X_put hh H⟩))))
theorem gm_X_wk9 (hi : i < 20) (e : op i = 9) (hv : ∃ j : Nat, j < 4 ∧ nu i = nI j) (h1 : 1 ≤ h) (h8 : h ≤ 8) (H : post (sz', gs, pl, nx, en, dn, tn, nI (h - 1), op, nu, upd va (nu i).toNatClampNeg (pi (h - 1)), le, pr, ne, ri, pi, kv, kp)) : wpX_work post (sz', gs, pl, nx, en, dn, tn, nI h, op, nu, va, le, pr, ne, ri, pi, kv, kp) (nI i) := by
  have v20 : vp_in (nI i) 20 := vp_in_nI hi (by decide)
  unfold wpX_work
  dsimp only
  rw [nI_clamp (by omega), e]
  refine ⟨v20, nm_e ?_⟩
  have v4 : vp_in (nu i) 4 := by obtain ⟨j, hj, ej⟩ := hv; rw [ej]; exact vp_in_nI hj (by decide)
  refine br_f (by decide) (br_t (by decide) (br_f (by decide) (br_f (by decide) (br_f (by decide) (nm_r (e' := nI (h - 1)) (gm_h1 h1) (br_t rfl ⟨v20, vp_in_nI (by omega) (by decide), v4, ?_⟩))))))
  rw [nI_clamp (by omega)]
  exact nm_e H
theorem gm_X_work (hi : i < 20) (hF : gm_Fit (op i) (nu i)) (hb : ¬ 10 ≤ op i) (ht : gm_tk (op i) ≤ h) (h8 : h ≤ 8) (hp : h - gm_tk (op i) + gm_pu (op i) ≤ 8) (H : post (sz', gs, pl, nx, en, dn, tn, nI (h - gm_tk (op i) + gm_pu (op i)), op, nu, gm_va (op i) (nu i) h va pi, le, pr, ne, ri, gm_pi (op i) (nu i) g h va pi, kv, kp)) : wpX_work post (sz', gs, pl, nx, en, dn, tn, nI h, op, nu, va, le, pr, ne, ri, pi, kv, kp) (nI i) := by
  obtain ⟨hC, hF2, hF3⟩ := hF
  rcases hC with e | e | e | e | e | e | e | e | e | e | e | e | e | e | e
  · rw [e, gm_t0, gm_u0] at hp
    rw [e, gm_t0] at ht
    rw [e, gm_t0, gm_u0, gm_v0, gm_i0, show h - 0 + 1 = h + 1 from by omega] at H
    exact gm_X_wk0 hi e (by omega) h8 H
  · rw [e, gm_t1, gm_u1] at hp
    rw [e, gm_t1] at ht
    rw [e, gm_t1, gm_u1, gm_v1, gm_i1, show h - 2 + 1 = h - 1 from by omega] at H
    exact gm_X_wk1 hi e (by omega) h8 H
  · rw [e, gm_t2, gm_u2] at hp
    rw [e, gm_t2] at ht
    rw [e, gm_t2, gm_u2, gm_v2, gm_i2, show h - 2 + 1 = h - 1 from by omega] at H
    exact gm_X_wk2 hi e (by omega) h8 H
  · rw [e, gm_t3, gm_u3] at hp
    rw [e, gm_t3] at ht
    rw [e, gm_t3, gm_u3, gm_v3, gm_i3, show h - 2 + 1 = h - 1 from by omega] at H
    exact gm_X_wk3 hi e (by omega) h8 H
  · rw [e, gm_t4, gm_u4] at hp
    rw [e, gm_t4] at ht
    rw [e, gm_t4, gm_u4, gm_v4, gm_i4, show h - 2 + 1 = h - 1 from by omega] at H
    exact gm_X_wk4 hi e (by omega) h8 H
  · rw [e, gm_t5, gm_u5] at hp
    rw [e, gm_t5] at ht
    rw [e, gm_t5, gm_u5, gm_v5, gm_i5, show h - 1 + 2 = h + 1 from by omega] at H
    exact gm_X_wk5 hi e (by omega) (by omega) h8 H
  · rw [e, gm_t6, gm_u6] at hp
    rw [e, gm_t6] at ht
    rw [e, gm_t6, gm_u6, gm_v6, gm_i6, show h - 2 + 2 = h from by omega] at H
    exact gm_X_wk6 hi e (by omega) h8 H
  · rw [e, gm_t7, gm_u7] at hp
    rw [e, gm_t7] at ht
    rw [e, gm_t7, gm_u7, gm_v7, gm_i7, show h - 1 + 0 = h - 1 from by omega] at H
    exact gm_X_wk7 hi e (by omega) h8 H
  · rw [e, gm_t8, gm_u8] at hp
    rw [e, gm_t8] at ht
    rw [e, gm_t8, gm_u8, gm_v8, gm_i8, show h - 0 + 1 = h + 1 from by omega] at H
    exact gm_X_wk8 hi e (hF2 (Or.inl e)) (by omega) h8 H
  · rw [e, gm_t9, gm_u9] at hp
    rw [e, gm_t9] at ht
    rw [e, gm_t9, gm_u9, gm_v9, gm_i9, show h - 1 + 0 = h - 1 from by omega] at H
    exact gm_X_wk9 hi e (hF2 (Or.inr e)) (by omega) h8 H
  · rw [e] at hb; exact absurd (by decide) hb
  · rw [e] at hb; exact absurd (by decide) hb
  · rw [e] at hb; exact absurd (by decide) hb
  · rw [e] at hb; exact absurd (by decide) hb
  · rw [e] at hb; exact absurd (by decide) hb
end
end
section
/-! the component's step, sure, runStretch, execute -/
theorem gm_co16 (w : Int32) (h : Nat) (pi : Nat → Int32) : gm_co w h pi ≤ 16 := by
  unfold gm_co
  split
  · obtain ⟨j, hj, ej⟩ := pk_andE (pi (h - 1)) (m := 15) 4 (by decide)
    rw [ej, nI_clamp (by omega)]
    omega
  · have := gm_pr5 w
    omega
theorem gm_nx_n {w a : Int32} {p h : Nat} {pi : Nat → Int32} (hb : ¬ 10 ≤ w) : gm_nx w a p h pi = p + 1 :=
  (if_neg (fun e => by rw [e] at hb; exact hb (by decide))).trans (if_neg (fun e => by rw [e] at hb; exact hb (by decide)))
theorem gm_co_n {w : Int32} {h : Nat} {pi : Nat → Int32} (hb : ¬ 10 ≤ w) : gm_co w h pi = gm_pr w := if_neg (fun e => by rw [e] at hb; exact hb (by decide))
theorem gm_pi_n {w a : Int32} {g g' h : Nat} {va pi : Nat → Int32} (hb : ¬ 10 ≤ w) : gm_pi w a g h va pi = gm_pi w a g' h va pi := by
  have e : ¬ w = 13 := fun e => by rw [e] at hb; exact hb (by decide)
  unfold gm_pi
  rw [if_neg e, if_neg e]
section
variable {post : SX → Prop} {sz i h g d p : Nat} {pl en tn nx dn : Int32} {op nu va le pr ne ri pi kv kp : Nat → Int32}
theorem gm_X_wbr (hi : i < 20) (hF : gm_Fit (op i) (nu i)) (hb : 10 ≤ op i) (ht : gm_tk (op i) ≤ h) (h8 : h ≤ 8) (hp : h - gm_tk (op i) + gm_pu (op i) ≤ 8)
    (H14 : op i = 14 → post (nI sz, nI g, pl, nI i, 1, dn, tn, nI h, op, nu, va, le, pr, ne, ri, pi, kv, kp))
    (HS : ¬ op i = 14 → post (nI sz, nI g, pl, nI (gm_nx (op i) (nu i) i h pi), en, dn, tn, nI (h - gm_tk (op i) + gm_pu (op i)), op, nu, gm_va (op i) (nu i) h va pi, le, pr, ne, ri, gm_pi (op i) (nu i) g h va pi, kv, kp)) : wpX_workBreak post (nI sz, nI g, pl, nx, en, dn, tn, nI h, op, nu, va, le, pr, ne, ri, pi, kv, kp) (nI i) := by
  have v20 : vp_in (nI i) 20 := vp_in_nI hi (by decide)
  unfold wpX_workBreak
  dsimp only
  rw [nI_clamp (by omega), nI_1 i]
  refine ⟨v20, ?_⟩
  obtain ⟨hC, hF2, hF3⟩ := hF
  rcases hC with e | e | e | e | e | e | e | e | e | e | e | e | e | e | e
  · rw [e] at hb; exact absurd hb (by decide)
  · rw [e] at hb; exact absurd hb (by decide)
  · rw [e] at hb; exact absurd hb (by decide)
  · rw [e] at hb; exact absurd hb (by decide)
  · rw [e] at hb; exact absurd hb (by decide)
  · rw [e] at hb; exact absurd hb (by decide)
  · rw [e] at hb; exact absurd hb (by decide)
  · rw [e] at hb; exact absurd hb (by decide)
  · rw [e] at hb; exact absurd hb (by decide)
  · rw [e] at hb; exact absurd hb (by decide)
  · obtain ⟨j, hj, ej⟩ := hF3 (Or.inl e)
    have K := HS (by rw [e]; decide)
    rw [e, gm_n10, gm_t10, gm_u10, gm_v10, gm_i10, ej, nI_clamp (by omega), Nat.sub_zero, Nat.add_zero] at K
    rw [e, ej]
    exact nm_e (nm_e (br_t rfl ⟨v20, nm_e K⟩))
  · obtain ⟨j, hj, ej⟩ := hF3 (Or.inr e)
    have K := HS (by rw [e]; decide)
    rw [e, gm_t11] at ht
    rw [e, gm_n11, gm_t11, gm_u11, gm_v11, gm_i11, ej, nI_clamp (by omega), Nat.add_zero] at K
    rw [e, ej]
    refine nm_e (nm_e (br_f (by decide) (br_t rfl (nm_r (e' := nI (h - 1)) (gm_h1 ht) ?_))))
    rw [nI_clamp (by omega)]
    refine ⟨vp_in_nI (by omega) (by decide), br_c (fun z => ?_) (fun z => ⟨v20, nm_e ?_⟩)⟩
    · rw [if_pos z] at K; exact K
    · rw [if_neg z] at K; exact K
  · have K := HS (by rw [e]; decide)
    rw [e, gm_t12] at ht
    rw [e, gm_n12, gm_t12, gm_u12, gm_v12, gm_i12, Nat.add_zero] at K
    rw [e]
    exact nm_e (nm_e (br_f (by decide) (br_f (by decide) (br_t rfl (nm_r (gm_h1 ht) K)))))
  · have K := HS (by rw [e]; decide)
    rw [e, gm_t13, gm_u13] at hp
    rw [e, gm_n13, gm_t13, gm_u13, gm_v13, gm_i13, Nat.sub_zero] at K
    rw [e]
    exact nm_e (nm_e (br_f (by decide) (br_f (by decide) (br_f (by decide) (br_t rfl (gm_X_put (by omega) K))))))
  · rw [e]
    exact nm_e (nm_e (br_f (by decide) (br_f (by decide) (br_f (by decide) (br_f (by decide) (H14 e))))))
theorem gm_X_s80 {c : Nat} (hi : p < 20) (hF : gm_Fit (op p) (nu p)) (ht : gm_tk (op p) ≤ h) (h8 : h ≤ 8) (hp : h - gm_tk (op p) + gm_pu (op p) ≤ 8) (hc : c ≤ 100) (hg : g ≤ 1000000)
    (H4 : ¬ c ≤ g → post (nI sz, nI g, pl, nI p, 4, nI d, tn, nI h, op, nu, va, le, pr, ne, ri, pi, kv, kp))
    (H14 : c ≤ g → op p = 14 → post (nI sz, nI (g - c), pl, nI p, 1, nI (d + 1), tn, nI h, op, nu, va, le, pr, ne, ri, pi, kv, kp))
    (HS : c ≤ g → ¬ op p = 14 → post (nI sz, nI (g - c), pl, nI (gm_nx (op p) (nu p) p h pi), en, nI (d + 1), tn, nI (h - gm_tk (op p) + gm_pu (op p)), op, nu, gm_va (op p) (nu p) h va pi, le, pr, ne, ri, gm_pi (op p) (nu p) (g - c) h va pi, kv, kp)) : wX_step_80 post (nI p) (op p) (nI c) (nI sz) (nI g) pl (nI p) en (nI d) tn (nI h) op nu va le pr ne ri pi kv kp := by
  unfold wX_step_80
  refine pk_le c g (fun z => nm_r (pk_sub z) (nm_r (nI_1 d) (gm_X_breaks (fun hb => br_f (by decide) ?_) (fun hb => br_t rfl ?_)))) (fun z => H4 (by omega))
  · exact gm_X_wbr hi hF hb ht h8 hp (fun e => H14 z e) (fun e => HS z e)
  · refine gm_X_work (g := g - c) hi hF hb ht h8 hp ?_
    dsimp only
    have K := HS z (fun e => by rw [e] at hb; exact hb (by decide))
    rw [gm_nx_n hb] at K
    exact nm_r (nI_1 p) K
theorem gm_X_step (hi : p < 20) (hF : gm_Fit (op p) (nu p)) (h8 : h ≤ 8) (hg : g ≤ 1000000)
    (H3 : (h < gm_tk (op p) ∨ 8 < h - gm_tk (op p) + gm_pu (op p)) → post (nI sz, nI g, pl, nI p, 3, nI d, tn, nI h, op, nu, va, le, pr, ne, ri, pi, kv, kp))
    (H4 : ¬ (h < gm_tk (op p) ∨ 8 < h - gm_tk (op p) + gm_pu (op p)) → ¬ gm_co (op p) h pi ≤ g → post (nI sz, nI g, pl, nI p, 4, nI d, tn, nI h, op, nu, va, le, pr, ne, ri, pi, kv, kp))
    (H14 : ¬ (h < gm_tk (op p) ∨ 8 < h - gm_tk (op p) + gm_pu (op p)) → gm_co (op p) h pi ≤ g → op p = 14 → post (nI sz, nI g, pl, nI p, 1, nI (d + 1), tn, nI h, op, nu, va, le, pr, ne, ri, pi, kv, kp))
    (HS : ¬ (h < gm_tk (op p) ∨ 8 < h - gm_tk (op p) + gm_pu (op p)) → gm_co (op p) h pi ≤ g → ¬ op p = 14 → post (nI sz, nI (g - gm_co (op p) h pi), pl, nI (gm_nx (op p) (nu p) p h pi), en, nI (d + 1), tn, nI (h - gm_tk (op p) + gm_pu (op p)), op, nu, gm_va (op p) (nu p) h va pi, le, pr, ne, ri, gm_pi (op p) (nu p) (g - gm_co (op p) h pi) h va pi, kv, kp)) : wpX_step post (nI sz, nI g, pl, nI p, en, nI d, tn, nI h, op, nu, va, le, pr, ne, ri, pi, kv, kp) := by
  have v20 : vp_in (nI p) 20 := vp_in_nI hi (by decide)
  have t2 := gm_tk2 (op p)
  have u2 := gm_pu2 (op p)
  have r5 := gm_pr5 (op p)
  unfold wpX_step
  dsimp only
  rw [nI_clamp (by omega)]
  refine ⟨v20, nm_e (gm_X_takes hF.1 (pk_lt h (gm_tk (op p)) (fun z => H3 (Or.inl z)) (fun z => gm_X_takes hF.1 (gm_X_puts hF.1 ?_))))⟩
  rw [pk_sub z, nI_add]
  refine pk_le (h - gm_tk (op p) + gm_pu (op p)) 8 (fun z2 => gm_X_price hF.1 ?_) (fun z2 => H3 (Or.inr z2))
  have z3 : ¬ (h < gm_tk (op p) ∨ 8 < h - gm_tk (op p) + gm_pu (op p)) := by omega
  by_cases h12 : op p = 12
  · have ht : 1 ≤ h := by have q := z; rw [h12, gm_t12] at q; exact q
    obtain ⟨j, hj, ej⟩ := pk_andE (pi (h - 1)) (m := 15) 4 (by decide)
    have ec : gm_pr (op p) + j = gm_co (op p) h pi := by
      rw [h12]
      show 1 + j = 1 + (pi (h - 1) &&& 15).toNatClampNeg
      rw [ej, nI_clamp (by omega)]
    refine br_t h12 ?_
    rw [gm_h1 ht, nI_clamp (by omega), ej]
    refine ⟨vp_in_nI (by omega) (by decide), nm_r (e' := nI (gm_co (op p) h pi)) (by rw [nI_add, ec]) ?_⟩
    exact gm_X_s80 hi hF z h8 z2 (by omega) hg (fun k => H4 z3 k) (fun k e => absurd (h12.symm.trans e) (by decide)) (fun k e => HS z3 k e)
  · have ec : gm_co (op p) h pi = gm_pr (op p) := if_neg h12
    rw [ec] at H4 H14 HS
    refine br_f h12 (gm_X_s80 hi hF z h8 z2 (by omega) hg (fun k => H4 z3 k) (fun k e => ?_) (fun k e => HS z3 k e))
    have e0 : gm_pr (op p) = 0 := by rw [e]; decide
    rw [e0, Nat.sub_zero]
    exact H14 z3 k e
theorem gm_X_sure {post : Int32 → Prop} (hs : sz ≤ 20) (hp : p < sz) (h8 : h ≤ 8) (hg : g ≤ 1000000) (hd : d ≤ 300) (hP : gm_Pl op sz le pr ne ri)
    (H1 : ¬ gm_L op sz p = 0 → gm_N op sz p ≤ h → h + gm_Q op sz p ≤ 8 → gm_P op sz p ≤ g → d + gm_L op sz p ≤ 300 → post 1) (H0 : post 0) : wpX_sure post (nI sz, nI g, pl, nI p, en, nI d, tn, nI h, op, nu, va, le, pr, ne, ri, pi, kv, kp) := by
  have v21 : vp_in (nI p) 21 := vp_in_nI (by omega) (by decide)
  have b := gm_pl_20 (op := op) hs (i := p) (by omega)
  obtain ⟨a1, a2, a3, a4⟩ := hP p (by omega)
  unfold wpX_sure
  dsimp only
  rw [nI_clamp (by omega), a1, a2, a3, a4, nI_add, nI_add]
  exact ⟨v21, pk_eq (gm_L op sz p) 0 (fun _ => H0) (fun z1 => ⟨v21, pk_lt h (gm_N op sz p) (fun _ => H0) (fun z2 => ⟨v21, pk_le (h + gm_Q op sz p) 8 (fun z3 => ⟨v21, pk_lt g (gm_P op sz p) (fun _ => H0) (fun z4 => ⟨v21, pk_lt 300 (d + gm_L op sz p) (fun _ => H0) (fun z5 => H1 z1 z2 z3 z4 z5)⟩)⟩) (fun _ => H0)⟩)⟩)⟩
end
section
variable {sz : Nat} {op nu : Nat → Int32}
theorem gm_str (hs : sz ≤ 20) (hF : ∀ i, i < sz → gm_Fit (op i) (nu i)) : ∀ (k i h : Nat) (va pi : Nat → Int32), i ≤ sz → gm_L op sz i = k → gm_N op sz i ≤ h → h + gm_Q op sz i ≤ 8 →
    ∃ (h' : Nat) (va' pi' : Nat → Int32), h' ≤ 8 ∧
    (∀ m g d : Nat, gm_P op sz i ≤ g → d + k ≤ 300 → gm_ex sz op nu (m + k) g i d h va pi = gm_ex sz op nu m (g - gm_P op sz i) (i + k) (d + k) h' va' pi') ∧
    (∀ (post : SX → Prop) (fr mn : Nat) (gs pl nx en dn tn : Int32) (le pr ne ri kv kp : Nat → Int32), fr + mn = i + k → post (nI sz, gs, pl, nI (fr + mn), en, dn, tn, nI h', op, nu, va', le, pr, ne, ri, pi', kv, kp) → wX_runStretch_39 post (nI fr) (nI mn) (k + 1) (nI i) (nI sz) gs pl nx en dn tn (nI h) op nu va le pr ne ri pi kv kp) := by
  intro k
  induction k with
  | zero =>
    intro i h va pi hi hL hN hQ
    have p0 : gm_P op sz i = 0 := by
      by_cases z : i = sz
      · rw [z]; exact gm_pl_z.2.1
      · by_cases hb : 10 ≤ op i
        · exact (gm_pl_b (sz := sz) (i := i) (by omega) hb).2.1
        · have := (gm_pl_n (sz := sz) (i := i) (by omega) hb).1
          omega
    refine ⟨h, va, pi, by omega, fun m g d _ _ => by rw [p0]; rfl, fun post fr mn gs pl nx en dn tn le pr ne ri kv kp e H => ?_⟩
    rw [wX_runStretch_39]
    exact pk_le (fr + mn) i (fun _ => nm_r (nI_add fr mn) H) (fun z => absurd z (by omega)) (nI_add fr mn)
  | succ k ih =>
    intro i h va pi hi hL hN hQ
    have hi' : i < sz := by
      by_cases z : i = sz
      · have := (gm_pl_z (op := op) (sz := sz)).1
        rw [z] at hL
        omega
      · omega
    have hb : ¬ 10 ≤ op i := fun hb => by
      have := (gm_pl_b hi' hb).1
      omega
    have q := gm_pl_n hi' hb
    have t2 := gm_tk2 (op i)
    have u2 := gm_pu2 (op i)
    have r5 := gm_pr5 (op i)
    have b := gm_pl_20 (op := op) hs (i := i + 1) (by omega)
    have h1 : gm_tk (op i) ≤ h := by omega
    have h2 : h - gm_tk (op i) + gm_pu (op i) ≤ 8 := by omega
    obtain ⟨h', va', pi', hh, hE, hX⟩ := ih (i + 1) (h - gm_tk (op i) + gm_pu (op i)) (gm_va (op i) (nu i) h va pi) (gm_pi (op i) (nu i) 0 h va pi) (by omega) (by omega) (by omega) (by omega)
    refine ⟨h', va', pi', hh, fun m g d hg hd => ?_, fun post fr mn gs pl nx en dn tn le pr ne ri kv kp e H => ?_⟩
    · have he : gm_en sz (op i) g i d h pi = 0 := gm_en0 hi' (by omega) (by omega) (by rw [gm_co_n hb]; omega)
      have h14 : ¬ op i = 14 := fun e => by rw [e] at hb; exact hb (by decide)
      have s := hE m (g - gm_pr (op i)) (d + 1) (by omega) (by omega)
      rw [show m + (k + 1) = (m + k) + 1 from rfl, gm_ex_t he h14, gm_co_n hb, gm_nx_n hb, gm_pi_n (g' := 0) hb, s, show g - gm_pr (op i) - gm_P op sz (i + 1) = g - gm_P op sz i from by omega, show i + 1 + k = i + (k + 1) from by omega, show d + 1 + k = d + (k + 1) from by omega]
    · rw [wX_runStretch_39]
      refine pk_le (fr + mn) i (fun z => absurd z (by omega)) (fun z => gm_X_work (g := 0) (by omega) (hF i hi') hb h1 (by omega) h2 ?_) (nI_add fr mn)
      dsimp only
      exact nm_r (nI_1 i) (hX post fr mn gs pl nx en dn tn le pr ne ri kv kp (by omega) H)
end
section
variable {post : SX → Prop} {sz : Nat} {gs pl nx en dn tn ht : Int32} {op nu le pr ne ri kv kp : Nat → Int32}
theorem gm_X_exit {n : Nat} {x1 sz' : Int32} {va pi : Nat → Int32} (he : ¬ en = 0) (H : post (sz', gs, pl, nx, en, dn, tn, ht, op, nu, va, le, pr, ne, ri, pi, kv, kp)) : wX_execute_26 post (n + 1) x1 sz' gs pl nx en dn tn ht op nu va le pr ne ri pi kv kp := by
  rw [wX_execute_26]
  exact br_c (fun _ => H) (fun _ => br_f he H)
theorem gm_X_exec {Q : gm_R → Prop} (hs : sz ≤ 20) (hF : ∀ i, i < sz → gm_Fit (op i) (nu i)) (hP : gm_Pl op sz le pr ne ri)
    (hQ : ∀ (en : Int32) (g p d h : Nat) (va pi : Nat → Int32), Q (en, g, p, d, h, va, pi) → post (nI sz, nI g, pl, nI p, en, nI d, tn, nI h, op, nu, va, le, pr, ne, ri, pi, kv, kp)) :
    ∀ (m i g p d h : Nat) (va pi : Nat → Int32), m + d = 301 → d ≤ 300 → i ≤ d → p ≤ 20 → h ≤ 8 → g ≤ 1000000 → Q (gm_ex sz op nu m g p d h va pi) → ∀ n, m < n → wX_execute_26 post n (nI i) (nI sz) (nI g) pl (nI p) 0 (nI d) tn (nI h) op nu va le pr ne ri pi kv kp := by
  intro m
  induction m using Nat.strongRecOn with
  | _ m ih =>
    intro i g p d h va pi hm hd hi hp h8 hg H n hn
    obtain ⟨n, rfl⟩ : ∃ n', n = n' + 1 := ⟨n - 1, by omega⟩
    obtain ⟨m, rfl⟩ : ∃ m', m = m' + 1 := ⟨m - 1, by omega⟩
    have HE : ∀ e : Int32, ¬ e = 0 → gm_en sz (op p) g p d h pi = e → wX_execute_26 post n (nI (i + 1)) (nI sz) (nI g) pl (nI p) e (nI d) tn (nI h) op nu va le pr ne ri pi kv kp := by
      intro e he ee
      obtain ⟨n, rfl⟩ : ∃ n', n = n' + 1 := ⟨n - 1, by omega⟩
      rw [gm_ex_e (by rw [ee]; exact he), ee] at H
      exact gm_X_exit he (hQ _ _ _ _ _ _ _ H)
    rw [wX_execute_26]
    refine br_f (nI_nlt (a := 300) (b := i) (by omega) (by omega)) (br_t rfl (pk_lt p sz (fun hp' => pk_eq d 300 (fun hd' => nm_r (nI_1 i) (HE 2 (by decide) (gm_en2 hp' hd'))) (fun hd' => gm_X_sure hs hp' h8 hg hd hP (fun z1 z2 z3 z4 z5 => br_f (by decide) ?_) (br_t rfl ?_))) (fun hp' => nm_r (nI_1 i) (HE 1 (by decide) (gm_en1 hp')))))
    · obtain ⟨h', va', pi', hh, hE, hX⟩ := gm_str hs hF (gm_L op sz p) p h va pi (by omega) rfl z2 z3
      have b := gm_pl_20 (op := op) hs (i := p) (by omega)
      have v21 : vp_in (nI p) 21 := vp_in_nI (by omega) (by decide)
      obtain ⟨a1, a2, a3, a4⟩ := hP p (by omega)
      have s := hE (m + 1 - gm_L op sz p) g d z4 z5
      rw [show m + 1 - gm_L op sz p + gm_L op sz p = m + 1 from by omega] at s
      rw [s] at H
      unfold wpX_runStretch
      dsimp only
      rw [nI_clamp (by omega), a1, a2, pk_sub z4]
      refine ⟨v21, nm_e ⟨v21, nm_e (nm_r (nI_add d (gm_L op sz p)) ⟨gm_L op sz p + 1, hX _ p (gm_L op sz p) _ _ _ _ _ _ _ _ _ _ _ _ rfl ?_⟩)⟩⟩
      dsimp only
      exact nm_r (nI_1 i) (ih (m + 1 - gm_L op sz p) (by omega) (i + 1) _ _ _ _ _ _ (by omega) (by omega) (by omega) (by omega) hh (by omega) H n (by omega))
    · refine gm_X_step (by omega) (hF p hp') h8 hg (fun k3 => ?_) (fun k3 k4 => ?_) (fun k3 k4 e => ?_) (fun k3 k4 e => ?_)
      · exact nm_r (nI_1 i) (HE 3 (by decide) (gm_en3 hp' hd' k3))
      · exact nm_r (nI_1 i) (HE 4 (by decide) (gm_en4 hp' hd' k3 k4))
      · rw [gm_ex_h (gm_en0 hp' hd' k3 k4) e] at H
        obtain ⟨n, rfl⟩ : ∃ n', n = n' + 1 := ⟨n - 1, by omega⟩
        exact nm_r (nI_1 i) (gm_X_exit (by decide) (hQ _ _ _ _ _ _ _ H))
      · rw [gm_ex_t (gm_en0 hp' hd' k3 k4) e] at H
        exact nm_r (nI_1 i) (ih m (by omega) (i + 1) _ _ _ _ _ _ (by omega) (by omega) (by omega) (gm_nx20 (hF p hp') (by omega)) (by omega) (by omega) H n (by omega))
theorem gm_X_execute {Q : gm_R → Prop} {g : Nat} {va pi : Nat → Int32} (hs : sz ≤ 20) (hF : ∀ i, i < sz → gm_Fit (op i) (nu i)) (hp : pl = 0 ∨ (pl = 1 ∧ gm_Pl op sz le pr ne ri)) (hg : g ≤ 1000000) (H : Q (gm_ex sz op nu 301 g 0 0 0 va pi))
    (hQ : ∀ (le pr ne ri : Nat → Int32), gm_Pl op sz le pr ne ri → ∀ (en : Int32) (g p d h : Nat) (va pi : Nat → Int32), Q (en, g, p, d, h, va, pi) → post (nI sz, nI g, 1, nI p, en, nI d, tn, nI h, op, nu, va, le, pr, ne, ri, pi, kv, kp)) : wpX_execute post (nI sz, nI g, pl, nx, en, dn, tn, ht, op, nu, va, le, pr, ne, ri, pi, kv, kp) := by
  unfold wpX_execute
  dsimp only
  refine gm_X_plan hs (fun i hi => (hF i hi).1) hp (fun le' pr' ne' ri' hP => ?_)
  dsimp only
  exact ⟨302, gm_X_exec hs hF hP (hQ le' pr' ne' ri' hP) 301 0 g 0 0 0 va pi rfl (by decide) (by decide) (by decide) (by decide) hg H 302 (by decide)⟩
end
end
section
/-! the reference's run -/
theorem gm_swap {pi : Nat → Int32} {h : Nat} {x y : Int32} (h1 : 2 ≤ h) : upd (upd pi (h - 2) y) (h - 1) x = upd (upd pi (h - 1) x) (h - 2) y := by
  funext j
  unfold upd
  by_cases z1 : j = h - 1
  · rw [if_pos z1, if_neg (by omega), if_pos z1]
  · rw [if_neg z1]
    by_cases z2 : j = h - 2
    · rw [if_pos z2, if_pos z2]
    · rw [if_neg z2, if_neg z2, if_neg z1]
section
variable {post : SY → Prop} {h : Nat} {c sz' : Int32} {gs nx en dn tn : Int32} {op nu va pi qv qp : Nat → Int32}
theorem gm_Y_opr (hc : ¬ c = 6) (h1 : 2 ≤ h) (h8 : h ≤ 8) (H : post (sz', nI (h - 1), gs, en, nx, dn, tn, op, nu, va, upd pi (h - 2) (gm_cb c (pi (h - 2)) (pi (h - 1))), qv, qp)) : wpY_operate post (sz', nI h, gs, en, nx, dn, tn, op, nu, va, pi, qv, qp) c := by
  unfold wpY_operate
  dsimp only
  refine gm_Y_pop (by omega) h8 ?_
  dsimp only
  refine gm_Y_pop (by omega) (by omega) ?_
  dsimp only
  have e1 : h - 1 - 1 = h - 2 := by omega
  rw [e1]
  have K : ∀ z : Int32, z = gm_cb c (pi (h - 2)) (pi (h - 1)) → wY_operate_73 post z sz' (nI (h - 2)) gs en nx dn tn op nu va pi qv qp := by
    intro z ez
    subst ez
    refine gm_Y_push (by omega) ?_
    rw [show h - 2 + 1 = h - 1 from by omega]
    exact H
  unfold gm_cb at K
  refine br_f hc (br_c (fun z1 => K _ ?_) (fun z1 => br_c (fun z2 => K _ ?_) (fun z2 => br_c (fun z3 => K _ ?_) (fun z3 => br_c (fun z4 => K _ ?_) (fun z4 => K _ ?_)))))
  · rw [if_pos z1]
  · rw [if_neg z1, if_pos z2]
  · rw [if_neg z1, if_neg z2, if_pos z3]
  · rw [if_neg z1, if_neg z2, if_neg z3, if_pos z4]
  · rw [if_neg z1, if_neg z2, if_neg z3, if_neg z4]
theorem gm_Y_swp (h1 : 2 ≤ h) (h8 : h ≤ 8) (H : post (sz', nI h, gs, en, nx, dn, tn, op, nu, va, upd (upd pi (h - 1) (pi (h - 2))) (h - 2) (pi (h - 1)), qv, qp)) : wpY_operate post (sz', nI h, gs, en, nx, dn, tn, op, nu, va, pi, qv, qp) 6 := by
  unfold wpY_operate
  dsimp only
  refine gm_Y_pop (by omega) h8 ?_
  dsimp only
  refine gm_Y_pop (by omega) (by omega) ?_
  dsimp only
  have e1 : h - 1 - 1 = h - 2 := by omega
  rw [e1]
  refine br_t rfl (gm_Y_push (by omega) ?_)
  dsimp only
  refine gm_Y_push (by omega) ?_
  dsimp only
  rw [show h - 2 + 1 = h - 1 from by omega, show h - 1 + 1 = h from by omega, gm_swap h1]
  exact H
end
section
variable {post : Int32 → SY → Prop} {sz i h g d p : Nat} {nx en dn tn sz' : Int32} {op nu va pi qv qp : Nat → Int32}
theorem gm_Y_138 {w a x : Int32} {gs ht : Int32} (ha : w = 11 → ¬ x = 0 → post a (sz', ht, gs, en, nx, dn, tn, op, nu, va, pi, qv, qp)) (hb : ¬ (w = 11 ∧ ¬ x = 0) → post (nI (i + 1)) (sz', ht, gs, en, nx, dn, tn, op, nu, va, pi, qv, qp)) : wY_work_138 post (nI i) w a x sz' ht gs en nx dn tn op nu va pi qv qp := by
  unfold wY_work_138
  rw [nI_1 i]
  exact br_c (fun z1 => br_c (fun z2 => hb (fun k => k.2 z2)) (fun z2 => ha z1 z2)) (fun z1 => hb (fun k => z1 k.1))
theorem gm_Y_work (hi : i < 20) (hF : gm_Fit (op i) (nu i)) (h14 : ¬ op i = 14) (ht : gm_tk (op i) ≤ h) (h8 : h ≤ 8) (hp : h - gm_tk (op i) + gm_pu (op i) ≤ 8)
    (H : post (nI (gm_nx (op i) (nu i) i h pi)) (sz', nI (h - gm_tk (op i) + gm_pu (op i)), nI g, en, nx, dn, tn, op, nu, gm_va (op i) (nu i) h va pi, gm_pi (op i) (nu i) g h va pi, qv, qp)) : wpY_work post (sz', nI h, nI g, en, nx, dn, tn, op, nu, va, pi, qv, qp) (nI i) := by
  have v20 : vp_in (nI i) 20 := vp_in_nI hi (by decide)
  unfold wpY_work
  dsimp only
  rw [nI_clamp (by omega), nI_1 i]
  refine ⟨v20, ?_⟩
  obtain ⟨hC, hF2, hF3⟩ := hF
  rcases hC with e | e | e | e | e | e | e | e | e | e | e | e | e | e | e
  · rw [e, gm_t0, gm_u0] at hp
    rw [e, gm_t0] at ht
    rw [e, gm_n0, gm_t0, gm_u0, gm_v0, gm_i0, show h - 0 + 1 = h + 1 from by omega] at H
    rw [e]
    exact nm_e ⟨v20, nm_e (br_t rfl (gm_Y_push (by omega) H))⟩
  · rw [e, gm_t1, gm_u1] at hp
    rw [e, gm_t1] at ht
    rw [e, gm_n1, gm_t1, gm_u1, gm_v1, gm_i1, show h - 2 + 1 = h - 1 from by omega] at H
    rw [e]
    refine nm_e ⟨v20, nm_e (br_f (by decide) (br_t (by decide) ?_))⟩
    unfold wY_work_37
    rw [nI_1 i]
    exact gm_Y_opr (by decide) (by omega) h8 H
  · rw [e, gm_t2, gm_u2] at hp
    rw [e, gm_t2] at ht
    rw [e, gm_n2, gm_t2, gm_u2, gm_v2, gm_i2, show h - 2 + 1 = h - 1 from by omega] at H
    rw [e]
    refine nm_e ⟨v20, nm_e (br_f (by decide) (br_t (by decide) ?_))⟩
    unfold wY_work_37
    rw [nI_1 i]
    exact gm_Y_opr (by decide) (by omega) h8 H
  · rw [e, gm_t3, gm_u3] at hp
    rw [e, gm_t3] at ht
    rw [e, gm_n3, gm_t3, gm_u3, gm_v3, gm_i3, show h - 2 + 1 = h - 1 from by omega] at H
    rw [e]
    refine nm_e ⟨v20, nm_e (br_f (by decide) (br_t (by decide) ?_))⟩
    unfold wY_work_37
    rw [nI_1 i]
    exact gm_Y_opr (by decide) (by omega) h8 H
  · rw [e, gm_t4, gm_u4] at hp
    rw [e, gm_t4] at ht
    rw [e, gm_n4, gm_t4, gm_u4, gm_v4, gm_i4, show h - 2 + 1 = h - 1 from by omega] at H
    rw [e]
    refine nm_e ⟨v20, nm_e (br_f (by decide) (br_t (by decide) ?_))⟩
    unfold wY_work_37
    rw [nI_1 i]
    exact gm_Y_opr (by decide) (by omega) h8 H
  · rw [e, gm_t5, gm_u5] at hp
    rw [e, gm_t5] at ht
    rw [e, gm_n5, gm_t5, gm_u5, gm_v5, gm_i5, show h - 1 + 2 = h + 1 from by omega] at H
    rw [e]
    refine nm_e ⟨v20, nm_e (br_f (by decide) (br_f (by decide) (br_f (by decide) (br_t rfl ?_))))⟩
    rw [gm_h1 (by omega), nI_clamp (by omega)]
    exact ⟨vp_in_nI (by omega) (by decide), gm_Y_push (by omega) H⟩
  · rw [e, gm_t6, gm_u6] at hp
    rw [e, gm_t6] at ht
    rw [e, gm_n6, gm_t6, gm_u6, gm_v6, gm_i6, show h - 2 + 2 = h from by omega] at H
    rw [e]
    refine nm_e ⟨v20, nm_e (br_f (by decide) (br_f (by decide) (br_t rfl ?_)))⟩
    unfold wY_work_37
    rw [nI_1 i]
    exact gm_Y_swp (by omega) h8 H
  · rw [e, gm_t7, gm_u7] at hp
    rw [e, gm_t7] at ht
    rw [e, gm_n7, gm_t7, gm_u7, gm_v7, gm_i7, show h - 1 + 0 = h - 1 from by omega] at H
    rw [e]
    refine nm_e ⟨v20, nm_e (br_f (by decide) (br_f (by decide) (br_f (by decide) (br_f (by decide) (br_f (by decide) (br_f (by decide) (br_f (by decide) (br_f (by decide) (gm_Y_pop (by omega) h8 ?_)))))))))⟩
    dsimp only
    exact br_f (by decide) (gm_Y_138 (fun k => absurd k (by decide)) (fun _ => H))
  · rw [e, gm_t8, gm_u8] at hp
    rw [e, gm_t8] at ht
    rw [e, gm_n8, gm_t8, gm_u8, gm_v8, gm_i8, show h - 0 + 1 = h + 1 from by omega] at H
    rw [e]
    have v4 : vp_in (nu i) 4 := by obtain ⟨j, hj, ej⟩ := hF2 (Or.inl e); rw [ej]; exact vp_in_nI hj (by decide)
    exact nm_e ⟨v20, nm_e (br_f (by decide) (br_f (by decide) (br_f (by decide) (br_f (by decide) (br_t rfl ⟨v4, gm_Y_push (by omega) H⟩)))))⟩
  · rw [e, gm_t9, gm_u9] at hp
    rw [e, gm_t9] at ht
    rw [e, gm_n9, gm_t9, gm_u9, gm_v9, gm_i9, show h - 1 + 0 = h - 1 from by omega] at H
    rw [e]
    refine nm_e ⟨v20, nm_e (br_f (by decide) (br_f (by decide) (br_f (by decide) (br_f (by decide) (br_f (by decide) (br_f (by decide) (br_f (by decide) (br_f (by decide) (gm_Y_pop (by omega) h8 ?_)))))))))⟩
    dsimp only
    have v4 : vp_in (nu i) 4 := by obtain ⟨j, hj, ej⟩ := hF2 (Or.inr e); rw [ej]; exact vp_in_nI hj (by decide)
    exact br_t rfl ⟨v4, nm_e (gm_Y_138 (fun k => absurd k (by decide)) (fun _ => H))⟩
  · rw [e, gm_t10, gm_u10] at hp
    rw [e, gm_t10] at ht
    rw [e, gm_n10, gm_t10, gm_u10, gm_v10, gm_i10, show h - 0 + 0 = h from by omega] at H
    rw [e]
    obtain ⟨j, hj, ej⟩ := hF3 (Or.inl e)
    rw [ej, nI_clamp (by omega)] at H
    rw [ej]
    exact nm_e ⟨v20, nm_e (br_f (by decide) (br_f (by decide) (br_f (by decide) (br_f (by decide) (br_f (by decide) (br_f (by decide) (br_t rfl H)))))))⟩
  · rw [e, gm_t11, gm_u11] at hp
    rw [e, gm_t11] at ht
    rw [e, gm_n11, gm_t11, gm_u11, gm_v11, gm_i11, show h - 1 + 0 = h - 1 from by omega] at H
    rw [e]
    refine nm_e ⟨v20, nm_e (br_f (by decide) (br_f (by decide) (br_f (by decide) (br_f (by decide) (br_f (by decide) (br_f (by decide) (br_f (by decide) (br_f (by decide) (gm_Y_pop (by omega) h8 ?_)))))))))⟩
    dsimp only
    obtain ⟨j, hj, ej⟩ := hF3 (Or.inr e)
    rw [ej, nI_clamp (by omega)] at H
    rw [ej]
    refine br_f (by decide) (gm_Y_138 (fun _ z => ?_) (fun z => ?_))
    · rw [if_neg z] at H; exact H
    · rw [if_pos (by by_cases k : pi (h - 1) = 0; exact k; exact absurd ⟨rfl, k⟩ z)] at H; exact H
  · rw [e, gm_t12, gm_u12] at hp
    rw [e, gm_t12] at ht
    rw [e, gm_n12, gm_t12, gm_u12, gm_v12, gm_i12, show h - 1 + 0 = h - 1 from by omega] at H
    rw [e]
    refine nm_e ⟨v20, nm_e (br_f (by decide) (br_f (by decide) (br_f (by decide) (br_f (by decide) (br_f (by decide) (br_f (by decide) (br_f (by decide) (br_f (by decide) (gm_Y_pop (by omega) h8 ?_)))))))))⟩
    dsimp only
    exact br_f (by decide) (gm_Y_138 (fun k => absurd k (by decide)) (fun _ => H))
  · rw [e, gm_t13, gm_u13] at hp
    rw [e, gm_t13] at ht
    rw [e, gm_n13, gm_t13, gm_u13, gm_v13, gm_i13, show h - 0 + 1 = h + 1 from by omega] at H
    rw [e]
    exact nm_e ⟨v20, nm_e (br_f (by decide) (br_f (by decide) (br_f (by decide) (br_f (by decide) (br_f (by decide) (br_t rfl (gm_Y_push (by omega) H)))))))⟩
  · exact absurd e h14
theorem gm_Y_end {post : Int32 → Prop} {nx : Int32} (hs : sz ≤ 20) (hF : ∀ i, i < sz → gm_Fit (op i) (nu i)) (h8 : h ≤ 8) (hg : g ≤ 1000000) (hd : d ≤ 300) (hp : p ≤ 20) (H : post (gm_en sz (op p) g p d h pi)) : wpY_endAt post (nI sz, nI h, nI g, en, nx, nI d, tn, op, nu, va, pi, qv, qp) (nI p) := by
  have c16 := gm_co16 (op p) h pi
  unfold wpY_endAt
  dsimp only
  rw [nI_clamp (by omega)]
  refine pk_lt p sz (fun hp' => pk_eq d 300 (fun hd' => ?_) (fun hd' => ⟨vp_in_nI (by omega) (by decide), gm_Y_traps (hF p hp').1 h8 (fun k => br_f (by decide) ?_) (fun k => br_t rfl ⟨vp_in_nI (by omega) (by decide), gm_Y_price (hF p hp').1 (by omega) h8 (pk_le (gm_co (op p) h pi) g (fun z => ?_) (fun z => ?_))⟩)⟩)) (fun hp' => ?_)
  · rw [gm_en2 hp' hd'] at H; exact H
  · rw [gm_en3 hp' hd' k] at H; exact H
  · rw [gm_en0 hp' hd' k z] at H; exact H
  · rw [gm_en4 hp' hd' k (by omega)] at H; exact H
  · rw [gm_en1 hp'] at H; exact H
theorem gm_Y_loop {Q : gm_R → Prop} {g0 : Nat} (hs : sz ≤ 20) (hF : ∀ i, i < sz → gm_Fit (op i) (nu i)) (hg0 : g0 ≤ 1000000)
    (hQ : ∀ (en : Int32) (g p d h : Nat) (va pi : Nat → Int32), Q (en, g, p, d, h, va, pi) → post en (nI sz, nI h, nI g, en, nI p, nI d, nI (g0 - g), op, nu, va, pi, qv, qp)) :
    ∀ (m g p d h : Nat) (va pi : Nat → Int32), m + d = 301 → d ≤ 300 → p ≤ 20 → h ≤ 8 → g ≤ g0 → Q (gm_ex sz op nu m g p d h va pi) → ∀ n, m < n → wY_run_29 post n (nI sz) (nI h) (nI g) (gm_en sz (op p) g p d h pi) (nI p) (nI d) (nI (g0 - g)) op nu va pi qv qp := by
  intro m
  induction m with
  | zero => intro g p d h va pi hm hd; omega
  | succ m ih =>
    intro g p d h va pi hm hd hp h8 hg H n hn
    obtain ⟨n, rfl⟩ : ∃ n', n = n' + 1 := ⟨n - 1, by omega⟩
    rw [wY_run_29]
    by_cases he : gm_en sz (op p) g p d h pi = 0
    · have f := gm_en_of he
      have v20 : vp_in (nI p) 20 := vp_in_nI (by omega) (by decide)
      refine br_t he ⟨v20, ?_⟩
      rw [nI_clamp (by omega)]
      have es : nI (g0 - g) + nI (gm_co (op p) h pi) = nI (g0 - (g - gm_co (op p) h pi)) := by
        rw [nI_add]
        exact congrArg nI (by omega)
      refine gm_Y_price (hF p f.1).1 f.2.2.1 h8 (nm_r (pk_sub f.2.2.2.2) (nm_r es (nm_r (nI_1 d) ⟨v20, ?_⟩)))
      by_cases h14 : op p = 14
      · obtain ⟨n, rfl⟩ : ∃ n', n = n' + 1 := ⟨n - 1, by omega⟩
        have e0 : gm_co (op p) h pi = 0 := by rw [h14]; rfl
        rw [gm_ex_h he h14] at H
        rw [e0, Nat.sub_zero]
        refine br_t h14 ?_
        rw [wY_run_29]
        exact br_f (by decide) (hQ _ _ _ _ _ _ _ H)
      · rw [gm_ex_t he h14] at H
        refine br_f h14 (gm_Y_work (by omega) (hF p f.1) h14 f.2.2.1 h8 f.2.2.2.1 ?_)
        dsimp only
        refine gm_Y_end hs hF f.2.2.2.1 (by omega) (by omega) (gm_nx20 (hF p f.1) (by omega)) ?_
        exact ih _ _ _ _ _ _ (by omega) (by omega) (gm_nx20 (hF p f.1) (by omega)) f.2.2.2.1 (by omega) H n (by omega)
    · rw [gm_ex_e he] at H
      exact br_f he (hQ _ _ _ _ _ _ _ H)
theorem gm_Y_run {Q : gm_R → Prop} {g : Nat} {ht : Int32} (hs : sz ≤ 20) (hF : ∀ i, i < sz → gm_Fit (op i) (nu i)) (hg : g ≤ 1000000) (H : Q (gm_ex sz op nu 301 g 0 0 0 va pi))
    (hQ : ∀ (en : Int32) (g' p d h : Nat) (va pi : Nat → Int32), Q (en, g', p, d, h, va, pi) → post en (nI sz, nI h, nI g', en, nI p, nI d, nI (g - g'), op, nu, va, pi, qv, qp)) : wpY_run post (nI sz, ht, nI g, en, nx, dn, tn, op, nu, va, pi, qv, qp) := by
  unfold wpY_run
  dsimp only
  have K := gm_Y_loop (post := post) (qv := qv) (qp := qp) (g0 := g) hs hF hg hQ 301 g 0 0 0 va pi rfl (by decide) (by decide) (by decide) (Nat.le_refl _) H 302 (by decide)
  rw [Nat.sub_self] at K
  exact gm_Y_end (h := 0) (d := 0) (p := 0) hs hF (by decide) hg (by decide) (by decide) ⟨302, K⟩
end
end
section
/-! the bill's loops on both sides -/
def gm_mix (n : Nat) (f g : Nat → Int32) : Nat → Int32 := fun j => if j < n then f j else g j
theorem gm_mix_0 {f g : Nat → Int32} : gm_mix 0 f g = g := by
  funext j
  exact if_neg (by omega)
theorem gm_mix_s {n : Nat} {f g : Nat → Int32} : upd (gm_mix n f g) n (f n) = gm_mix (n + 1) f g := by
  funext j
  unfold upd gm_mix
  by_cases z : j = n
  · rw [if_pos z, if_pos (by omega), z]
  · rw [if_neg z]
    by_cases z2 : j < n
    · rw [if_pos z2, if_pos (by omega)]
    · rw [if_neg z2, if_neg (by omega)]
theorem gm_mix_4 {n : Nat} {f g : Nat → Int32} : upd (gm_mix (min n 4) f g) (n % 4) (f (n % 4)) = gm_mix (min (n + 1) 4) f g := by
  funext j
  unfold upd gm_mix
  by_cases z : j = n % 4
  · rw [if_pos z, if_pos (by omega), z]
  · rw [if_neg z]
    by_cases z2 : j < min n 4
    · rw [if_pos z2, if_pos (by omega)]
    · rw [if_neg z2, if_neg (by omega)]
theorem gm_mix_l {n j : Nat} {f g : Nat → Int32} (h : j < n) : gm_mix n f g j = f j := if_pos h
theorem gm_mm {n : Nat} {f g h : Nat → Int32} : gm_mix n (gm_mix n f g) h = gm_mix n f h := by
  funext j
  unfold gm_mix
  by_cases z : j < n
  · rw [if_pos z, if_pos z, if_pos z]
  · rw [if_neg z, if_neg z]
section
variable {post : Int32 → SX → Prop} {sz : Nat} {x1 x2 x3 x4 x5 x6 : Int32} {gs pl nx en dn tn ht : Int32} {op nu va le pr ne ri pi kv kp : Nat → Int32}
theorem gm_X_b158 (H : post x6 (nI sz, x1, pl, x2, x3, x4, tn, x5, op, nu, va, le, pr, ne, ri, gm_mix 8 kp pi, kv, kp)) : ∀ k i, i + k = 8 → wX_bill_158 post x1 x2 x3 x4 x5 x6 (nI sz) gs pl nx en dn tn ht (k + 1) (nI i) op nu va le pr ne ri (gm_mix i kp pi) kv kp := by
  intro k
  induction k with
  | zero =>
    intro i hi
    obtain rfl : i = 8 := by omega
    rw [wX_bill_158]
    exact br_t (by decide) H
  | succ k ih =>
    intro i hi
    have v : vp_in (nI i) 8 := vp_in_nI (by omega) (by decide)
    rw [wX_bill_158]
    refine br_f (nI_ge (b := 8) (by omega) (by decide)) ⟨v, v, ?_⟩
    rw [nI_clamp (by omega)]
    exact nm_r gm_mix_s (nm_r (nI_1 i) (ih (i + 1) (by omega)))
theorem gm_X_b129 (H : post x6 (nI sz, x1, pl, x2, x3, x4, tn, x5, op, nu, gm_mix 4 kv va, le, pr, ne, ri, gm_mix 8 kp pi, kv, kp)) : ∀ k i, i + k = 4 → wX_bill_129 post x1 x2 x3 x4 x5 x6 (nI sz) gs pl nx en dn tn ht (k + 1) (nI i) op nu (gm_mix i kv va) le pr ne ri pi kv kp := by
  intro k
  induction k with
  | zero =>
    intro i hi
    obtain rfl : i = 4 := by omega
    rw [wX_bill_129]
    have K := gm_X_b158 (gs := gs) (nx := nx) (en := en) (dn := dn) (ht := ht) H 8 0 rfl
    rw [gm_mix_0] at K
    exact br_t (by decide) ⟨9, K⟩
  | succ k ih =>
    intro i hi
    have v : vp_in (nI i) 4 := vp_in_nI (by omega) (by decide)
    rw [wX_bill_129]
    refine br_f (nI_ge (b := 4) (by omega) (by decide)) ⟨v, v, ?_⟩
    rw [nI_clamp (by omega)]
    exact nm_r gm_mix_s (nm_r (nI_1 i) (ih (i + 1) (by omega)))
theorem gm_X_b56 {Q : gm_R → Prop} (hs : sz ≤ 20) (hF : ∀ i, i < sz → gm_Fit (op i) (nu i)) (hp : pl = 0 ∨ (pl = 1 ∧ gm_Pl op sz le pr ne ri)) (HQ : Q (gm_ex sz op nu 301 1000000 0 0 0 va pi))
    (H : ∀ (le pr ne ri : Nat → Int32), gm_Pl op sz le pr ne ri → ∀ (e' : Int32) (g' p' d' h' : Nat) (va' pi' : Nat → Int32), Q (e', g', p', d', h', va', pi') → post (1000000 - nI g') (nI sz, gs, 1, nx, en, dn, tn, ht, op, nu, gm_mix 4 kv va', le, pr, ne, ri, gm_mix 8 (gm_mix 8 pi kp) pi', kv, gm_mix 8 pi kp)) :
    ∀ k i, i + k = 8 → wX_bill_56 post (nI sz) gs pl nx en dn tn ht (k + 1) (nI i) op nu va le pr ne ri pi kv (gm_mix i pi kp) := by
  intro k
  induction k with
  | zero =>
    intro i hi
    obtain rfl : i = 8 := by omega
    rw [wX_bill_56]
    refine br_t (by decide) (gm_X_execute (g := 1000000) (Q := Q) hs hF hp (by decide) HQ (fun le' pr' ne' ri' hP e' g' p' d' h' va' pi' hq => ?_))
    dsimp only
    refine nm_e ⟨5, ?_⟩
    have K := gm_X_b129 (gs := nI g') (nx := nI p') (en := e') (dn := nI d') (ht := nI h') (H le' pr' ne' ri' hP e' g' p' d' h' va' pi' hq) 4 0 rfl
    rw [gm_mix_0] at K
    exact K
  | succ k ih =>
    intro i hi
    have v : vp_in (nI i) 8 := vp_in_nI (by omega) (by decide)
    rw [wX_bill_56]
    refine br_f (nI_ge (b := 8) (by omega) (by decide)) ⟨v, v, ?_⟩
    rw [nI_clamp (by omega)]
    exact nm_r gm_mix_s (nm_r (nI_1 i) (ih (i + 1) (by omega)))
theorem gm_X_b31 (H : ∃ n56 : Nat, wX_bill_56 post (nI sz) gs pl nx en dn tn ht n56 0 op nu va le pr ne ri pi (gm_mix 4 va kv) kp) : ∀ k i, i + k = 4 → wX_bill_31 post (nI sz) gs pl nx en dn tn ht (k + 1) (nI i) op nu va le pr ne ri pi (gm_mix i va kv) kp := by
  intro k
  induction k with
  | zero =>
    intro i hi
    obtain rfl : i = 4 := by omega
    rw [wX_bill_31]
    exact br_t (by decide) H
  | succ k ih =>
    intro i hi
    have v : vp_in (nI i) 4 := vp_in_nI (by omega) (by decide)
    rw [wX_bill_31]
    refine br_f (nI_ge (b := 4) (by omega) (by decide)) ⟨v, v, ?_⟩
    rw [nI_clamp (by omega)]
    exact nm_r gm_mix_s (nm_r (nI_1 i) (ih (i + 1) (by omega)))
end
theorem gm_scan {sz : Nat} {op : Nat → Int32} (hs : sz ≤ 20) : ∀ k i, i + k = sz →
    ((∀ (post : Int32 → SX → Prop) (gs pl nx en dn tn ht : Int32) (nu va le pr ne ri pi kv kp : Nat → Int32), post (-1) (nI sz, gs, pl, nx, en, dn, tn, ht, op, nu, va, le, pr, ne, ri, pi, kv, kp) → wX_bill_2 post (nI sz) gs pl nx en dn tn ht op nu va le pr ne ri pi kv kp (k + 1) (nI i)) ∧ (∀ (post : Int32 → Prop) (gs nx en dn tn ht : Int32) (nu va pi qv qp : Nat → Int32), post 1 → wY_asksGas_2 post (nI sz) ht gs en nx dn tn op nu va pi qv qp (k + 1) (nI i)))
    ∨ ((∀ (post : Int32 → SX → Prop) (gs pl nx en dn tn ht : Int32) (nu va le pr ne ri pi kv kp : Nat → Int32), (∃ n31 : Nat, wX_bill_31 post (nI sz) gs pl nx en dn tn ht n31 0 op nu va le pr ne ri pi kv kp) → wX_bill_2 post (nI sz) gs pl nx en dn tn ht op nu va le pr ne ri pi kv kp (k + 1) (nI i)) ∧ (∀ (post : Int32 → Prop) (gs nx en dn tn ht : Int32) (nu va pi qv qp : Nat → Int32), post 0 → wY_asksGas_2 post (nI sz) ht gs en nx dn tn op nu va pi qv qp (k + 1) (nI i))) := by
  intro k
  induction k with
  | zero =>
    intro i hi
    have c : nI sz ≤ nI i := nI_le (by omega) (by omega)
    refine Or.inr ⟨fun post gs pl nx en dn tn ht nu va le pr ne ri pi kv kp H => ?_, fun post gs nx en dn tn ht nu va pi qv qp H => ?_⟩
    · rw [wX_bill_2]; exact br_t c H
    · rw [wY_asksGas_2]; exact br_t c H
  | succ k ih =>
    intro i hi
    have c : ¬ nI sz ≤ nI i := nI_ge (by omega) (by omega)
    have v : vp_in (nI i) 20 := vp_in_nI (by omega) (by decide)
    have ci : (nI i).toNatClampNeg = i := nI_clamp (by omega)
    by_cases z : op i = 13
    · refine Or.inl ⟨fun post gs pl nx en dn tn ht nu va le pr ne ri pi kv kp H => ?_, fun post gs nx en dn tn ht nu va pi qv qp H => ?_⟩
      · rw [wX_bill_2]; dsimp only; rw [ci]; exact br_f c ⟨v, br_t z H⟩
      · rw [wY_asksGas_2]; dsimp only; rw [ci]; exact br_f c ⟨v, br_t z H⟩
    · rcases ih (i + 1) (by omega) with ⟨hX, hY⟩ | ⟨hX, hY⟩
      · refine Or.inl ⟨fun post gs pl nx en dn tn ht nu va le pr ne ri pi kv kp H => ?_, fun post gs nx en dn tn ht nu va pi qv qp H => ?_⟩
        · rw [wX_bill_2]; dsimp only; rw [ci]; exact br_f c ⟨v, br_f z (nm_r (nI_1 i) (hX _ _ _ _ _ _ _ _ _ _ _ _ _ _ _ _ _ H))⟩
        · rw [wY_asksGas_2]; dsimp only; rw [ci]; exact br_f c ⟨v, br_f z (nm_r (nI_1 i) (hY _ _ _ _ _ _ _ _ _ _ _ _ H))⟩
      · refine Or.inr ⟨fun post gs pl nx en dn tn ht nu va le pr ne ri pi kv kp H => ?_, fun post gs nx en dn tn ht nu va pi qv qp H => ?_⟩
        · rw [wX_bill_2]; dsimp only; rw [ci]; exact br_f c ⟨v, br_f z (nm_r (nI_1 i) (hX _ _ _ _ _ _ _ _ _ _ _ _ _ _ _ _ _ H))⟩
        · rw [wY_asksGas_2]; dsimp only; rw [ci]; exact br_f c ⟨v, br_f z (nm_r (nI_1 i) (hY _ _ _ _ _ _ _ _ _ _ _ _ H))⟩
section
variable {post : SY → Prop} {sz : Nat} {gs nx en dn tn ht : Int32} {op nu va pi qv qp : Nat → Int32}
theorem gm_and3 {i : Nat} (hi : i < 8) : nI i &&& 3 = nI (i % 4) := pk_andN (by omega) 2 (by decide)
theorem gm_Y_kp (H : post (nI sz, ht, gs, en, nx, dn, tn, op, nu, va, pi, gm_mix 4 va qv, gm_mix 8 pi qp)) : ∀ k i, i + k = 8 → wY_keep_2 post (nI sz) ht gs en nx dn tn (k + 1) (nI i) op nu va pi (gm_mix (min i 4) va qv) (gm_mix i pi qp) := by
  intro k
  induction k with
  | zero =>
    intro i hi
    obtain rfl : i = 8 := by omega
    rw [wY_keep_2]
    exact br_t (by decide) H
  | succ k ih =>
    intro i hi
    have v : vp_in (nI i) 8 := vp_in_nI (by omega) (by decide)
    have v4 : vp_in (nI (i % 4)) 4 := vp_in_nI (by omega) (by decide)
    rw [wY_keep_2]
    refine br_f (nI_ge (b := 8) (by omega) (by decide)) ⟨v, v, ?_⟩
    rw [gm_and3 (by omega), nI_clamp (by omega), nI_clamp (by omega)]
    exact nm_r gm_mix_s ⟨v4, v4, nm_r gm_mix_4 (nm_r (nI_1 i) (ih (i + 1) (by omega)))⟩
theorem gm_Y_keep (H : post (nI sz, ht, gs, en, nx, dn, tn, op, nu, va, pi, gm_mix 4 va qv, gm_mix 8 pi qp)) : wpY_keep post (nI sz, ht, gs, en, nx, dn, tn, op, nu, va, pi, qv, qp) := by
  unfold wpY_keep
  dsimp only
  have K := gm_Y_kp H 8 0 rfl
  rw [show min 0 4 = 0 from rfl, gm_mix_0, gm_mix_0] at K
  exact ⟨9, K⟩
theorem gm_Y_gb (H : post (nI sz, ht, gs, en, nx, dn, tn, op, nu, gm_mix 4 qv va, gm_mix 8 qp pi, qv, qp)) : ∀ k i, i + k = 8 → wY_giveBack_2 post (nI sz) ht gs en nx dn tn (k + 1) (nI i) op nu (gm_mix (min i 4) qv va) (gm_mix i qp pi) qv qp := by
  intro k
  induction k with
  | zero =>
    intro i hi
    obtain rfl : i = 8 := by omega
    rw [wY_giveBack_2]
    exact br_t (by decide) H
  | succ k ih =>
    intro i hi
    have v : vp_in (nI i) 8 := vp_in_nI (by omega) (by decide)
    have v4 : vp_in (nI (i % 4)) 4 := vp_in_nI (by omega) (by decide)
    rw [wY_giveBack_2]
    refine br_f (nI_ge (b := 8) (by omega) (by decide)) ⟨v, v, ?_⟩
    rw [gm_and3 (by omega), nI_clamp (by omega), nI_clamp (by omega)]
    exact nm_r gm_mix_s ⟨v4, v4, nm_r gm_mix_4 (nm_r (nI_1 i) (ih (i + 1) (by omega)))⟩
theorem gm_Y_giveBack (H : post (nI sz, ht, gs, en, nx, dn, tn, op, nu, gm_mix 4 qv va, gm_mix 8 qp pi, qv, qp)) : wpY_giveBack post (nI sz, ht, gs, en, nx, dn, tn, op, nu, va, pi, qv, qp) := by
  unfold wpY_giveBack
  dsimp only
  have K := gm_Y_gb H 8 0 rfl
  rw [show min 0 4 = 0 from rfl, gm_mix_0, gm_mix_0] at K
  exact ⟨9, K⟩
end
end
section
/-! the relation and what is owed -/
def gm_Inv (sz g h : Nat) (pl : Int32) (op nu le pr ne ri : Nat → Int32) : Prop := sz ≤ 20 ∧ g ≤ 100000 ∧ h ≤ 8 ∧ (∀ i, i < sz → gm_Fit (op i) (nu i)) ∧ (pl = 0 ∨ (pl = 1 ∧ gm_Pl op sz le pr ne ri))
/-- the two objects hold one program, one set of variables, one pile, gas and account of the last run; a plan, if there is one, is the program's -/
def i_Rel (_ : Nat) (u : SX) (v : SY) : Prop := ∃ (sz g h : Nat) (pl nx en dn tn : Int32) (op nu va le pr ne ri pi kv kp qv qp : Nat → Int32), u = (nI sz, nI g, pl, nx, en, dn, tn, nI h, op, nu, va, le, pr, ne, ri, pi, kv, kp) ∧ v = (nI sz, nI h, nI g, en, nx, dn, tn, op, nu, va, pi, qv, qp) ∧ gm_Inv sz g h pl op nu le pr ne ri
theorem gm_el {P : SX → SY → Prop} {k : Nat} {u : SX} {v : SY} (H : ∀ (sz g h : Nat) (pl nx en dn tn : Int32) (op nu va le pr ne ri pi kv kp qv qp : Nat → Int32), gm_Inv sz g h pl op nu le pr ne ri → P (nI sz, nI g, pl, nx, en, dn, tn, nI h, op, nu, va, le, pr, ne, ri, pi, kv, kp) (nI sz, nI h, nI g, en, nx, dn, tn, op, nu, va, pi, qv, qp)) (I : i_Rel k u v) : P u v := by
  obtain ⟨sz, g, h, pl, nx, en, dn, tn, op, nu, va, le, pr, ne, ri, pi, kv, kp, qv, qp, eu, ev, hI⟩ := I
  rw [eu, ev]
  exact H sz g h pl nx en dn tn op nu va le pr ne ri pi kv kp qv qp hI
theorem gm_mk {k : Nat} {sz g h : Nat} {pl nx en dn tn : Int32} {op nu va le pr ne ri pi kv kp qv qp : Nat → Int32} (hI : gm_Inv sz g h pl op nu le pr ne ri) : i_Rel k (nI sz, nI g, pl, nx, en, dn, tn, nI h, op, nu, va, le, pr, ne, ri, pi, kv, kp) (nI sz, nI h, nI g, en, nx, dn, tn, op, nu, va, pi, qv, qp) :=
  ⟨sz, g, h, pl, nx, en, dn, tn, op, nu, va, le, pr, ne, ri, pi, kv, kp, qv, qp, rfl, rfl, hI⟩
theorem i_up {k : Nat} {u : SX} {v : SY} (h : i_Rel k u v) : i_Rel (k + 4) u v := h
theorem i_vc0 : wpX_init (fun u => wpY_init (fun v => i_Rel 0 u v)) :=
  gm_mk (k := 0) (sz := 0) (g := 0) (h := 0) ⟨by decide, by decide, by decide, fun i hi => absurd hi (by omega), Or.inl rfl⟩
theorem gm_Fit_u {op nu : Nat → Int32} {sz j : Nat} {w a : Int32} (hF : ∀ i, i < sz → ¬ i = j → gm_Fit (op i) (nu i)) (hf : gm_Fit w a) : ∀ i, i < sz → gm_Fit (upd op j w i) (upd nu j a i) := by
  intro i hi
  by_cases z : i = j
  · subst z; rw [pk_us, pk_us]; exact hf
  · rw [pk_un z, pk_un z]; exact hF i hi z
theorem i_vc_append {k : Nat} {u : SX} {v : SY} (I : i_Rel k u v) (hk : k + 4 ≤ 2048) (v1 : Int32) (v2 : Int32) : wpX_append (fun r u' => wpY_append (fun r' v' => r' = r ∧ i_Rel (k + 4) u' v') v v1 v2) u v1 v2 := by
  refine gm_el (P := fun u v => wpX_append (fun r u' => wpY_append (fun r' v' => r' = r ∧ i_Rel (k + 4) u' v') v v1 v2) u v1 v2) ?_ I
  intro sz g h pl nx en dn tn op nu va le pr ne ri pi kv kp qv qp hI
  have hs := hI.1
  unfold wpX_append wpY_append
  dsimp only
  rcases gm_bad v1 v2 with ⟨hf, hX, hY⟩ | ⟨hX, hY⟩
  · refine hX _ _ (br_t rfl (br_c (fun z => hY _ _ (br_f (by decide) (br_t z ⟨rfl, gm_mk hI⟩))) (fun z => ?_)))
    have hz : sz < 20 := by
      by_cases q : sz = 20
      · exact absurd (by rw [q]; rfl) z
      · omega
    have v20 : vp_in (nI sz) 20 := vp_in_nI hz (by decide)
    rw [nI_clamp (by omega), nI_1 sz]
    refine ⟨v20, nm_e ⟨v20, nm_e (nm_e (hY _ _ (br_f (by decide) (br_f z ⟨v20, nm_e ⟨v20, nm_e (nm_e ⟨rfl, ?_⟩)⟩⟩))))⟩⟩
    exact gm_mk ⟨by omega, hI.2.1, hI.2.2.1, gm_Fit_u (fun i hi ne => hI.2.2.2.1 i (by omega)) hf, Or.inl rfl⟩
  · exact hX _ _ (br_f (by decide) (hY _ _ (br_t rfl ⟨rfl, gm_mk hI⟩)))
theorem i_vc_change {k : Nat} {u : SX} {v : SY} (I : i_Rel k u v) (hk : k + 4 ≤ 2048) (v1 : Int32) (v2 : Int32) (v3 : Int32) : wpX_change (fun r u' => wpY_change (fun r' v' => r' = r ∧ i_Rel (k + 4) u' v') v v1 v2 v3) u v1 v2 v3 := by
  refine gm_el (P := fun u v => wpX_change (fun r u' => wpY_change (fun r' v' => r' = r ∧ i_Rel (k + 4) u' v') v v1 v2 v3) u v1 v2 v3) ?_ I
  intro sz g h pl nx en dn tn op nu va le pr ne ri pi kv kp qv qp hI
  have hs := hI.1
  unfold wpX_change wpY_change
  dsimp only
  rcases pk_ix v1 (n := sz) (by omega) with h0 | h1 | ⟨j, hj, rfl⟩
  · exact br_t h0 (br_t h0 ⟨rfl, gm_mk hI⟩)
  · have h0 : ¬ v1 < 0 := Int32.not_lt.mpr (Int32.le_trans (nI_pos' (by omega)) h1)
    exact br_f h0 (br_t h1 (br_f h0 (br_t h1 ⟨rfl, gm_mk hI⟩)))
  · have h0 : ¬ nI j < 0 := nI_pos (by omega)
    have h1 : ¬ nI sz ≤ nI j := nI_ge hj (by omega)
    have v20 : vp_in (nI j) 20 := vp_in_nI (by omega) (by decide)
    rw [nI_clamp (by omega)]
    rcases gm_bad v2 v3 with ⟨hf, hX, hY⟩ | ⟨hX, hY⟩
    · refine br_f h0 (br_f h1 (hX _ _ (br_t rfl ⟨v20, nm_e ⟨v20, nm_e ⟨v20, nm_e (br_f h0 (br_f h1 (hY _ _ (br_f (by decide) ⟨v20, nm_e ⟨v20, nm_e ⟨v20, nm_e ⟨rfl, ?_⟩⟩⟩⟩))))⟩⟩⟩)))
      exact gm_mk ⟨hs, hI.2.1, hI.2.2.1, gm_Fit_u (fun i hi ne => hI.2.2.2.1 i hi) hf, Or.inl rfl⟩
    · exact br_f h0 (br_f h1 (hX _ _ (br_f (by decide) (br_f h0 (br_f h1 (hY _ _ (br_t rfl ⟨rfl, gm_mk hI⟩)))))))
theorem i_vc_clear {k : Nat} {u : SX} {v : SY} (I : i_Rel k u v) (hk : k + 4 ≤ 2048) : wpX_clear (fun u' => wpY_clear (fun v' => i_Rel (k + 4) u' v') v) u := by
  refine gm_el (P := fun u v => wpX_clear (fun u' => wpY_clear (fun v' => i_Rel (k + 4) u' v') v) u) ?_ I
  intro sz g h pl nx en dn tn op nu va le pr ne ri pi kv kp qv qp hI
  exact gm_mk (k := k + 4) (sz := 0) ⟨by decide, hI.2.1, hI.2.2.1, fun i hi => absurd hi (by omega), Or.inl rfl⟩
theorem i_vc_size {k : Nat} {u : SX} {v : SY} (I : i_Rel k u v) (hk : k + 4 ≤ 2048) : wpX_size (fun r => wpY_size (fun r' => r' = r ∧ i_Rel (k + 4) u v) v) u := by
  refine gm_el (P := fun u v => i_Rel (k + 4) u v → wpX_size (fun r => wpY_size (fun r' => r' = r ∧ i_Rel (k + 4) u v) v) u) ?_ I (i_up I)
  intro sz g h pl nx en dn tn op nu va le pr ne ri pi kv kp qv qp hI J
  exact And.intro rfl J
theorem i_vc_set {k : Nat} {u : SX} {v : SY} (I : i_Rel k u v) (hk : k + 4 ≤ 2048) (v1 : Int32) (v2 : Int32) : wpX_set (fun r u' => wpY_set (fun r' v' => r' = r ∧ i_Rel (k + 4) u' v') v v1 v2) u v1 v2 := by
  refine gm_el (P := fun u v => wpX_set (fun r u' => wpY_set (fun r' v' => r' = r ∧ i_Rel (k + 4) u' v') v v1 v2) u v1 v2) ?_ I
  intro sz g h pl nx en dn tn op nu va le pr ne ri pi kv kp qv qp hI
  unfold wpX_set wpY_set
  dsimp only
  by_cases h0 : v1 < 0
  · exact br_t h0 (br_t h0 ⟨rfl, gm_mk hI⟩)
  · by_cases h3 : v1 ≤ 3
    · obtain ⟨j, hj, rfl⟩ := nI_of2 (M := 3) (n := 3) (by decide) h0 h3
      have v4 : vp_in (nI j) 4 := vp_in_nI (by omega) (by decide)
      exact br_f h0 (br_t h3 ⟨v4, nm_e (br_f h0 (br_t h3 ⟨v4, nm_e ⟨rfl, gm_mk hI⟩⟩))⟩)
    · exact br_f h0 (br_f h3 (br_f h0 (br_f h3 ⟨rfl, gm_mk hI⟩)))
theorem i_vc_get {k : Nat} {u : SX} {v : SY} (I : i_Rel k u v) (hk : k + 4 ≤ 2048) (v1 : Int32) : wpX_get (fun r => wpY_get (fun r' => r' = r ∧ i_Rel (k + 4) u v) v v1) u v1 := by
  refine gm_el (P := fun u v => i_Rel (k + 4) u v → wpX_get (fun r => wpY_get (fun r' => r' = r ∧ i_Rel (k + 4) u v) v v1) u v1) ?_ I (i_up I)
  intro sz g h pl nx en dn tn op nu va le pr ne ri pi kv kp qv qp hI J
  unfold wpX_get wpY_get
  dsimp only
  by_cases h0 : v1 < 0
  · exact br_t h0 (br_t h0 ⟨rfl, J⟩)
  · by_cases h3 : v1 ≤ 3
    · obtain ⟨j, hj, rfl⟩ := nI_of2 (M := 3) (n := 3) (by decide) h0 h3
      have v4 : vp_in (nI j) 4 := vp_in_nI (by omega) (by decide)
      exact br_f h0 (br_t h3 ⟨v4, br_f h0 (br_t h3 ⟨v4, rfl, J⟩)⟩)
    · exact br_f h0 (br_f h3 (br_f h0 (br_f h3 ⟨rfl, J⟩)))
theorem i_vc_fund {k : Nat} {u : SX} {v : SY} (I : i_Rel k u v) (hk : k + 4 ≤ 2048) (v1 : Int32) : wpX_fund (fun r u' => wpY_fund (fun r' v' => r' = r ∧ i_Rel (k + 4) u' v') v v1) u v1 := by
  refine gm_el (P := fun u v => wpX_fund (fun r u' => wpY_fund (fun r' v' => r' = r ∧ i_Rel (k + 4) u' v') v v1) u v1) ?_ I
  intro sz g h pl nx en dn tn op nu va le pr ne ri pi kv kp qv qp hI
  unfold wpX_fund wpY_fund
  dsimp only
  by_cases h0 : v1 < 0
  · exact br_t h0 (br_t h0 ⟨rfl, gm_mk hI⟩)
  · by_cases h3 : 2000 < v1
    · exact br_f h0 (br_t h3 (br_f h0 (br_t h3 ⟨rfl, gm_mk hI⟩)))
    · obtain ⟨j, hj, rfl⟩ := nI_of2 (M := 2000) (n := 2000) (by decide) h0 (Int32.not_lt.mp h3)
      have hg := hI.2.1
      rw [nI_add]
      refine br_f h0 (br_f h3 (pk_le (g + j) 100000 (fun z => nm_e ?_) (fun z => ?_)))
      · exact br_f h0 (br_f h3 (br_t (nI_le (b := 100000) z (by decide)) (nm_e ⟨rfl, gm_mk ⟨hI.1, z, hI.2.2⟩⟩)))
      · exact br_f h0 (br_f h3 (br_f (nI_ge (a := 100000) z (by omega)) ⟨rfl, gm_mk hI⟩))
theorem i_vc_gas {k : Nat} {u : SX} {v : SY} (I : i_Rel k u v) (hk : k + 4 ≤ 2048) : wpX_gas (fun r => wpY_gas (fun r' => r' = r ∧ i_Rel (k + 4) u v) v) u := by
  refine gm_el (P := fun u v => i_Rel (k + 4) u v → wpX_gas (fun r => wpY_gas (fun r' => r' = r ∧ i_Rel (k + 4) u v) v) u) ?_ I (i_up I)
  intro sz g h pl nx en dn tn op nu va le pr ne ri pi kv kp qv qp hI J
  exact And.intro rfl J
theorem i_vc_run {k : Nat} {u : SX} {v : SY} (I : i_Rel k u v) (hk : k + 4 ≤ 2048) : wpX_run (fun r u' => wpY_run (fun r' v' => r' = r ∧ i_Rel (k + 4) u' v') v) u := by
  refine gm_el (P := fun u v => wpX_run (fun r u' => wpY_run (fun r' v' => r' = r ∧ i_Rel (k + 4) u' v') v) u) ?_ I
  intro sz g h pl nx en dn tn op nu va le pr ne ri pi kv kp qv qp hI
  obtain ⟨hs, hg, h8, hF, hp⟩ := hI
  unfold wpX_run
  dsimp only
  have B := gm_ex_b (sz := sz) (op := op) (nu := nu) 301 g 0 0 0 va pi (by decide)
  refine gm_X_execute (Q := fun r => r = gm_ex sz op nu 301 g 0 0 0 va pi) hs hF hp (by omega) rfl (fun le' pr' ne' ri' hP e' g' p' d' h' va' pi' hq => ?_)
  rw [← hq] at B
  dsimp only at B ⊢
  refine nm_r (pk_sub B.1) (gm_Y_run (Q := fun r => r = gm_ex sz op nu 301 g 0 0 0 va pi) hs hF (by omega) rfl (fun e2 g2 p2 d2 h2 va2 pi2 hq2 => ?_))
  have E := hq2.trans hq.symm
  simp only [Prod.mk.injEq] at E
  obtain ⟨rfl, rfl, rfl, rfl, rfl, rfl, rfl⟩ := E
  exact ⟨rfl, gm_mk ⟨hs, by omega, B.2, hF, Or.inr ⟨rfl, hP⟩⟩⟩
theorem i_vc_ending {k : Nat} {u : SX} {v : SY} (I : i_Rel k u v) (hk : k + 4 ≤ 2048) : wpX_ending (fun r => wpY_ending (fun r' => r' = r ∧ i_Rel (k + 4) u v) v) u := by
  refine gm_el (P := fun u v => i_Rel (k + 4) u v → wpX_ending (fun r => wpY_ending (fun r' => r' = r ∧ i_Rel (k + 4) u v) v) u) ?_ I (i_up I)
  intro sz g h pl nx en dn tn op nu va le pr ne ri pi kv kp qv qp hI J
  exact And.intro rfl J
theorem i_vc_place {k : Nat} {u : SX} {v : SY} (I : i_Rel k u v) (hk : k + 4 ≤ 2048) : wpX_place (fun r => wpY_place (fun r' => r' = r ∧ i_Rel (k + 4) u v) v) u := by
  refine gm_el (P := fun u v => i_Rel (k + 4) u v → wpX_place (fun r => wpY_place (fun r' => r' = r ∧ i_Rel (k + 4) u v) v) u) ?_ I (i_up I)
  intro sz g h pl nx en dn tn op nu va le pr ne ri pi kv kp qv qp hI J
  exact And.intro rfl J
theorem i_vc_steps {k : Nat} {u : SX} {v : SY} (I : i_Rel k u v) (hk : k + 4 ≤ 2048) : wpX_steps (fun r => wpY_steps (fun r' => r' = r ∧ i_Rel (k + 4) u v) v) u := by
  refine gm_el (P := fun u v => i_Rel (k + 4) u v → wpX_steps (fun r => wpY_steps (fun r' => r' = r ∧ i_Rel (k + 4) u v) v) u) ?_ I (i_up I)
  intro sz g h pl nx en dn tn op nu va le pr ne ri pi kv kp qv qp hI J
  exact And.intro rfl J
theorem i_vc_spent {k : Nat} {u : SX} {v : SY} (I : i_Rel k u v) (hk : k + 4 ≤ 2048) : wpX_spent (fun r => wpY_spent (fun r' => r' = r ∧ i_Rel (k + 4) u v) v) u := by
  refine gm_el (P := fun u v => i_Rel (k + 4) u v → wpX_spent (fun r => wpY_spent (fun r' => r' = r ∧ i_Rel (k + 4) u v) v) u) ?_ I (i_up I)
  intro sz g h pl nx en dn tn op nu va le pr ne ri pi kv kp qv qp hI J
  exact And.intro rfl J
theorem i_vc_height {k : Nat} {u : SX} {v : SY} (I : i_Rel k u v) (hk : k + 4 ≤ 2048) : wpX_height (fun r => wpY_height (fun r' => r' = r ∧ i_Rel (k + 4) u v) v) u := by
  refine gm_el (P := fun u v => i_Rel (k + 4) u v → wpX_height (fun r => wpY_height (fun r' => r' = r ∧ i_Rel (k + 4) u v) v) u) ?_ I (i_up I)
  intro sz g h pl nx en dn tn op nu va le pr ne ri pi kv kp qv qp hI J
  exact And.intro rfl J
theorem i_vc_pile {k : Nat} {u : SX} {v : SY} (I : i_Rel k u v) (hk : k + 4 ≤ 2048) (v1 : Int32) : wpX_pile (fun r => wpY_pile (fun r' => r' = r ∧ i_Rel (k + 4) u v) v v1) u v1 := by
  refine gm_el (P := fun u v => i_Rel (k + 4) u v → wpX_pile (fun r => wpY_pile (fun r' => r' = r ∧ i_Rel (k + 4) u v) v v1) u v1) ?_ I (i_up I)
  intro sz g h pl nx en dn tn op nu va le pr ne ri pi kv kp qv qp hI J
  have h8 := hI.2.2.1
  unfold wpX_pile wpY_pile
  dsimp only
  rcases pk_ix v1 (n := h) (by omega) with h0 | h1 | ⟨j, hj, rfl⟩
  · exact br_t h0 (br_t h0 ⟨rfl, J⟩)
  · have h0 : ¬ v1 < 0 := Int32.not_lt.mpr (Int32.le_trans (nI_pos' (by omega)) h1)
    exact br_f h0 (br_f (Int32.not_lt.mpr h1) (br_f h0 (br_t h1 ⟨rfl, J⟩)))
  · have h0 : ¬ nI j < 0 := nI_pos (by omega)
    have v8 : vp_in (nI j) 8 := vp_in_nI (by omega) (by decide)
    exact br_f h0 (br_t (nI_lt hj (by omega)) ⟨v8, br_f h0 (br_f (nI_ge hj (by omega)) ⟨v8, rfl, J⟩)⟩)
theorem i_vc_bill {k : Nat} {u : SX} {v : SY} (I : i_Rel k u v) (hk : k + 4 ≤ 2048) : wpX_bill (fun r u' => wpY_bill (fun r' v' => r' = r ∧ i_Rel (k + 4) u' v') v) u := by
  refine gm_el (P := fun u v => wpX_bill (fun r u' => wpY_bill (fun r' v' => r' = r ∧ i_Rel (k + 4) u' v') v) u) ?_ I
  intro sz g h pl nx en dn tn op nu va le pr ne ri pi kv kp qv qp hI
  have hI' := hI
  obtain ⟨hs, hg, h8, hF, hp⟩ := hI
  unfold wpX_bill
  dsimp only
  rcases gm_scan (op := op) hs sz 0 (Nat.zero_add sz) with ⟨hX, hY⟩ | ⟨hX, hY⟩
  · refine ⟨sz + 1, hX _ _ _ _ _ _ _ _ _ _ _ _ _ _ _ _ _ ?_⟩
    unfold wpY_bill wpY_asksGas
    dsimp only
    exact ⟨sz + 1, hY _ _ _ _ _ _ _ _ _ _ _ _ (br_f (by decide) ⟨rfl, gm_mk hI'⟩)⟩
  · refine ⟨sz + 1, hX _ _ _ _ _ _ _ _ _ _ _ _ _ _ _ _ _ ⟨5, ?_⟩⟩
    have B := gm_ex_b (sz := sz) (op := op) (nu := nu) 301 1000000 0 0 0 va pi (by decide)
    have K := gm_X_b31 (post := fun r u' => wpY_bill (fun r' v' => r' = r ∧ i_Rel (k + 4) u' v') (nI sz, nI h, nI g, en, nx, dn, tn, op, nu, va, pi, qv, qp)) (sz := sz) (gs := nI g) (pl := pl) (nx := nx) (en := en) (dn := dn) (tn := tn) (ht := nI h) (op := op) (nu := nu) (va := va) (le := le) (pr := pr) (ne := ne) (ri := ri) (pi := pi) (kv := kv) (kp := kp) ?_ 4 0 rfl
    · rw [gm_mix_0] at K
      exact K
    have K2 := gm_X_b56 (post := fun r u' => wpY_bill (fun r' v' => r' = r ∧ i_Rel (k + 4) u' v') (nI sz, nI h, nI g, en, nx, dn, tn, op, nu, va, pi, qv, qp)) (gs := nI g) (nx := nx) (en := en) (dn := dn) (tn := tn) (ht := nI h) (pi := pi) (kv := gm_mix 4 va kv) (kp := kp) (Q := fun r => r = gm_ex sz op nu 301 1000000 0 0 0 va pi) hs hF hp rfl ?_ 8 0 rfl
    · rw [gm_mix_0] at K2
      exact ⟨9, K2⟩
    intro le' pr' ne' ri' hP e' g' p' d' h' va' pi' hq
    rw [← hq] at B
    dsimp only at B ⊢
    unfold wpY_bill wpY_asksGas
    dsimp only
    refine ⟨sz + 1, hY _ _ _ _ _ _ _ _ _ _ _ _ (br_t rfl (gm_Y_keep ?_))⟩
    dsimp only
    refine gm_Y_run (g := 1000000) (Q := fun r => r = gm_ex sz op nu 301 1000000 0 0 0 va pi) hs hF (by decide) rfl (fun e2 g2 p2 d2 h2 va2 pi2 hq2 => ?_)
    have E := hq2.trans hq.symm
    simp only [Prod.mk.injEq] at E
    obtain ⟨rfl, rfl, rfl, rfl, rfl, rfl, rfl⟩ := E
    dsimp only
    refine gm_Y_giveBack ?_
    dsimp only
    rw [gm_mm, gm_mm, gm_mm, gm_mm]
    exact ⟨(pk_sub (a := 1000000) B.1).symm, gm_mk ⟨hs, hg, h8, hF, Or.inr ⟨rfl, hP⟩⟩⟩
end
