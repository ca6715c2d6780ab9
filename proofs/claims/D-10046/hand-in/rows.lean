section
/-- the group of a place in a grouping -/
def cv_grp (x g : Nat) : Nat := (if g % 2 = 0 then 0 else x % 4) + 4 * (if g / 2 % 2 = 0 then 0 else x / 4 % 5) + 20 * (if g / 4 % 2 = 0 then 0 else x / 20)
/-- a place passes a filter in these dimensions -/
def cv_pass (x f d : Nat) : Bool := (d % 2 == 0 || f / 2 ^ (x % 4) % 2 == 1) && (d / 2 % 2 == 0 || f / 2 ^ (4 + x / 4 % 5) % 2 == 1) && (d / 4 % 2 == 0 || f / 2 ^ (9 + x / 20) % 2 == 1)
/-- the dimensions that a filter cuts -/
def cv_cuts (f : Nat) : Nat := (if f % 16 = 15 then 0 else 1) + (if f / 16 % 32 = 31 then 0 else 2) + (if f / 512 = 63 then 0 else 4)
/-- how many of the first n facts have a place of the kind Q -/
def cv_cn (Q : Nat → Bool) (P : Nat → Int32) : Nat → Nat
  | 0 => 0
  | n + 1 => cv_cn Q P n + (if Q (P n).toNatClampNeg = true then 1 else 0)
/-- what their amounts add up to -/
def cv_sm (Q : Nat → Bool) (P A : Nat → Int32) : Nat → Int32
  | 0 => 0
  | n + 1 => cv_sm Q P A n + (if Q (P n).toNatClampNeg = true then A n else 0)
theorem cv_cn_s (Q : Nat → Bool) (P : Nat → Int32) (n : Nat) : cv_cn Q P (n + 1) = cv_cn Q P n + (if Q (P n).toNatClampNeg = true then 1 else 0) := rfl
theorem cv_sm_s (Q : Nat → Bool) (P A : Nat → Int32) (n : Nat) : cv_sm Q P A (n + 1) = cv_sm Q P A n + (if Q (P n).toNatClampNeg = true then A n else 0) := rfl
theorem cv_cn_le (Q : Nat → Bool) (P : Nat → Int32) (n : Nat) : cv_cn Q P n ≤ n := by
  induction n with
  | zero => exact Nat.le_refl 0
  | succ n ih =>
    rw [cv_cn_s]
    split <;> omega
theorem cv_cn_c {Q Q' : Nat → Bool} {P P' : Nat → Int32} {n : Nat} (h : ∀ i, i < n → Q (P i).toNatClampNeg = Q' (P' i).toNatClampNeg) : cv_cn Q P n = cv_cn Q' P' n := by
  induction n with
  | zero => rfl
  | succ n ih =>
    rw [cv_cn_s, cv_cn_s, ih (fun i hi => h i (by omega)), h n (by omega)]
theorem cv_sm_c {Q Q' : Nat → Bool} {P P' A A' : Nat → Int32} {n : Nat} (h : ∀ i, i < n → Q (P i).toNatClampNeg = Q' (P' i).toNatClampNeg) (ha : ∀ i, i < n → A i = A' i) : cv_sm Q P A n = cv_sm Q' P' A' n := by
  induction n with
  | zero => rfl
  | succ n ih =>
    rw [cv_sm_s, cv_sm_s, ih (fun i hi => h i (by omega)) (fun i hi => ha i (by omega)), h n (by omega), ha n (by omega)]
theorem cv_cn_a {Q Q1 Q2 : Nat → Bool} {P : Nat → Int32} {n : Nat} (h : ∀ i, i < n → Q (P i).toNatClampNeg = (Q1 (P i).toNatClampNeg || Q2 (P i).toNatClampNeg)) (hd : ∀ i, i < n → (Q1 (P i).toNatClampNeg && Q2 (P i).toNatClampNeg) = false) : cv_cn Q P n = cv_cn Q1 P n + cv_cn Q2 P n := by
  induction n with
  | zero => rfl
  | succ n ih =>
    rw [cv_cn_s, cv_cn_s, cv_cn_s, ih (fun i hi => h i (by omega)) (fun i hi => hd i (by omega)), h n (by omega)]
    have t := hd n (by omega)
    revert t
    cases Q1 (P n).toNatClampNeg <;> cases Q2 (P n).toNatClampNeg <;> simp <;> omega
theorem cv_ad (a b c : Int32) : a + b + c = a + c + b := by
  rw [Int32.add_assoc, Int32.add_comm b c, ← Int32.add_assoc]
theorem cv_sm_a {Q Q1 Q2 : Nat → Bool} {P A : Nat → Int32} {n : Nat} (h : ∀ i, i < n → Q (P i).toNatClampNeg = (Q1 (P i).toNatClampNeg || Q2 (P i).toNatClampNeg)) (hd : ∀ i, i < n → (Q1 (P i).toNatClampNeg && Q2 (P i).toNatClampNeg) = false) : cv_sm Q P A n = cv_sm Q1 P A n + cv_sm Q2 P A n := by
  induction n with
  | zero => rfl
  | succ n ih =>
    rw [cv_sm_s, cv_sm_s, cv_sm_s, ih (fun i hi => h i (by omega)) (fun i hi => hd i (by omega)), h n (by omega)]
    have t := hd n (by omega)
    revert t
    generalize cv_sm Q1 P A n = u
    generalize cv_sm Q2 P A n = v
    generalize A n = w
    cases Q1 (P n).toNatClampNeg <;> cases Q2 (P n).toNatClampNeg <;> intro t
    · simp
    · simp [Int32.add_assoc]
    · simp [cv_ad u v w]
    · exact absurd t (by decide)
theorem cv_sm_0 {Q : Nat → Bool} {P A : Nat → Int32} {n : Nat} (h : cv_cn Q P n = 0) : cv_sm Q P A n = 0 := by
  induction n with
  | zero => rfl
  | succ n ih =>
    rw [cv_cn_s] at h
    rw [cv_sm_s, ih (by omega)]
    by_cases e : Q (P n).toNatClampNeg = true
    · rw [if_pos e] at h
      omega
    · rw [if_neg e]
      rfl
theorem cv_cn_t {Q : Nat → Bool} {P : Nat → Int32} {n : Nat} (h : ∀ i, i < n → Q (P i).toNatClampNeg = true) : cv_cn Q P n = n := by
  induction n with
  | zero => rfl
  | succ n ih => rw [cv_cn_s, ih (fun i hi => h i (by omega)), if_pos (h n (by omega))]
theorem cv_cn_f {Q : Nat → Bool} {P : Nat → Int32} {n : Nat} (h : ∀ i, i < n → Q (P i).toNatClampNeg = false) : cv_cn Q P n = 0 := by
  induction n with
  | zero => rfl
  | succ n ih => rw [cv_cn_s, ih (fun i hi => h i (by omega)), h n (by omega)]; rfl
theorem cv_sm_u {Q : Nat → Bool} {P A : Nat → Int32} {k : Nat} {v : Int32} {n : Nat} (hk : k < n) : cv_sm Q P (upd A k v) n = cv_sm Q P A n + (if Q (P k).toNatClampNeg = true then v - A k else 0) := by
  induction n with
  | zero => omega
  | succ n ih =>
    rw [cv_sm_s, cv_sm_s]
    by_cases e : k = n
    · subst e
      rw [pk_us, cv_sm_c (Q' := Q) (P' := P) (A' := A) (fun i _ => rfl) (fun i hi => pk_un (by omega))]
      split
      · grind
      · simp
    · rw [ih (by omega), pk_un (fun z => e z.symm)]
      exact cv_ad _ _ _
theorem cv_gg : ∀ x, x < 120 → ∀ g, g < 8 → cv_grp x g < 120 ∧ cv_grp x g % 4 = (if g % 2 = 0 then 0 else x % 4) ∧ cv_grp x g / 4 % 5 = (if g / 2 % 2 = 0 then 0 else x / 4 % 5) ∧ cv_grp x g / 20 = (if g / 4 % 2 = 0 then 0 else x / 20) := by decide +kernel
theorem cv_g2 {x g r : Nat} (hx : x < 120) (hg : g < 8) (h0 : r % 2 ≤ g % 2) (h1 : r / 2 % 2 ≤ g / 2 % 2) (h2 : r / 4 % 2 ≤ g / 4 % 2) : cv_grp (cv_grp x g) r = cv_grp x r := by
  obtain ⟨e, e0, e1, e2⟩ := cv_gg x hx g hg
  have t0 : (if r % 2 = 0 then 0 else cv_grp x g % 4) = (if r % 2 = 0 then 0 else x % 4) := by
    rw [e0]
    split
    · rfl
    · rw [if_neg (by omega)]
  have t1 : (if r / 2 % 2 = 0 then 0 else cv_grp x g / 4 % 5) = (if r / 2 % 2 = 0 then 0 else x / 4 % 5) := by
    rw [e1]
    split
    · rfl
    · rw [if_neg (by omega)]
  have t2 : (if r / 4 % 2 = 0 then 0 else cv_grp x g / 20) = (if r / 4 % 2 = 0 then 0 else x / 20) := by
    rw [e2]
    split
    · rfl
    · rw [if_neg (by omega)]
  show (if r % 2 = 0 then 0 else cv_grp x g % 4) + 4 * (if r / 2 % 2 = 0 then 0 else cv_grp x g / 4 % 5) + 20 * (if r / 4 % 2 = 0 then 0 else cv_grp x g / 20) = _
  rw [t0, t1, t2]
  rfl
theorem cv_f0 {f : Nat} (h : f % 16 = 15) : ∀ j, j < 4 → f / 2 ^ j % 2 = 1 := by
  intro j hj
  have : j = 0 ∨ j = 1 ∨ j = 2 ∨ j = 3 := by omega
  rcases this with e | e | e | e <;> subst e <;> simp <;> omega
theorem cv_f1 {f : Nat} (h : f / 16 % 32 = 31) : ∀ j, j < 5 → f / 2 ^ (4 + j) % 2 = 1 := by
  intro j hj
  have : j = 0 ∨ j = 1 ∨ j = 2 ∨ j = 3 ∨ j = 4 := by omega
  rcases this with e | e | e | e | e <;> subst e <;> simp <;> omega
theorem cv_f2 {f : Nat} (h : f / 512 = 63) : ∀ j, j < 6 → f / 2 ^ (9 + j) % 2 = 1 := by
  intro j hj
  have : j = 0 ∨ j = 1 ∨ j = 2 ∨ j = 3 ∨ j = 4 ∨ j = 5 := by omega
  rcases this with e | e | e | e | e | e <;> subst e <;> simp <;> omega
theorem cv_or8 : ∀ a, a < 8 → ∀ b, b < 8 → a ||| b < 8 ∧ nI a ||| nI b = nI (a ||| b) ∧ (a % 2 ≤ (a ||| b) % 2 ∧ a / 2 % 2 ≤ (a ||| b) / 2 % 2 ∧ a / 4 % 2 ≤ (a ||| b) / 4 % 2) ∧ (b % 2 ≤ (a ||| b) % 2 ∧ b / 2 % 2 ≤ (a ||| b) / 2 % 2 ∧ b / 4 % 2 ≤ (a ||| b) / 4 % 2) := by decide +kernel
theorem cv_an8 : ∀ a, a < 8 → ∀ b, b < 8 → nI a &&& nI b = nI b → (b % 2 ≤ a % 2 ∧ b / 2 % 2 ≤ a / 2 % 2 ∧ b / 4 % 2 ≤ a / 4 % 2) := by decide +kernel
theorem cv_cuts8 (f : Nat) : cv_cuts f < 8 := by
  unfold cv_cuts
  split <;> split <;> split <;> omega
theorem cv_cutsb (f : Nat) : (cv_cuts f % 2 = 0 → f % 16 = 15) ∧ (cv_cuts f / 2 % 2 = 0 → f / 16 % 32 = 31) ∧ (cv_cuts f / 4 % 2 = 0 → f / 512 = 63) := by
  unfold cv_cuts
  refine ⟨?_, ?_, ?_⟩ <;> split <;> split <;> split <;> omega
/-- a kept grouping that covers what is needed answers as the facts do -/
theorem cv_key {x g r f : Nat} (hx : x < 120) (hg : g < 8) (hr : r < 8) (h : nI g &&& nI (cv_cuts f ||| r) = nI (cv_cuts f ||| r)) : cv_grp (cv_grp x g) r = cv_grp x r ∧ cv_pass (cv_grp x g) f (cv_cuts f ||| r) = cv_pass x f 7 := by
  obtain ⟨d8, _, ⟨c0, c1, c2⟩, r0, r1, r2⟩ := cv_or8 (cv_cuts f) (cv_cuts8 f) r hr
  obtain ⟨g0, g1, g2⟩ := cv_an8 g hg _ d8 h
  obtain ⟨k0, k1, k2⟩ := cv_cutsb f
  revert c0 c1 c2 r0 r1 r2 g0 g1 g2 d8 h
  generalize cv_cuts f ||| r = d
  intro h d8 g2 g1 g0 r2 r1 r0 c2 c1 c0
  obtain ⟨_, e0, e1, e2⟩ := cv_gg x hx g hg
  refine ⟨cv_g2 hx hg (by omega) (by omega) (by omega), ?_⟩
  have t0 : (d % 2 == 0 || f / 2 ^ (cv_grp x g % 4) % 2 == 1) = (7 % 2 == 0 || f / 2 ^ (x % 4) % 2 == 1) := by
    by_cases z : d % 2 = 0
    · rw [cv_f0 (k0 (by omega)) (x % 4) (by omega), z]
      rfl
    · rw [e0, if_neg (by omega), show d % 2 = 1 by omega]
  have t1 : (d / 2 % 2 == 0 || f / 2 ^ (4 + cv_grp x g / 4 % 5) % 2 == 1) = (7 / 2 % 2 == 0 || f / 2 ^ (4 + x / 4 % 5) % 2 == 1) := by
    by_cases z : d / 2 % 2 = 0
    · rw [cv_f1 (k1 (by omega)) (x / 4 % 5) (by omega), z]
      rfl
    · rw [e1, if_neg (by omega), show d / 2 % 2 = 1 by omega]
  have t2 : (d / 4 % 2 == 0 || f / 2 ^ (9 + cv_grp x g / 20) % 2 == 1) = (7 / 4 % 2 == 0 || f / 2 ^ (9 + x / 20) % 2 == 1) := by
    by_cases z : d / 4 % 2 = 0
    · rw [cv_f2 (k2 (by omega)) (x / 20) (by omega), z]
      rfl
    · rw [e2, if_neg (by omega), show d / 4 % 2 = 1 by omega]
  unfold cv_pass
  rw [t0, t1, t2]
end
section
section
variable {f0 : Int32} {a1 a2 a3 a4 a5 a6 a7 a8 a9 : Nat → Int32}
theorem cv_cells {post : Int32 → Prop} {x : Int32} (H : ∀ r, post r) : wpX_cells post (f0, a1, a2, a3, a4, a5, a6, a7, a8, a9) x :=
  br_c (fun _ => br_c (fun _ => br_c (fun _ => H _) (fun _ => H _)) (fun _ => br_c (fun _ => H _) (fun _ => H _))) (fun _ => br_c (fun _ => br_c (fun _ => H _) (fun _ => H _)) (fun _ => br_c (fun _ => H _) (fun _ => H _)))
theorem cv_ww41 {post : Int32 → Prop} {J4 J18 : Int32 → Int32 → Prop} {x1 x2 x3 x4 x5 : Int32} (H : ∀ y, J18 y (x5 + 1)) : wX_workWith_41 post J4 J18 x1 x2 x3 x4 x5 f0 a1 a2 a3 a4 a5 a6 a7 a8 a9 :=
  br_c (fun _ => cv_cells (fun _ => br_c (fun _ => nm_e (H _)) (fun _ => cv_cells (fun _ => nm_e (H _))))) (fun _ => nm_e (H _))
theorem cv_ww18 {post : Int32 → Prop} {J4 : Int32 → Int32 → Prop} {x1 x2 x3 x4 : Int32} (H : ∀ y, J4 y (x3 + 1)) : ∃ n, wX_workWith_18 post J4 x1 x2 x3 f0 a1 a2 a3 a4 a5 a6 a7 a8 a9 n x4 0 :=
  pk_loop (fun n i s => wX_workWith_18 post J4 x1 x2 x3 f0 a1 a2 a3 a4 a5 a6 a7 a8 a9 n s (nI i)) (fun _ _ => True) 8 0 x4 (by omega) trivial
    (fun n s _ => pk_le 8 8 (fun _ => nm_e (nm_e (H _))) (fun z => absurd z (by omega)))
    (fun n i s hi _ hw => pk_le 8 i (fun z => absurd z (by omega)) (fun _ => ⟨pk_in i 8 hi, br_c (fun _ => br_c (fun _ => cv_ww41 (fun y => by rw [nI_1]; exact hw y trivial)) (fun _ => nm_r (nI_1 i) (hw _ trivial))) (fun _ => cv_ww41 (fun y => by rw [nI_1]; exact hw y trivial))⟩))
theorem cv_workWith {post : Int32 → Prop} {x : Int32} (H : ∀ r, post r) : wpX_workWith post (f0, a1, a2, a3, a4, a5, a6, a7, a8, a9) x :=
  pk_loop (fun n i s => wX_workWith_4 post x f0 a1 a2 a3 a4 a5 a6 a7 a8 a9 n s (nI i)) (fun _ _ => True) 8 0 0 (by omega) trivial
    (fun n s _ => pk_le 8 8 (fun _ => H _) (fun z => absurd z (by omega)))
    (fun n i s hi _ hw => pk_le 8 i (fun z => absurd z (by omega)) (fun _ => cv_ww18 (fun y => by rw [nI_1]; exact hw y trivial)))
theorem cv_b0 : ∀ g, g < 8 → (nI g &&& 1 = 0 ↔ g % 2 = 0) := by decide +kernel
theorem cv_b1 : ∀ g, g < 8 → (nI g &&& 2 = 0 ↔ g / 2 % 2 = 0) := by decide +kernel
theorem cv_b2 : ∀ g, g < 8 → (nI g &&& 4 = 0 ↔ g / 4 % 2 = 0) := by decide +kernel
theorem cv_e0 {x : Nat} (hx : x < 120) : nI x - nI x / 4 * 4 = nI (x % 4) := pk_rem (d := 4) (by omega) (by omega) (by omega)
theorem cv_e1 {x : Nat} (hx : x < 120) : (nI x / 4) - (nI x / 4) / 5 * 5 = nI (x / 4 % 5) := by
  rw [show nI x / 4 = nI (x / 4) from pk_div (d := 4) (by omega) (by omega) (by omega)]
  exact pk_rem (d := 5) (by omega) (by omega) (by omega)
theorem cv_e2 {x : Nat} (hx : x < 120) : nI x / 20 = nI (x / 20) := pk_div (d := 20) (by omega) (by omega) (by omega)
theorem cv_region {post : Int32 → Prop} {x : Nat} (hx : x < 120) (H : post (nI (x % 4))) : wpX_region post (f0, a1, a2, a3, a4, a5, a6, a7, a8, a9) (nI x) :=
  ⟨by decide, by rw [cv_e0 hx]; exact H⟩
theorem cv_kind {post : Int32 → Prop} {x : Nat} (hx : x < 120) (H : post (nI (x / 4 % 5))) : wpX_kind post (f0, a1, a2, a3, a4, a5, a6, a7, a8, a9) (nI x) :=
  ⟨by decide, by decide, by rw [cv_e1 hx]; exact H⟩
theorem cv_month {post : Int32 → Prop} {x : Nat} (hx : x < 120) (H : post (nI (x / 20))) : wpX_month post (f0, a1, a2, a3, a4, a5, a6, a7, a8, a9) (nI x) :=
  ⟨by decide, by rw [cv_e2 hx]; exact H⟩
theorem cv_g48 {post : Int32 → Prop} {r k m : Nat} (H : post (nI (r + 4 * k + 20 * m))) : wX_group_48 post (nI r) (nI k) (nI m) f0 a1 a2 a3 a4 a5 a6 a7 a8 a9 := by
  have e : (nI r + (4 * nI k)) + (20 * nI m) = nI (r + 4 * k + 20 * m) := by
    rw [show (4 : Int32) = nI 4 from rfl, show (20 : Int32) = nI 20 from rfl, pk_mul, pk_mul, nI_add, nI_add]
  unfold wX_group_48
  rw [e]
  exact H
theorem cv_g31 {post : Int32 → Prop} {x g r k : Nat} (hx : x < 120) (hg : g < 8) (H : post (nI (r + 4 * k + 20 * (if g / 4 % 2 = 0 then 0 else x / 20)))) : wX_group_31 post (nI x) (nI g) (nI r) (nI k) f0 a1 a2 a3 a4 a5 a6 a7 a8 a9 :=
  ek_if (cv_b2 g hg) (fun h => cv_g48 (m := 0) (by rw [if_pos h] at H; exact H)) (fun h => cv_month hx (cv_g48 (by rw [if_neg h] at H; exact H)))
theorem cv_g15 {post : Int32 → Prop} {x g r : Nat} (hx : x < 120) (hg : g < 8) (H : post (nI (r + 4 * (if g / 2 % 2 = 0 then 0 else x / 4 % 5) + 20 * (if g / 4 % 2 = 0 then 0 else x / 20)))) : wX_group_15 post (nI x) (nI g) (nI r) f0 a1 a2 a3 a4 a5 a6 a7 a8 a9 :=
  ek_if (cv_b1 g hg) (fun h => cv_g31 (k := 0) hx hg (by rw [if_pos h] at H; exact H)) (fun h => cv_kind hx (cv_g31 hx hg (by rw [if_neg h] at H; exact H)))
theorem cv_group {post : Int32 → Prop} {x g : Nat} {y z : Int32} (ey : y = nI x) (ez : z = nI g) (hx : x < 120) (hg : g < 8) (H : post (nI (cv_grp x g))) : wpX_group post (f0, a1, a2, a3, a4, a5, a6, a7, a8, a9) y z := by
  subst ey
  subst ez
  unfold cv_grp at H
  exact ek_if (cv_b0 g hg) (fun h => cv_g15 (r := 0) hx hg (by rw [if_pos h] at H; exact H)) (fun h => cv_region hx (cv_g15 hx hg (by rw [if_neg h] at H; exact H)))
def cv_I (b : Bool) : Int32 := if b = true then 1 else 0
theorem cv_p81 {post : Int32 → Prop} {r k m : Bool} (H : post (cv_I (r && k && m))) : wX_passes_81 post (cv_I r) (cv_I k) (cv_I m) f0 a1 a2 a3 a4 a5 a6 a7 a8 a9 := by
  unfold wX_passes_81
  cases r
  · exact br_t rfl (by simpa [cv_I] using H)
  · cases k
    · exact br_f (by decide) (br_t rfl (by simpa [cv_I] using H))
    · cases m
      · exact br_f (by decide) (br_f (by decide) (br_t rfl (by simpa [cv_I] using H)))
      · exact br_f (by decide) (br_f (by decide) (br_f (by decide) (by simpa [cv_I] using H)))
theorem cv_sl : ∀ k, k < 32 → ((nI k &&& 31).toBitVec.smod 32).toNat = k := by decide +kernel
theorem cv_bit {f k : Nat} (hf : f < 2 ^ 31) (hk : k < 32) : ((nI f >>> (nI k &&& 31)) &&& 1) = 1 ↔ (f / 2 ^ k % 2 == 1) = true := by
  rw [pk_shrN hf _ k (cv_sl k hk), pk_andN (m := 1) (Nat.lt_of_le_of_lt (Nat.div_le_self _ _) (by omega)) 1 (by decide)]
  have e : nI (f / 2 ^ k % 2 ^ 1) = nI 1 ↔ f / 2 ^ k % 2 ^ 1 = 1 := nI_eq (by omega) (by omega)
  rw [beq_iff_eq]
  exact e
theorem cv_bd (d : Nat) : (d = 0) ↔ (d == 0) = true := by
  rw [beq_iff_eq]
theorem cv_p52 {post : Int32 → Prop} {x f d : Nat} {r k : Bool} (hx : x < 120) (hf : f < 32768) (hd : d < 8) (H : post (cv_I (r && k && (d / 4 % 2 == 0 || f / 2 ^ (9 + x / 20) % 2 == 1)))) : wX_passes_52 post (nI x) (nI f) (nI d) (cv_I r) (cv_I k) f0 a1 a2 a3 a4 a5 a6 a7 a8 a9 := by
  refine ek_if ((cv_b2 d hd).trans (cv_bd _)) (fun h => ?_) (fun h => cv_month hx ?_)
  · refine cv_p81 (m := true) ?_
    rw [h] at H
    exact H
  · have e : (9 : Int32) + nI (x / 20) = nI (9 + x / 20) := nI_add 9 (x / 20)
    rw [Bool.not_eq_true] at h
    rw [h, Bool.false_or] at H
    rw [e]
    refine ek_if (cv_bit (by omega) (by omega)) (fun g => ?_) (fun g => ?_)
    · refine cv_p81 (m := true) ?_
      rw [g] at H
      exact H
    · refine cv_p81 (m := false) ?_
      rw [Bool.not_eq_true] at g
      rw [g] at H
      exact H
theorem cv_p24 {post : Int32 → Prop} {x f d : Nat} {r : Bool} (hx : x < 120) (hf : f < 32768) (hd : d < 8) (H : post (cv_I (r && (d / 2 % 2 == 0 || f / 2 ^ (4 + x / 4 % 5) % 2 == 1) && (d / 4 % 2 == 0 || f / 2 ^ (9 + x / 20) % 2 == 1)))) : wX_passes_24 post (nI x) (nI f) (nI d) (cv_I r) f0 a1 a2 a3 a4 a5 a6 a7 a8 a9 := by
  refine ek_if ((cv_b1 d hd).trans (cv_bd _)) (fun h => ?_) (fun h => cv_kind hx ?_)
  · refine cv_p52 (k := true) hx hf hd ?_
    rw [h] at H
    exact H
  · have e : (4 : Int32) + nI (x / 4 % 5) = nI (4 + x / 4 % 5) := nI_add 4 (x / 4 % 5)
    rw [Bool.not_eq_true] at h
    rw [h, Bool.false_or] at H
    rw [e]
    refine ek_if (cv_bit (by omega) (by omega)) (fun g => ?_) (fun g => ?_)
    · refine cv_p52 (k := true) hx hf hd ?_
      rw [g] at H
      exact H
    · refine cv_p52 (k := false) hx hf hd ?_
      rw [Bool.not_eq_true] at g
      rw [g] at H
      exact H
theorem cv_passes {post : Int32 → Prop} {x f d : Nat} {y z w : Int32} (ey : y = nI x) (ez : z = nI f) (ew : w = nI d) (hx : x < 120) (hf : f < 32768) (hd : d < 8) (H : post (cv_I (cv_pass x f d))) : wpX_passes post (f0, a1, a2, a3, a4, a5, a6, a7, a8, a9) y z w := by
  subst ey
  subst ez
  subst ew
  unfold cv_pass at H
  refine ek_if ((cv_b0 d hd).trans (cv_bd _)) (fun h => ?_) (fun h => cv_region hx ?_)
  · refine cv_p24 (r := true) hx hf hd ?_
    rw [h] at H
    exact H
  · rw [Bool.not_eq_true] at h
    rw [h, Bool.false_or] at H
    refine ek_if (cv_bit (by omega) (by omega)) (fun g => ?_) (fun g => ?_)
    · refine cv_p24 (r := true) hx hf hd ?_
      rw [g] at H
      exact H
    · refine cv_p24 (r := false) hx hf hd ?_
      rw [Bool.not_eq_true] at g
      rw [g] at H
      exact H
theorem cv_badFilter {post : Int32 → Prop} {f : Nat} (hf : f < 32768) (H : post 0) : wpX_badFilter post (f0, a1, a2, a3, a4, a5, a6, a7, a8, a9) (nI f) :=
  br_f (nI_pos (by omega)) (pk_le f 32767 (fun _ => H) (fun z => absurd z (by omega)))
theorem cv_badGrouping {post : Int32 → Prop} {g : Nat} (hg : g < 8) (H : post 0) : wpX_badGrouping post (f0, a1, a2, a3, a4, a5, a6, a7, a8, a9) (nI g) :=
  br_f (nI_pos (by omega)) (pk_lt g 8 (fun _ => H) (fun z => absurd z (by omega)))
theorem cv_c33 {post : Int32 → Prop} {f z : Nat} (hf : f < 32768) (hz : z < 4) (H : post (nI (z + (if f / 512 = 63 then 0 else 4)))) : wX_cuts_33 post (nI f) (nI z) f0 a1 a2 a3 a4 a5 a6 a7 a8 a9 := by
  have e : nI f >>> ((9 : Int32) &&& 31) = nI (f / 512) := pk_shrN (by omega) _ 9 (by decide)
  have o : ∀ z, z < 4 → nI z ||| 4 = nI (z + 4) := by decide +kernel
  unfold wX_cuts_33
  rw [e]
  refine pk_eq (f / 512) 63 (fun h => ?_) (fun h => ?_)
  · rw [if_pos h] at H
    exact H
  · rw [if_neg h] at H
    rw [o z hz]
    exact H
theorem cv_c14 {post : Int32 → Prop} {f z : Nat} (hf : f < 32768) (hz : z < 2) (H : post (nI (z + (if f / 16 % 32 = 31 then 0 else 2) + (if f / 512 = 63 then 0 else 4)))) : wX_cuts_14 post (nI f) (nI z) f0 a1 a2 a3 a4 a5 a6 a7 a8 a9 := by
  have e : (nI f >>> ((4 : Int32) &&& 31)) &&& 31 = nI (f / 16 % 32) := by
    rw [show nI f >>> ((4 : Int32) &&& 31) = nI (f / 16) from pk_shrN (by omega) _ 4 (by decide)]
    exact pk_andN (by omega) 5 (by decide)
  have o : ∀ z, z < 2 → nI z ||| 2 = nI (z + 2) := by decide +kernel
  unfold wX_cuts_14
  rw [e]
  refine pk_eq (f / 16 % 32) 31 (fun h => cv_c33 hf (by omega) ?_) (fun h => ?_)
  · rw [if_pos h] at H
    exact H
  · rw [if_neg h] at H
    rw [o z hz]
    exact cv_c33 hf (by omega) H
theorem cv_cutsW {post : Int32 → Prop} {f : Nat} (hf : f < 32768) (H : post (nI (cv_cuts f))) : wpX_cuts post (f0, a1, a2, a3, a4, a5, a6, a7, a8, a9) (nI f) := by
  have e : nI f &&& 15 = nI (f % 16) := pk_andN (by omega) 4 (by decide)
  unfold cv_cuts at H
  unfold wpX_cuts
  dsimp only
  rw [e]
  refine pk_eq (f % 16) 15 (fun h => cv_c14 (z := 0) hf (by omega) ?_) (fun h => cv_c14 (z := 1) hf (by omega) ?_)
  · rw [if_pos h] at H
    exact H
  · rw [if_neg h] at H
    exact H
theorem cv_smallest {post : Int32 → Prop} {d : Int32} (H : ∀ r, (r < 0 ∨ ∃ g, g < 8 ∧ r = nI g ∧ ¬ a5 g = 0 ∧ nI g &&& d = d) → post r) : wpX_smallest post (f0, a1, a2, a3, a4, a5, a6, a7, a8, a9) d :=
  pk_loop (fun n i s => wX_smallest_4 post d f0 a1 a2 a3 a4 a5 a6 a7 a8 a9 n s (nI i)) (fun _ r => r < 0 ∨ ∃ g, g < 8 ∧ r = nI g ∧ ¬ a5 g = 0 ∧ nI g &&& d = d) 8 0 (-1) (by omega) (Or.inl (by decide))
    (fun n s h => pk_le 8 8 (fun _ => H s h) (fun z => absurd z (by omega)))
    (fun n i s hi h hw => pk_le 8 i (fun z => absurd z (by omega)) (fun _ => ⟨pk_in i 8 hi, br_c (fun _ => nm_r (nI_1 i) (hw _ h)) (fun hk => br_c (fun hm =>
      have hn : nI i < 0 ∨ ∃ g, g < 8 ∧ nI i = nI g ∧ ¬ a5 g = 0 ∧ nI g &&& d = d := Or.inr ⟨i, hi, rfl, by rw [nI_clamp (by omega)] at hk; exact hk, hm⟩
      br_c (fun _ => nm_r (nI_1 i) (hw _ hn)) (fun _ => cv_cells (fun _ => cv_cells (fun _ => br_c (fun _ => nm_r (nI_1 i) (hw _ h)) (fun _ => nm_r (nI_1 i) (hw _ hn)))))) (fun _ => nm_r (nI_1 i) (hw _ h)))⟩))
theorem cv_note {post : St1 → Prop} {q : Nat} {x y : Int32} (hq : q < 120) (H : post (f0, a1, a2, a3, a4, a5, a6, a7, upd a8 q (a8 q + x), upd a9 q (a9 q + y))) : wpX_note post (f0, a1, a2, a3, a4, a5, a6, a7, a8, a9) (nI q) x y := by
  refine ⟨pk_in q 120 hq, pk_in q 120 hq, nm_e ⟨pk_in q 120 hq, pk_in q 120 hq, nm_e ?_⟩⟩
  rw [nI_clamp (show q < 2 ^ 31 by omega)]
  exact H
end
end
section
/-- what a question asks of a place: it passes the filter and its group is q -/
def cv_Q (f r q : Nat) (x : Nat) : Bool := cv_pass x f 7 && (cv_grp x r == q)
/-- its group in g -/
def cv_G (g p : Nat) (x : Nat) : Bool := cv_grp x g == p
/-- the same, asked of the cells below i of a summary g -/
def cv_R (g d f r i q : Nat) (x : Nat) : Bool := decide (cv_grp x g < i) && (cv_pass (cv_grp x g) f d && (cv_grp (cv_grp x g) r == q))
def cv_B (n : Nat) (a1 a3 a4 : Nat → Int32) : Prop := n ≤ 40 ∧ (∀ i, vp_in (a1 i) 120) ∧ (∀ p, ¬ a3 p < 0 → vp_in (a3 p) 40) ∧ (∀ p, ¬ a4 p < 0 → vp_in (a4 p) 40)
def cv_C (n : Nat) (a1 a2 a5 a6 a7 : Nat → Int32) : Prop := ∀ g, g < 8 → ¬ a5 g = 0 → ∀ p, p < 120 → a6 (120 * g + p) = nI (cv_cn (cv_G g p) a1 n) ∧ a7 (120 * g + p) = cv_sm (cv_G g p) a1 a2 n
theorem cv_pl {x : Int32} (h : vp_in x 120) : ∃ p, p < 120 ∧ x = nI p ∧ x.toNatClampNeg = p := by
  obtain ⟨p, hp, e⟩ := vp_in_of h (by omega)
  exact ⟨p, hp, e, by rw [e]; exact nI_clamp (by omega)⟩
theorem cv_plc {x : Int32} (h : vp_in x 120) : x.toNatClampNeg < 120 := by
  obtain ⟨p, hp, _, e⟩ := cv_pl h
  rw [e]
  exact hp
theorem cv_R0 (g d f r q x : Nat) : cv_R g d f r 0 q x = false := by
  unfold cv_R
  simp
theorem cv_Re {g f r q x : Nat} (hx : x < 120) (hg : g < 8) (hr : r < 8) (h : nI g &&& nI (cv_cuts f ||| r) = nI (cv_cuts f ||| r)) : cv_R g (cv_cuts f ||| r) f r 120 q x = cv_Q f r q x := by
  obtain ⟨e1, e2⟩ := cv_key hx hg hr h
  unfold cv_R cv_Q
  rw [e1, e2, decide_eq_true (cv_gg x hx g hg).1, Bool.true_and]
theorem cv_Rt {g d f r i q : Nat} (h : (cv_pass i f d && (cv_grp i r == q)) = true) (x : Nat) : cv_R g d f r (i + 1) q x = (cv_R g d f r i q x || cv_G g i x) ∧ (cv_R g d f r i q x && cv_G g i x) = false := by
  unfold cv_R cv_G
  generalize cv_grp x g = y
  by_cases e : y = i
  · subst e
    rw [h]
    simp
  · have e1 : decide (y < i + 1) = decide (y < i) := by
      rw [decide_eq_decide]
      omega
    have e2 : (y == i) = false := by
      rw [beq_eq_false_iff_ne]
      exact e
    rw [e1, e2]
    simp
theorem cv_Rf {g d f r i q : Nat} (h : (cv_pass i f d && (cv_grp i r == q)) = false) (x : Nat) : cv_R g d f r (i + 1) q x = cv_R g d f r i q x := by
  unfold cv_R
  generalize cv_grp x g = y
  by_cases e : y = i
  · subst e
    rw [h]
    simp
  · have e1 : decide (y < i + 1) = decide (y < i) := by
      rw [decide_eq_decide]
      omega
    rw [e1]
section
variable {f0 : Int32} {a1 a2 a3 a4 a5 a6 a7 a8 a9 : Nat → Int32}
theorem cv_g51 {post : St1 → Prop} {n f r : Nat} (hn : n ≤ 40) (h1 : ∀ i, vp_in (a1 i) 120) (hr : r < 8) (hf : f < 32768) (h0 : ∀ q, q < 120 → a8 q = 0 ∧ a9 q = 0)
    (H : ∀ b8 b9, (∀ q, q < 120 → b8 q = nI (cv_cn (cv_Q f r q) a1 n) ∧ b9 q = cv_sm (cv_Q f r q) a1 a2 n) → post (nI n, a1, a2, a3, a4, a5, a6, a7, b8, b9)) :
    ∃ m, wX_gather_51 post (nI r) (nI f) m 0 (nI n) a1 a2 a3 a4 a5 a6 a7 a8 a9 := by
  refine pk_loop (σ := (Nat → Int32) × (Nat → Int32)) (fun m i s => wX_gather_51 post (nI r) (nI f) m (nI i) (nI n) a1 a2 a3 a4 a5 a6 a7 s.1 s.2) (fun i s => ∀ q, q < 120 → s.1 q = nI (cv_cn (cv_Q f r q) a1 i) ∧ s.2 q = cv_sm (cv_Q f r q) a1 a2 i) n 0 (a8, a9) (by omega) h0 ?_ ?_
  · exact fun m s h => pk_le n n (fun _ => H s.1 s.2 h) (fun z => absurd z (by omega))
  · intro m i s hi h hw
    have e : (nI i).toNatClampNeg = i := nI_clamp (by omega)
    obtain ⟨p, hp, ep, ec⟩ := cv_pl (h1 i)
    refine pk_le n i (fun z => absurd z (by omega)) (fun _ => ⟨pk_in i 40 (by omega), ?_⟩)
    rw [e]
    refine cv_passes ep rfl (d := 7) rfl hp hf (by omega) ?_
    cases hb : cv_pass p f 7
    · refine br_t rfl (nm_r (nI_1 i) (hw s (fun q hq => ?_)))
      have eq : cv_Q f r q p = false := by
        unfold cv_Q
        rw [hb]
        rfl
      rw [cv_cn_s, cv_sm_s, ec, eq, (h q hq).1, (h q hq).2]
      simp
    · refine br_f (by decide) ⟨pk_in i 40 (by omega), cv_group ep rfl hp hr ⟨pk_in i 40 (by omega), cv_note (cv_gg p hp r hr).1 (nm_r (nI_1 i) (hw (upd s.1 (cv_grp p r) (s.1 (cv_grp p r) + 1), upd s.2 (cv_grp p r) (s.2 (cv_grp p r) + a2 i)) (fun q hq => ?_)))⟩⟩
      dsimp only
      rw [cv_cn_s, cv_sm_s, ec]
      by_cases eq : q = cv_grp p r
      · have t : cv_Q f r q p = true := by
          unfold cv_Q
          rw [hb, eq]
          simp
        rw [t, eq, pk_us, pk_us, ← eq, (h q hq).1, (h q hq).2]
        exact ⟨nI_1 _, rfl⟩
      · have t : cv_Q f r q p = false := by
          unfold cv_Q
          rw [hb, Bool.true_and, beq_eq_false_iff_ne]
          exact fun z => eq z.symm
        rw [t, pk_un eq, pk_un eq, (h q hq).1, (h q hq).2]
        simp
theorem cv_cellpos {n c : Nat} {x : Int32} (hn : n ≤ 40) (hc : c ≤ n) (hx : x = nI c) : x ≤ 0 ↔ c = 0 := by
  rw [hx]
  have e : nI c ≤ nI 0 ↔ c ≤ 0 := nI_leI (by omega) (by omega)
  exact e.trans (by omega)
theorem cv_g115 {post : St1 → Prop} {n g f r : Nat} (hn : n ≤ 40) (h1 : ∀ i, vp_in (a1 i) 120) (hC : cv_C n a1 a2 a5 a6 a7) (hg : g < 8) (hk : ¬ a5 g = 0) (hr : r < 8) (hf : f < 32768) (hd : nI g &&& nI (cv_cuts f ||| r) = nI (cv_cuts f ||| r)) (h0 : ∀ q, q < 120 → a8 q = 0 ∧ a9 q = 0)
    (H : ∀ b8 b9, (∀ q, q < 120 → b8 q = nI (cv_cn (cv_Q f r q) a1 n) ∧ b9 q = cv_sm (cv_Q f r q) a1 a2 n) → post (nI n, a1, a2, a3, a4, a5, a6, a7, b8, b9)) :
    ∃ m, wX_gather_115 post (nI r) (nI f) (nI (cv_cuts f ||| r)) (nI g) m 0 (nI n) a1 a2 a3 a4 a5 a6 a7 a8 a9 := by
  have d8 := (cv_or8 (cv_cuts f) (cv_cuts8 f) r hr).1
  refine pk_loop (σ := (Nat → Int32) × (Nat → Int32)) (fun m i s => wX_gather_115 post (nI r) (nI f) (nI (cv_cuts f ||| r)) (nI g) m (nI i) (nI n) a1 a2 a3 a4 a5 a6 a7 s.1 s.2) (fun i s => ∀ q, q < 120 → s.1 q = nI (cv_cn (cv_R g (cv_cuts f ||| r) f r i q) a1 n) ∧ s.2 q = cv_sm (cv_R g (cv_cuts f ||| r) f r i q) a1 a2 n) 120 0 (a8, a9) (by omega) ?_ ?_ ?_
  · intro q hq
    have z := cv_cn_f (n := n) (P := a1) (fun i _ => cv_R0 g (cv_cuts f ||| r) f r q (a1 i).toNatClampNeg)
    rw [z, cv_sm_0 z]
    exact h0 q hq
  · refine fun m s h => pk_le 120 120 (fun _ => H s.1 s.2 (fun q hq => ?_)) (fun z => absurd z (by omega))
    have t : ∀ i, i < n → cv_Q f r q (a1 i).toNatClampNeg = cv_R g (cv_cuts f ||| r) f r 120 q (a1 i).toNatClampNeg := fun i _ => (cv_Re (cv_plc (h1 i)) hg hr hd).symm
    rw [cv_cn_c t, cv_sm_c t (fun _ _ => rfl)]
    exact h q hq
  · revert d8 hd
    generalize cv_cuts f ||| r = d
    intro hd d8 m i s hi h hw
    have e : 120 * nI g + nI i = nI (120 * g + i) := by
      rw [show (120 : Int32) = nI 120 from rfl, pk_mul, nI_add]
    have ec : (nI (120 * g + i)).toNatClampNeg = 120 * g + i := nI_clamp (by omega)
    obtain ⟨c6, c7⟩ := hC g hg hk i hi
    have hc := cv_cn_le (cv_G g i) a1 n
    have keep : (cv_pass i f d = false ∨ cv_cn (cv_G g i) a1 n = 0) → ∀ q, q < 120 → s.1 q = nI (cv_cn (cv_R g d f r (i + 1) q) a1 n) ∧ s.2 q = cv_sm (cv_R g d f r (i + 1) q) a1 a2 n := by
      intro ho q hq
      cases hb : (cv_pass i f d && (cv_grp i r == q))
      · rw [cv_cn_c (fun j _ => cv_Rf hb (a1 j).toNatClampNeg), cv_sm_c (fun j _ => cv_Rf hb (a1 j).toNatClampNeg) (fun _ _ => rfl)]
        exact h q hq
      · rcases ho with ho | ho
        · rw [ho] at hb
          exact absurd hb (by simp)
        · rw [cv_cn_a (fun j _ => (cv_Rt hb (a1 j).toNatClampNeg).1) (fun j _ => (cv_Rt hb (a1 j).toNatClampNeg).2), cv_sm_a (fun j _ => (cv_Rt hb (a1 j).toNatClampNeg).1) (fun j _ => (cv_Rt hb (a1 j).toNatClampNeg).2), ho, cv_sm_0 ho]
          simpa using h q hq
    refine pk_le 120 i (fun z => absurd z (by omega)) (fun _ => ?_)
    rw [e, ec]
    refine ⟨pk_in (120 * g + i) 960 (by omega), ek_if (cv_cellpos hn hc c6) (fun z => nm_r (nI_1 i) (hw s (keep (Or.inr z)))) (fun z => cv_passes rfl rfl rfl hi hf d8 ?_)⟩
    cases hb : cv_pass i f d
    · exact br_t rfl (nm_r (nI_1 i) (hw s (keep (Or.inl hb))))
    · refine br_f (by decide) (cv_group rfl rfl hi hr ⟨pk_in (120 * g + i) 960 (by omega), pk_in (120 * g + i) 960 (by omega), cv_note (cv_gg i hi r hr).1 (nm_r (nI_1 i) (hw (upd s.1 (cv_grp i r) (s.1 (cv_grp i r) + a6 (120 * g + i)), upd s.2 (cv_grp i r) (s.2 (cv_grp i r) + a7 (120 * g + i))) (fun q hq => ?_)))⟩)
      dsimp only
      by_cases eq : q = cv_grp i r
      · have t : (cv_pass i f d && (cv_grp i r == q)) = true := by
          rw [hb, eq]
          simp
        rw [eq, pk_us, pk_us, ← eq, cv_cn_a (fun j _ => (cv_Rt t (a1 j).toNatClampNeg).1) (fun j _ => (cv_Rt t (a1 j).toNatClampNeg).2), cv_sm_a (fun j _ => (cv_Rt t (a1 j).toNatClampNeg).1) (fun j _ => (cv_Rt t (a1 j).toNatClampNeg).2), (h q hq).1, (h q hq).2, c6, c7]
        exact ⟨nI_add _ _, rfl⟩
      · have t : (cv_pass i f d && (cv_grp i r == q)) = false := by
          rw [hb, Bool.true_and, beq_eq_false_iff_ne]
          exact fun z => eq z.symm
        rw [pk_un eq, pk_un eq, cv_cn_c (fun j _ => cv_Rf t (a1 j).toNatClampNeg), cv_sm_c (fun j _ => cv_Rf t (a1 j).toNatClampNeg) (fun _ _ => rfl)]
        exact h q hq
theorem cv_gather {post : St1 → Prop} {n f r : Nat} {y z : Int32} (ey : y = nI r) (ez : z = nI f) (hB : cv_B n a1 a3 a4) (hC : cv_C n a1 a2 a5 a6 a7) (hr : r < 8) (hf : f < 32768)
    (H : ∀ b8 b9, (∀ q, q < 120 → b8 q = nI (cv_cn (cv_Q f r q) a1 n) ∧ b9 q = cv_sm (cv_Q f r q) a1 a2 n) → post (nI n, a1, a2, a3, a4, a5, a6, a7, b8, b9)) :
    wpX_gather post (nI n, a1, a2, a3, a4, a5, a6, a7, a8, a9) y z := by
  subst ey
  subst ez
  refine pk_loop (σ := (Nat → Int32) × (Nat → Int32)) (fun m i s => wX_gather_2 post (nI r) (nI f) (nI n) m (nI i) a1 a2 a3 a4 a5 a6 a7 s.1 s.2) (fun i s => ∀ q, q < i → s.1 q = 0 ∧ s.2 q = 0) 120 0 (a8, a9) (by omega) (fun q hq => absurd hq (by omega)) ?_ ?_
  · refine fun m s h => pk_le 120 120 (fun _ => cv_cutsW hf (nm_r (cv_or8 (cv_cuts f) (cv_cuts8 f) r hr).2.1 (cv_smallest (fun t ht => br_c (fun h0 => ?_) (fun _ => cv_g51 hB.1 hB.2.1 hr hf h H))))) (fun z => absurd z (by omega))
    rcases ht with ht | ⟨g, hg, rfl, hk, hd⟩
    · exact absurd ht (Int32.not_lt.mpr h0)
    · exact cv_g115 hB.1 hB.2.1 hC hg hk hr hf hd h H
  · intro m i s hi h hw
    refine pk_le 120 i (fun z => absurd z (by omega)) (fun _ => ⟨pk_in i 120 hi, nm_e ⟨pk_in i 120 hi, nm_e (nm_r (nI_1 i) (hw (upd s.1 (nI i).toNatClampNeg 0, upd s.2 (nI i).toNatClampNeg 0) (fun q hq => ?_)))⟩⟩)
    dsimp only
    rw [nI_clamp (show i < 2 ^ 31 by omega)]
    by_cases e : q = i
    · rw [e, pk_us, pk_us]
      exact ⟨rfl, rfl⟩
    · rw [pk_un e, pk_un e]
      exact h q (by omega)
end
end
section
section
variable {f0 : Int32} {a1 a2 a3 a4 a5 a6 a7 a8 a9 : Nat → Int32}
theorem cv_ix (g q : Nat) : 120 * nI g + nI q = nI (120 * g + q) := by
  rw [show (120 : Int32) = nI 120 from rfl, pk_mul, nI_add]
theorem cv_enter {post : St1 → Prop} {p : Nat} {y x2 x3 : Int32} (ey : y = nI p) (hp : p < 120)
    (H : ∀ b6 b7, (∀ g, g < 8 → ¬ a5 g = 0 → ∀ q, q < 120 → b6 (120 * g + q) = a6 (120 * g + q) + (if cv_G g q p = true then x2 else 0) ∧ b7 (120 * g + q) = a7 (120 * g + q) + (if cv_G g q p = true then x3 else 0)) → post (f0, a1, a2, a3, a4, a5, b6, b7, a8, a9)) :
    wpX_enter post (f0, a1, a2, a3, a4, a5, a6, a7, a8, a9) y x2 x3 := by
  subst ey
  refine pk_loop (σ := (Nat → Int32) × (Nat → Int32)) (fun m i s => wX_enter_3 post (nI p) x2 x3 f0 m (nI i) a1 a2 a3 a4 a5 s.1 s.2 a8 a9)
    (fun i s => (∀ g, g < i → ¬ a5 g = 0 → ∀ q, q < 120 → s.1 (120 * g + q) = a6 (120 * g + q) + (if cv_G g q p = true then x2 else 0) ∧ s.2 (120 * g + q) = a7 (120 * g + q) + (if cv_G g q p = true then x3 else 0)) ∧ (∀ j, 120 * i ≤ j → s.1 j = a6 j ∧ s.2 j = a7 j)) 8 0 (a6, a7) (by omega) ⟨fun g hg => absurd hg (by omega), fun j _ => ⟨rfl, rfl⟩⟩ ?_ ?_
  · exact fun m s h => pk_le 8 8 (fun _ => H s.1 s.2 h.1) (fun z => absurd z (by omega))
  · intro m i s hi h hw
    have e : (nI i).toNatClampNeg = i := nI_clamp (by omega)
    refine pk_le 8 i (fun z => absurd z (by omega)) (fun _ => ⟨pk_in i 8 hi, ?_⟩)
    rw [e]
    have hgp := (cv_gg p hp i hi).1
    refine br_c (fun h0 => nm_r (nI_1 i) (hw s ⟨fun g hg hk => ?_, fun j hj => h.2 j (by omega)⟩)) (fun h0 => cv_group rfl rfl hp hi (nm_r (cv_ix i (cv_grp p i)) ⟨pk_in (120 * i + cv_grp p i) 960 (by omega), pk_in (120 * i + cv_grp p i) 960 (by omega), nm_e ⟨pk_in (120 * i + cv_grp p i) 960 (by omega), pk_in (120 * i + cv_grp p i) 960 (by omega), nm_e (nm_r (nI_1 i) (hw (upd s.1 (nI (120 * i + cv_grp p i)).toNatClampNeg (s.1 (nI (120 * i + cv_grp p i)).toNatClampNeg + x2), upd s.2 (nI (120 * i + cv_grp p i)).toNatClampNeg (s.2 (nI (120 * i + cv_grp p i)).toNatClampNeg + x3)) ?_))⟩⟩))
    · by_cases eg : g = i
      · rw [eg] at hk
        exact absurd h0 hk
      · exact h.1 g (by omega) hk
    · dsimp only
      rw [nI_clamp (show 120 * i + cv_grp p i < 2 ^ 31 by omega)]
      refine ⟨fun g hg hk q hq => ?_, fun j hj => ?_⟩
      · by_cases eg : g = i
        · subst eg
          by_cases eq : cv_grp p g = q
          · have t : cv_G g q p = true := by
              unfold cv_G
              rw [eq]
              simp
            rw [eq, pk_us, pk_us, t, if_pos rfl, if_pos rfl, (h.2 (120 * g + q) (by omega)).1, (h.2 (120 * g + q) (by omega)).2]
            exact ⟨rfl, rfl⟩
          · have t : cv_G g q p = false := by
              unfold cv_G
              rw [beq_eq_false_iff_ne]
              exact eq
            rw [pk_un (by omega), pk_un (by omega), t, (h.2 (120 * g + q) (by omega)).1, (h.2 (120 * g + q) (by omega)).2]
            simp
        · rw [pk_un (by omega), pk_un (by omega)]
          exact h.1 g (by omega) hk q hq
      · rw [pk_un (by omega), pk_un (by omega)]
        exact h.2 j (by omega)
theorem cv_f40 {post : St1 → Prop} {n g : Nat} (hn : n ≤ 40) (h1 : ∀ i, vp_in (a1 i) 120) (hg : g < 8) (h0 : ∀ q, q < 120 → a6 (120 * g + q) = 0 ∧ a7 (120 * g + q) = 0)
    (H : ∀ b6 b7, (∀ q, q < 120 → b6 (120 * g + q) = nI (cv_cn (cv_G g q) a1 n) ∧ b7 (120 * g + q) = cv_sm (cv_G g q) a1 a2 n) → (∀ j, (j < 120 * g ∨ 120 * g + 120 ≤ j) → b6 j = a6 j ∧ b7 j = a7 j) → post (nI n, a1, a2, a3, a4, a5, b6, b7, a8, a9)) :
    ∃ m, wX_fill_40 post (nI g) (nI n) m 0 a1 a2 a3 a4 a5 a6 a7 a8 a9 := by
  refine pk_loop (σ := (Nat → Int32) × (Nat → Int32)) (fun m i s => wX_fill_40 post (nI g) (nI n) m (nI i) a1 a2 a3 a4 a5 s.1 s.2 a8 a9)
    (fun i s => (∀ q, q < 120 → s.1 (120 * g + q) = nI (cv_cn (cv_G g q) a1 i) ∧ s.2 (120 * g + q) = cv_sm (cv_G g q) a1 a2 i) ∧ (∀ j, (j < 120 * g ∨ 120 * g + 120 ≤ j) → s.1 j = a6 j ∧ s.2 j = a7 j)) n 0 (a6, a7) (by omega) ⟨h0, fun j _ => ⟨rfl, rfl⟩⟩ ?_ ?_
  · exact fun m s h => pk_le n n (fun _ => H s.1 s.2 h.1 h.2) (fun z => absurd z (by omega))
  · intro m i s hi h hw
    have e : (nI i).toNatClampNeg = i := nI_clamp (by omega)
    obtain ⟨p, hp, ep, ec⟩ := cv_pl (h1 i)
    have hgp := (cv_gg p hp g hg).1
    refine pk_le n i (fun z => absurd z (by omega)) (fun _ => ⟨pk_in i 40 (by omega), ?_⟩)
    rw [e]
    refine cv_group ep rfl hp hg (nm_r (cv_ix g (cv_grp p g)) ⟨pk_in (120 * g + cv_grp p g) 960 (by omega), pk_in (120 * g + cv_grp p g) 960 (by omega), nm_e ⟨pk_in (120 * g + cv_grp p g) 960 (by omega), pk_in i 40 (by omega), pk_in (120 * g + cv_grp p g) 960 (by omega), nm_e (nm_r (nI_1 i) (hw (upd s.1 (nI (120 * g + cv_grp p g)).toNatClampNeg (s.1 (nI (120 * g + cv_grp p g)).toNatClampNeg + 1), upd s.2 (nI (120 * g + cv_grp p g)).toNatClampNeg (s.2 (nI (120 * g + cv_grp p g)).toNatClampNeg + a2 i)) ?_))⟩⟩)
    dsimp only
    rw [nI_clamp (show 120 * g + cv_grp p g < 2 ^ 31 by omega)]
    refine ⟨fun q hq => ?_, fun j hj => ?_⟩
    · rw [cv_cn_s, cv_sm_s, ec]
      by_cases eq : cv_grp p g = q
      · have t : cv_G g q p = true := by
          unfold cv_G
          rw [eq]
          simp
        rw [eq, pk_us, pk_us, t, if_pos rfl, if_pos rfl, (h.1 q hq).1, (h.1 q hq).2]
        exact ⟨nI_1 _, rfl⟩
      · have t : cv_G g q p = false := by
          unfold cv_G
          rw [beq_eq_false_iff_ne]
          exact eq
        rw [pk_un (by omega), pk_un (by omega), t, (h.1 q hq).1, (h.1 q hq).2]
        simp
    · rw [pk_un (by omega), pk_un (by omega)]
      exact h.2 j hj
theorem cv_fill {post : St1 → Prop} {n g : Nat} (hn : n ≤ 40) (h1 : ∀ i, vp_in (a1 i) 120) (hg : g < 8)
    (H : ∀ b6 b7, (∀ q, q < 120 → b6 (120 * g + q) = nI (cv_cn (cv_G g q) a1 n) ∧ b7 (120 * g + q) = cv_sm (cv_G g q) a1 a2 n) → (∀ j, (j < 120 * g ∨ 120 * g + 120 ≤ j) → b6 j = a6 j ∧ b7 j = a7 j) → post (nI n, a1, a2, a3, a4, a5, b6, b7, a8, a9)) :
    wpX_fill post (nI n, a1, a2, a3, a4, a5, a6, a7, a8, a9) (nI g) := by
  refine pk_loop (σ := (Nat → Int32) × (Nat → Int32)) (fun m i s => wX_fill_2 post (nI g) (nI n) m (nI i) a1 a2 a3 a4 a5 s.1 s.2 a8 a9)
    (fun i s => (∀ q, q < i → s.1 (120 * g + q) = 0 ∧ s.2 (120 * g + q) = 0) ∧ (∀ j, (j < 120 * g ∨ 120 * g + 120 ≤ j) → s.1 j = a6 j ∧ s.2 j = a7 j)) 120 0 (a6, a7) (by omega) ⟨fun q hq => absurd hq (by omega), fun j _ => ⟨rfl, rfl⟩⟩ ?_ ?_
  · exact fun m s h => pk_le 120 120 (fun _ => cv_f40 hn h1 hg h.1 (fun b6 b7 hi ho => H b6 b7 hi (fun j hj => ⟨(ho j hj).1.trans (h.2 j hj).1, (ho j hj).2.trans (h.2 j hj).2⟩))) (fun z => absurd z (by omega))
  · intro m i s hi h hw
    refine pk_le 120 i (fun z => absurd z (by omega)) (fun _ => ?_)
    rw [cv_ix g i, nI_clamp (show 120 * g + i < 2 ^ 31 by omega)]
    refine ⟨pk_in (120 * g + i) 960 (by omega), nm_e ⟨pk_in (120 * g + i) 960 (by omega), nm_e (nm_r (nI_1 i) (hw (upd s.1 (120 * g + i) 0, upd s.2 (120 * g + i) 0) ⟨fun q hq => ?_, fun j hj => ?_⟩))⟩⟩
    · dsimp only
      by_cases eq : q = i
      · rw [eq, pk_us, pk_us]
        exact ⟨rfl, rfl⟩
      · rw [pk_un (by omega), pk_un (by omega)]
        exact h.1 q (by omega)
    · dsimp only
      rw [pk_un (by omega), pk_un (by omega)]
      exact h.2 j hj
theorem cv_p138 {post : Int32 → St1 → Prop} {J42 : Int32 → Int32 → Int32 → Int32 → (Nat → Int32) → (Nat → Int32) → (Nat → Int32) → (Nat → Int32) → (Nat → Int32) → (Nat → Int32) → (Nat → Int32) → (Nat → Int32) → (Nat → Int32) → Prop} {x2 x4 x6 z0 : Int32} {n : Nat} (hn : n ≤ 40) (h1 : ∀ i, vp_in (a1 i) 120) (hC : cv_C n a1 a2 a5 a6 a7) (hz : ¬ z0 = 0 → ∃ g, g < 8 ∧ x6 = nI g)
    (H : ∀ y z b5 b6 b7, cv_C n a1 a2 b5 b6 b7 → J42 y z (x4 + 1) (nI n) a1 a2 a3 a4 b5 b6 b7 a8 a9) :
    wX_plan_138 post J42 x2 x4 x6 z0 (nI n) a1 a2 a3 a4 a5 a6 a7 a8 a9 := by
  refine br_c (fun _ => nm_e (H _ _ _ _ _ hC)) (fun h => ?_)
  obtain ⟨g, hg, rfl⟩ := hz h
  refine ⟨pk_in g 8 hg, nm_e (cv_cells (fun r => nm_e (cv_fill hn h1 hg (fun b6 b7 hi ho => nm_e (H _ _ _ _ _ ?_)))))⟩
  rw [nI_clamp (show g < 2 ^ 31 by omega)]
  intro k hk hkk q hq
  by_cases e : k = g
  · rw [e]
    exact hi q hq
  · rw [pk_un e] at hkk
    rw [(ho (120 * k + q) (by omega)).1, (ho (120 * k + q) (by omega)).2]
    exact hC k hk hkk q hq
theorem cv_p69 {post : Int32 → St1 → Prop} {J42 : Int32 → Int32 → Int32 → Int32 → (Nat → Int32) → (Nat → Int32) → (Nat → Int32) → (Nat → Int32) → (Nat → Int32) → (Nat → Int32) → (Nat → Int32) → (Nat → Int32) → (Nat → Int32) → Prop} {x2 x4 x5 : Int32} {n : Nat} (hn : n ≤ 40) (h1 : ∀ i, vp_in (a1 i) 120) (hC : cv_C n a1 a2 a5 a6 a7)
    (H : ∀ y z b5 b6 b7, cv_C n a1 a2 b5 b6 b7 → J42 y z (x4 + 1) (nI n) a1 a2 a3 a4 b5 b6 b7 a8 a9) :
    ∃ m, wX_plan_69 post J42 x2 x4 x5 (nI n) a1 a2 a3 a4 a5 a6 a7 a8 a9 m (-1) 0 0 :=
  pk_loop (σ := Int32 × Int32) (fun m i s => wX_plan_69 post J42 x2 x4 x5 (nI n) a1 a2 a3 a4 a5 a6 a7 a8 a9 m s.1 s.2 (nI i)) (fun _ s => s.1 < 0 ∨ ∃ g, g < 8 ∧ s.1 = nI g) 8 0 (-1, 0) (by omega) (Or.inl (by decide))
    (fun m s h => pk_le 8 8 (fun _ => br_c (fun _ => cv_p138 hn h1 hC (fun z => absurd rfl z) H) (fun hl => cv_p138 hn h1 hC (fun _ => h.resolve_left hl) H)) (fun z => absurd z (by omega)))
    (fun m i s hi h hw => pk_le 8 i (fun z => absurd z (by omega)) (fun _ => cv_workWith (fun r => nm_e ⟨pk_in i 8 hi, br_c (fun _ => cv_cells (fun _ => br_c (fun _ => nm_r (nI_1 i) (hw s h)) (fun _ => br_c (fun _ => nm_r (nI_1 i) (hw s h)) (fun _ => nm_r (nI_1 i) (hw (nI i, x5 - r) (Or.inr ⟨i, hi, rfl⟩)))))) (fun _ => nm_r (nI_1 i) (hw s h))⟩)))
theorem cv_p42 {post : Int32 → St1 → Prop} {x2 : Int32} {n : Nat} (hn : n ≤ 40) (h1 : ∀ i, vp_in (a1 i) 120) (hC : cv_C n a1 a2 a5 a6 a7)
    (H : ∀ b5 b6 b7, cv_C n a1 a2 b5 b6 b7 → post 0 (nI n, a1, a2, a3, a4, b5, b6, b7, a8, a9)) :
    ∃ m, wX_plan_42 post m x2 1 0 (nI n) a1 a2 a3 a4 a5 a6 a7 a8 a9 :=
  pk_loop (σ := Int32 × Int32 × (Nat → Int32) × (Nat → Int32) × (Nat → Int32)) (fun m i s => wX_plan_42 post m s.1 s.2.1 (nI i) (nI n) a1 a2 a3 a4 s.2.2.1 s.2.2.2.1 s.2.2.2.2 a8 a9) (fun _ s => cv_C n a1 a2 s.2.2.1 s.2.2.2.1 s.2.2.2.2) 8 0 (x2, 1, a5, a6, a7) (by omega) hC
    (fun m s h => pk_le 8 8 (fun _ => H _ _ _ h) (fun z => absurd z (by omega)))
    (fun m i s hi h hw => pk_le 8 i (fun z => absurd z (by omega)) (fun _ => br_c (fun _ => H _ _ _ h) (fun _ => cv_workWith (fun r => cv_p69 hn h1 h (fun y z b5 b6 b7 hc => by rw [nI_1]; exact hw (y, z, b5, b6, b7) hc)))))
theorem cv_plan {post : Int32 → St1 → Prop} {y : Int32} {n j : Nat} (ey : y = nI j) (hj : j ≤ 200) (hB : cv_B n a1 a3 a4)
    (H : ∀ b5 b6 b7, cv_C n a1 a2 b5 b6 b7 → post 0 (nI n, a1, a2, a3, a4, b5, b6, b7, a8, a9)) :
    wpX_plan post (nI n, a1, a2, a3, a4, a5, a6, a7, a8, a9) y := by
  subst ey
  refine br_f (nI_pos (by omega)) (pk_le j 200 (fun _ => ?_) (fun z => absurd z (by omega)))
  refine pk_loop (fun m i s => wX_plan_16 post (nI j) (nI n) m (nI i) a1 a2 a3 a4 s a6 a7 a8 a9) (fun i s => ∀ g, g < i → s g = 0) 8 0 a5 (by omega) (fun g hg => absurd hg (by omega)) ?_ ?_
  · exact fun m s h => pk_le 8 8 (fun _ => cv_p42 hB.1 hB.2.1 (fun g hg hk => absurd (h g hg) hk) H) (fun z => absurd z (by omega))
  · intro m i s hi h hw
    refine pk_le 8 i (fun z => absurd z (by omega)) (fun _ => ⟨pk_in i 8 hi, nm_e (nm_r (nI_1 i) (hw _ (fun g hg => ?_)))⟩)
    rw [nI_clamp (show i < 2 ^ 31 by omega)]
    by_cases e : g = i
    · rw [e, pk_us]
    · rw [pk_un e]
      exact h g (by omega)
end
end
section
/-- a method that changes the facts: its answer and the new facts are the same whatever is kept -/
def cv_T (W : (Int32 → St1 → Prop) → St1 → Prop) (n : Nat) (a1 a2 a3 a4 : Nat → Int32) : Prop :=
  ∃ (r : Int32) (n' : Nat) (b1 b2 b3 b4 : Nat → Int32), cv_B n' b1 b3 b4 ∧ ∀ (post : Int32 → St1 → Prop) (a5 a6 a7 a8 a9 : Nat → Int32), cv_C n a1 a2 a5 a6 a7 →
    (∀ b5 b6 b7, cv_C n' b1 b2 b5 b6 b7 → post r (nI n', b1, b2, b3, b4, b5, b6, b7, a8, a9)) → W post (nI n, a1, a2, a3, a4, a5, a6, a7, a8, a9)
theorem cv_nl {p : Int32} {n : Nat} (hn : n < 2 ^ 31) (h0 : ¬ p < 0) (h1 : ¬ nI n ≤ p) : ∃ k, k < n ∧ p = nI k ∧ p.toNatClampNeg = k := by
  rcases pk_ix p hn with h | h | ⟨k, hk, e⟩
  · exact absurd h h0
  · exact absurd h h1
  · exact ⟨k, hk, e, by rw [e]; exact nI_clamp (by omega)⟩
theorem cv_add {n : Nat} {a1 a2 a3 a4 : Nat → Int32} (hB : cv_B n a1 a3 a4) (p v : Int32) : cv_T (fun post u => wpX_add post u p v) n a1 a2 a3 a4 := by
  by_cases c1 : p < 0
  · exact ⟨-1000000, n, a1, a2, a3, a4, hB, fun post a5 a6 a7 a8 a9 hC H => br_t c1 (H _ _ _ hC)⟩
  by_cases c2 : 120 ≤ p
  · exact ⟨-1000000, n, a1, a2, a3, a4, hB, fun post a5 a6 a7 a8 a9 hC H => br_f c1 (br_t c2 (H _ _ _ hC))⟩
  by_cases c3 : v < (-50)
  · exact ⟨-1000000, n, a1, a2, a3, a4, hB, fun post a5 a6 a7 a8 a9 hC H => br_f c1 (br_f c2 (br_t c3 (H _ _ _ hC)))⟩
  by_cases c4 : v ≤ 50
  · by_cases c5 : nI n = 40
    · exact ⟨-2000000, n, a1, a2, a3, a4, hB, fun post a5 a6 a7 a8 a9 hC H => br_f c1 (br_f c2 (br_f c3 (br_t c4 (br_t c5 (H _ _ _ hC)))))⟩
    · obtain ⟨hn, h1, h3, h4⟩ := hB
      have hn' : n < 40 := by
        rcases Nat.lt_or_ge n 40 with z | z
        · exact z
        · have z' : n = 40 := by omega
          rw [z'] at c5
          exact absurd rfl c5
      obtain ⟨k, hk, ep, ek⟩ := cv_nl (n := 120) (by omega) c1 c2
      have en : (nI n).toNatClampNeg = n := nI_clamp (by omega)
      refine ⟨nI (n + 1) - 1, n + 1, upd a1 n p, upd a2 n v, upd a3 k (nI n), upd a4 n (a3 k), ⟨by omega, fun i => ?_, fun i => ?_, fun i => ?_⟩, fun post a5 a6 a7 a8 a9 hC H => br_f c1 (br_f c2 (br_f c3 (br_t c4 (br_f c5 ?_))))⟩
      · by_cases e : i = n
        · rw [e, pk_us, ep]
          exact pk_in k 120 hk
        · rw [pk_un e]
          exact h1 i
      · by_cases e : i = k
        · rw [e, pk_us]
          exact fun _ => pk_in n 40 hn'
        · rw [pk_un e]
          exact h3 i
      · by_cases e : i = n
        · rw [e, pk_us]
          exact h3 k
        · rw [pk_un e]
          exact h4 i
      · rw [en, ek]
        have ip : vp_in p 120 := by
          rw [ep]
          exact pk_in k 120 hk
        refine ⟨pk_in n 40 hn', nm_e ⟨pk_in n 40 hn', nm_e ⟨ip, pk_in n 40 hn', nm_e ⟨ip, nm_e (nm_r (nI_1 n) (cv_enter ep hk (fun b6 b7 hb => H _ _ _ (fun g hg hkk q hq => ?_))))⟩⟩⟩⟩
        obtain ⟨t6, t7⟩ := hb g hg hkk q hq
        obtain ⟨u6, u7⟩ := hC g hg hkk q hq
        have w : ∀ i, i < n → cv_G g q (upd a1 n p i).toNatClampNeg = cv_G g q (a1 i).toNatClampNeg := fun i hi => by rw [pk_un (by omega)]
        rw [cv_cn_s, cv_sm_s, pk_us, pk_us, ek, cv_cn_c w, cv_sm_c (A' := a2) w (fun i hi => pk_un (by omega)), t6, t7, u6, u7]
        refine ⟨?_, rfl⟩
        cases cv_G g q k
        · simp
        · exact nI_1 _
  · exact ⟨-1000000, n, a1, a2, a3, a4, hB, fun post a5 a6 a7 a8 a9 hC H => br_f c1 (br_f c2 (br_f c3 (br_f c4 (H _ _ _ hC))))⟩
theorem cv_remove {n : Nat} {a1 a2 a3 a4 : Nat → Int32} (hB : cv_B n a1 a3 a4) : cv_T (fun post u => wpX_remove post u) n a1 a2 a3 a4 := by
  cases n with
  | zero => exact ⟨-4000000, 0, a1, a2, a3, a4, hB, fun post a5 a6 a7 a8 a9 hC H => br_t rfl (H _ _ _ hC)⟩
  | succ m =>
    obtain ⟨hn, h1, h3, h4⟩ := hB
    obtain ⟨k, hk, ep, ek⟩ := cv_pl (h1 m)
    have em : (nI m).toNatClampNeg = m := nI_clamp (by omega)
    have eK : (nI k).toNatClampNeg = k := nI_clamp (by omega)
    refine ⟨a2 m, m, a1, a2, upd a3 k (a4 m), a4, ⟨by omega, h1, fun i => ?_, h4⟩, fun post a5 a6 a7 a8 a9 hC H => br_f (nI_ne0 (by omega) (by omega)) (nm_r (nI_pred m) ?_)⟩
    · by_cases e : i = k
      · rw [e, pk_us]
        exact h4 m
      · rw [pk_un e]
        exact h3 i
    · rw [em]
      refine ⟨pk_in m 40 (by omega), nm_r ep ?_⟩
      rw [eK]
      refine ⟨pk_in m 40 (by omega), pk_in k 120 hk, nm_e ⟨pk_in m 40 (by omega), cv_enter rfl hk (fun b6 b7 hb => ⟨pk_in m 40 (by omega), ?_⟩)⟩⟩
      rw [em]
      refine H _ _ _ (fun g hg hkk q hq => ?_)
      obtain ⟨t6, t7⟩ := hb g hg hkk q hq
      obtain ⟨u6, u7⟩ := hC g hg hkk q hq
      rw [cv_cn_s, ek] at u6
      rw [cv_sm_s, ek] at u7
      rw [t6, t7, u6, u7]
      generalize cv_sm (cv_G g q) a1 a2 m = s
      generalize a2 m = v
      cases cv_G g q k
      · simp
      · refine ⟨pk_m1 _, ?_⟩
        rw [if_pos rfl, if_pos rfl]
        grind
theorem cv_change {n : Nat} {a1 a2 a3 a4 : Nat → Int32} (hB : cv_B n a1 a3 a4) (p v : Int32) : cv_T (fun post u => wpX_change post u p v) n a1 a2 a3 a4 := by
  by_cases c1 : p < 0
  · exact ⟨-1000000, n, a1, a2, a3, a4, hB, fun post a5 a6 a7 a8 a9 hC H => br_t c1 (H _ _ _ hC)⟩
  by_cases c2 : nI n ≤ p
  · exact ⟨-1000000, n, a1, a2, a3, a4, hB, fun post a5 a6 a7 a8 a9 hC H => br_f c1 (br_t c2 (H _ _ _ hC))⟩
  by_cases c3 : v < (-50)
  · exact ⟨-1000000, n, a1, a2, a3, a4, hB, fun post a5 a6 a7 a8 a9 hC H => br_f c1 (br_f c2 (br_t c3 (H _ _ _ hC)))⟩
  by_cases c4 : v ≤ 50
  · have hB' := hB
    obtain ⟨hn, h1, h3, h4⟩ := hB'
    obtain ⟨k, hk, ep, ek⟩ := cv_nl (n := n) (by omega) c1 c2
    obtain ⟨x, hx, ex, ecx⟩ := cv_pl (h1 k)
    have ip : vp_in p 40 := by
      rw [ep]
      exact pk_in k 40 (by omega)
    refine ⟨a2 k, n, a1, upd a2 k v, a3, a4, hB, fun post a5 a6 a7 a8 a9 hC H => br_f c1 (br_f c2 (br_f c3 (br_t c4 ?_)))⟩
    rw [ek]
    refine ⟨ip, nm_e ⟨ip, nm_e ⟨ip, cv_enter ex hx (fun b6 b7 hb => H _ _ _ (fun g hg hkk q hq => ?_))⟩⟩⟩
    obtain ⟨t6, t7⟩ := hb g hg hkk q hq
    obtain ⟨u6, u7⟩ := hC g hg hkk q hq
    rw [cv_sm_u hk, ecx, t6, t7, u6, u7]
    refine ⟨?_, rfl⟩
    cases cv_G g q x <;> simp
  · exact ⟨-1000000, n, a1, a2, a3, a4, hB, fun post a5 a6 a7 a8 a9 hC H => br_f c1 (br_f c2 (br_f c3 (br_f c4 (H _ _ _ hC))))⟩
theorem cv_turn {n : Nat} {a1 a2 a3 a4 : Nat → Int32} (hB : cv_B n a1 a3 a4) (p x : Int32) : cv_T (fun post u => wpL_turn post u p x) n a1 a2 a3 a4 := by
  by_cases c1 : 11 ≤ p &&& 15
  · by_cases c2 : p &&& 15 = 11
    · obtain ⟨r, n', b1, b2, b3, b4, hB', h⟩ := cv_remove (a2 := a2) hB
      exact ⟨r, n', b1, b2, b3, b4, hB', fun post a5 a6 a7 a8 a9 hC H => nm_e ⟨by decide, by decide, nm_e ⟨by decide, nm_e (br_t c1 (br_t c2 (h _ a5 a6 a7 a8 a9 hC H)))⟩⟩⟩
    · by_cases c3 : 14 ≤ p &&& 15
      · obtain ⟨j, hj, ej⟩ := pk_andE (x >>> ((3 : Int32) &&& 31)) (m := 127) 7 (by decide)
        exact ⟨0, n, a1, a2, a3, a4, hB, fun post a5 a6 a7 a8 a9 hC H => nm_e ⟨by decide, by decide, nm_e ⟨by decide, nm_e (br_t c1 (br_f c2 (br_t c3 (cv_plan ej (by omega) hB H))))⟩⟩⟩
      · obtain ⟨r, n', b1, b2, b3, b4, hB', h⟩ := cv_change (a2 := a2) hB ((x >>> ((16 : Int32) &&& 31)) &&& 31) ((((x >>> ((8 : Int32) &&& 31)) &&& 127) - ((x >>> ((8 : Int32) &&& 31)) &&& 127) / 101 * 101) - 50)
        exact ⟨r, n', b1, b2, b3, b4, hB', fun post a5 a6 a7 a8 a9 hC H => nm_e ⟨by decide, by decide, nm_e ⟨by decide, nm_e (br_t c1 (br_f c2 (br_f c3 (h _ a5 a6 a7 a8 a9 hC H))))⟩⟩⟩
  · by_cases c2 : x &&& 32768 = 0
    · obtain ⟨r, n', b1, b2, b3, b4, hB', h⟩ := cv_add (a2 := a2) hB (((x &&& 3) + (4 * (((x >>> ((2 : Int32) &&& 31)) &&& 7) - ((x >>> ((2 : Int32) &&& 31)) &&& 7) / 5 * 5))) + (20 * (((x >>> ((5 : Int32) &&& 31)) &&& 7) - ((x >>> ((5 : Int32) &&& 31)) &&& 7) / 6 * 6))) (((((x >>> ((8 : Int32) &&& 31)) &&& 127) - ((x >>> ((8 : Int32) &&& 31)) &&& 127) / 101 * 101) - 50) / 10)
      exact ⟨r, n', b1, b2, b3, b4, hB', fun post a5 a6 a7 a8 a9 hC H => nm_e ⟨by decide, by decide, nm_e ⟨by decide, nm_e (br_f c1 (br_t c2 ⟨by decide, h _ a5 a6 a7 a8 a9 hC H⟩))⟩⟩⟩
    · obtain ⟨r, n', b1, b2, b3, b4, hB', h⟩ := cv_add (a2 := a2) hB (((x &&& 3) + (4 * (((x >>> ((2 : Int32) &&& 31)) &&& 7) - ((x >>> ((2 : Int32) &&& 31)) &&& 7) / 5 * 5))) + (20 * (((x >>> ((5 : Int32) &&& 31)) &&& 7) - ((x >>> ((5 : Int32) &&& 31)) &&& 7) / 6 * 6))) ((((x >>> ((8 : Int32) &&& 31)) &&& 127) - ((x >>> ((8 : Int32) &&& 31)) &&& 127) / 101 * 101) - 50)
      exact ⟨r, n', b1, b2, b3, b4, hB', fun post a5 a6 a7 a8 a9 hC H => nm_e ⟨by decide, by decide, nm_e ⟨by decide, nm_e (br_f c1 (br_f c2 (h _ a5 a6 a7 a8 a9 hC H)))⟩⟩⟩
end
section
/-- what gather leaves: counts and sums of the groups -/
def cv_K (n f r : Nat) (a1 : Nat → Int32) (q : Nat) : Int32 := nI (cv_cn (cv_Q f r q) a1 n)
def cv_S (n f r : Nat) (a1 a2 : Nat → Int32) (q : Nat) : Int32 := cv_sm (cv_Q f r q) a1 a2 n
def cv_gF (C : Nat → Int32) : Nat → Int32
  | 0 => 0
  | k + 1 => if C k ≤ 0 then cv_gF C k else cv_gF C k + 1
def cv_aF (v : Int32) (C S : Nat → Int32) : Nat → Int32
  | 0 => 0
  | k + 1 => if C k ≤ 0 then cv_aF v C S k else if S k < v then cv_aF v C S k else cv_aF v C S k + 1
def cv_tF (C S : Nat → Int32) : Nat → Int32
  | 0 => -1
  | k + 1 => if C k ≤ 0 then cv_tF C S k else if cv_tF C S k < 0 then nI k else if S k ≤ S (cv_tF C S k).toNatClampNeg then cv_tF C S k else nI k
theorem cv_gF_s (C : Nat → Int32) (k : Nat) : cv_gF C (k + 1) = if C k ≤ 0 then cv_gF C k else cv_gF C k + 1 := rfl
theorem cv_aF_s (v : Int32) (C S : Nat → Int32) (k : Nat) : cv_aF v C S (k + 1) = if C k ≤ 0 then cv_aF v C S k else if S k < v then cv_aF v C S k else cv_aF v C S k + 1 := rfl
theorem cv_tF_s (C S : Nat → Int32) (k : Nat) : cv_tF C S (k + 1) = if C k ≤ 0 then cv_tF C S k else if cv_tF C S k < 0 then nI k else if S k ≤ S (cv_tF C S k).toNatClampNeg then cv_tF C S k else nI k := rfl
theorem cv_tF_in (C S : Nat → Int32) : ∀ k, k ≤ 120 → cv_tF C S k < 0 ∨ ∃ j, j < k ∧ cv_tF C S k = nI j := by
  intro k
  induction k with
  | zero => exact fun _ => Or.inl (show (-1 : Int32) < 0 by decide)
  | succ k ih =>
    intro hk
    have old : cv_tF C S k < 0 ∨ ∃ j, j < k + 1 ∧ cv_tF C S k = nI j := by
      rcases ih (by omega) with h | ⟨j, hj, e⟩
      · exact Or.inl h
      · exact Or.inr ⟨j, by omega, e⟩
    rw [cv_tF_s]
    split
    · exact old
    · split
      · exact Or.inr ⟨k, by omega, rfl⟩
      · split
        · exact old
        · exact Or.inr ⟨k, by omega, rfl⟩
def cv_tS (C S : Nat → Int32) : Int32 := if 0 ≤ cv_tF C S 120 then S (cv_tF C S 120).toNatClampNeg else -4000000
def cv_tG (C S : Nat → Int32) : Int32 := if 0 ≤ cv_tF C S 120 then cv_tF C S 120 else -4000000
section
variable {f0 : Int32} {a1 a2 a3 a4 a5 a6 a7 a8 a9 : Nat → Int32}
theorem cv_count {post : Int32 → St1 → Prop} {n f : Nat} {y : Int32} (ey : y = nI f) (hB : cv_B n a1 a3 a4) (hC : cv_C n a1 a2 a5 a6 a7) (hf : f < 32768)
    (H : ∀ b8 b9, post (cv_K n f 0 a1 0) (nI n, a1, a2, a3, a4, a5, a6, a7, b8, b9)) : wpX_count post (nI n, a1, a2, a3, a4, a5, a6, a7, a8, a9) y := by
  subst ey
  unfold wpX_count
  refine cv_badFilter hf (br_t rfl (cv_gather (r := 0) rfl rfl hB hC (by omega) hf (fun b8 b9 h => ?_)))
  show post (b8 0) (nI n, a1, a2, a3, a4, a5, a6, a7, b8, b9)
  rw [(h 0 (by omega)).1]
  exact H b8 b9
theorem cv_sum {post : Int32 → St1 → Prop} {n f : Nat} {y : Int32} (ey : y = nI f) (hB : cv_B n a1 a3 a4) (hC : cv_C n a1 a2 a5 a6 a7) (hf : f < 32768)
    (H : ∀ b8 b9, post (cv_S n f 0 a1 a2 0) (nI n, a1, a2, a3, a4, a5, a6, a7, b8, b9)) : wpX_sum post (nI n, a1, a2, a3, a4, a5, a6, a7, a8, a9) y := by
  subst ey
  unfold wpX_sum
  refine cv_badFilter hf (br_t rfl (cv_gather (r := 0) rfl rfl hB hC (by omega) hf (fun b8 b9 h => ?_)))
  show post (b9 0) (nI n, a1, a2, a3, a4, a5, a6, a7, b8, b9)
  rw [(h 0 (by omega)).2]
  exact H b8 b9
theorem cv_growth {post : Int32 → St1 → Prop} {n m : Nat} {y : Int32} (ey : y = nI m) (hm : m < 6) (hm1 : 1 ≤ m) (hB : cv_B n a1 a3 a4) (hC : cv_C n a1 a2 a5 a6 a7)
    (H : ∀ b8 b9, post (cv_S n 32767 4 a1 a2 (20 * m) - cv_S n 32767 4 a1 a2 (20 * m - 20)) (nI n, a1, a2, a3, a4, a5, a6, a7, b8, b9)) : wpX_growth post (nI n, a1, a2, a3, a4, a5, a6, a7, a8, a9) y := by
  subst ey
  have e1 : 20 * nI m = nI (20 * m) := pk_mul 20 m
  have e2 : nI (20 * m) - 20 = nI (20 * m - 20) := pk_sub (b := 20) (by omega)
  refine pk_lt m 1 (fun z => absurd z (by omega)) (fun _ => pk_lt m 6 (fun _ => ?_) (fun z => absurd z (by omega)))
  rw [e1, e2, nI_clamp (show 20 * m < 2 ^ 31 by omega), nI_clamp (show 20 * m - 20 < 2 ^ 31 by omega)]
  refine cv_gather (r := 4) (f := 32767) rfl rfl hB hC (by omega) (by omega) (fun b8 b9 h => ⟨pk_in (20 * m) 120 (by omega), pk_in (20 * m - 20) 120 (by omega), ?_⟩)
  rw [(h (20 * m) (by omega)).2, (h (20 * m - 20) (by omega)).2]
  exact H b8 b9
theorem cv_groups {post : Int32 → St1 → Prop} {n f r : Nat} {x y : Int32} (ex : x = nI r) (ey : y = nI f) (hr : r < 8) (hf : f < 32768) (hB : cv_B n a1 a3 a4) (hC : cv_C n a1 a2 a5 a6 a7)
    (H : ∀ b8 b9, post (cv_gF (cv_K n f r a1) 120) (nI n, a1, a2, a3, a4, a5, a6, a7, b8, b9)) : wpX_groups post (nI n, a1, a2, a3, a4, a5, a6, a7, a8, a9) x y := by
  subst ex
  subst ey
  unfold wpX_groups
  refine cv_badGrouping hr (br_t rfl (cv_badFilter hf (br_t rfl (cv_gather rfl rfl hB hC hr hf (fun b8 b9 h => ?_)))))
  refine pk_loop (fun m i s => wX_groups_30 post (nI n) a1 a2 a3 a4 a5 a6 a7 b8 b9 m s (nI i)) (fun i s => s = cv_gF (cv_K n f r a1) i) 120 0 0 (by omega) rfl ?_ ?_
  · intro m s e
    subst e
    exact pk_le 120 120 (fun _ => H b8 b9) (fun z => absurd z (by omega))
  · intro m i s hi e hw
    subst e
    refine pk_le 120 i (fun z => absurd z (by omega)) (fun _ => ⟨pk_in i 120 hi, ?_⟩)
    have t : b8 (nI i).toNatClampNeg = cv_K n f r a1 i := by
      rw [nI_clamp (show i < 2 ^ 31 by omega)]
      exact (h i hi).1
    rw [t]
    refine br_c (fun z => nm_r (nI_1 i) (hw _ ?_)) (fun z => nm_e (nm_r (nI_1 i) (hw _ ?_)))
    · rw [cv_gF_s, if_pos z]
    · rw [cv_gF_s, if_neg z]
theorem cv_atLeast {post : Int32 → St1 → Prop} {n r : Nat} {x v : Int32} (ex : x = nI r) (hr : r < 8) (hB : cv_B n a1 a3 a4) (hC : cv_C n a1 a2 a5 a6 a7)
    (H : ∀ b8 b9, post (cv_aF v (cv_K n 32767 r a1) (cv_S n 32767 r a1 a2) 120) (nI n, a1, a2, a3, a4, a5, a6, a7, b8, b9)) : wpX_atLeast post (nI n, a1, a2, a3, a4, a5, a6, a7, a8, a9) x v := by
  subst ex
  unfold wpX_atLeast
  refine cv_badGrouping hr (br_t rfl (cv_gather (f := 32767) rfl rfl hB hC hr (by omega) (fun b8 b9 h => ?_)))
  refine pk_loop (fun m i s => wX_atLeast_24 post v (nI n) a1 a2 a3 a4 a5 a6 a7 b8 b9 m s (nI i)) (fun i s => s = cv_aF v (cv_K n 32767 r a1) (cv_S n 32767 r a1 a2) i) 120 0 0 (by omega) rfl ?_ ?_
  · intro m s e
    subst e
    exact pk_le 120 120 (fun _ => H b8 b9) (fun z => absurd z (by omega))
  · intro m i s hi e hw
    subst e
    refine pk_le 120 i (fun z => absurd z (by omega)) (fun _ => ⟨pk_in i 120 hi, ?_⟩)
    have t : b8 (nI i).toNatClampNeg = cv_K n 32767 r a1 i := by
      rw [nI_clamp (show i < 2 ^ 31 by omega)]
      exact (h i hi).1
    have u : b9 (nI i).toNatClampNeg = cv_S n 32767 r a1 a2 i := by
      rw [nI_clamp (show i < 2 ^ 31 by omega)]
      exact (h i hi).2
    rw [t, u]
    refine br_c (fun z => nm_r (nI_1 i) (hw _ ?_)) (fun z => ⟨pk_in i 120 hi, br_c (fun w => nm_r (nI_1 i) (hw _ ?_)) (fun w => nm_e (nm_r (nI_1 i) (hw _ ?_)))⟩)
    · rw [cv_aF_s, if_pos z]
    · rw [cv_aF_s, if_neg z, if_pos w]
    · rw [cv_aF_s, if_neg z, if_neg w]
theorem cv_top {post : Int32 → St1 → Prop} {n f r : Nat} (hr : r < 8) (hf : f < 32768) (hB : cv_B n a1 a3 a4) (hC : cv_C n a1 a2 a5 a6 a7)
    (H : ∀ b8 b9, (∀ q, q < 120 → b9 q = cv_S n f r a1 a2 q) → post (cv_tF (cv_K n f r a1) (cv_S n f r a1 a2) 120) (nI n, a1, a2, a3, a4, a5, a6, a7, b8, b9)) : wpX_top post (nI n, a1, a2, a3, a4, a5, a6, a7, a8, a9) (nI r) (nI f) := by
  refine cv_gather rfl rfl hB hC hr hf (fun b8 b9 h => ?_)
  refine pk_loop (fun m i s => wX_top_11 post (nI n) a1 a2 a3 a4 a5 a6 a7 b8 b9 m s (nI i)) (fun i s => s = cv_tF (cv_K n f r a1) (cv_S n f r a1 a2) i) 120 0 (-1) (by omega) rfl ?_ ?_
  · intro m s e
    subst e
    exact pk_le 120 120 (fun _ => H b8 b9 (fun q hq => (h q hq).2)) (fun z => absurd z (by omega))
  · intro m i s hi e hw
    have hin := cv_tF_in (cv_K n f r a1) (cv_S n f r a1 a2) i (by omega)
    rw [← e] at hin
    refine pk_le 120 i (fun z => absurd z (by omega)) (fun _ => ⟨pk_in i 120 hi, ?_⟩)
    have t : b8 (nI i).toNatClampNeg = cv_K n f r a1 i := by
      rw [nI_clamp (show i < 2 ^ 31 by omega)]
      exact (h i hi).1
    have u : b9 (nI i).toNatClampNeg = cv_S n f r a1 a2 i := by
      rw [nI_clamp (show i < 2 ^ 31 by omega)]
      exact (h i hi).2
    rw [t, u]
    refine br_c (fun z => nm_r (nI_1 i) (hw _ ?_)) (fun z => br_c (fun w => nm_r (nI_1 i) (hw _ ?_)) (fun w => ?_))
    · rw [cv_tF_s, if_pos z]
      exact e
    · rw [cv_tF_s, if_neg z, if_pos (by rw [← e]; exact w)]
    · obtain ⟨j, hj, ej⟩ := hin.resolve_left w
      have u2 : b9 s.toNatClampNeg = cv_S n f r a1 a2 s.toNatClampNeg := by
        rw [ej, nI_clamp (show j < 2 ^ 31 by omega)]
        exact (h j (by omega)).2
      rw [u2]
      refine ⟨pk_in i 120 hi, pk_in j 120 (by omega) ej, br_c (fun k => nm_r (nI_1 i) (hw _ ?_)) (fun k => nm_r (nI_1 i) (hw _ ?_))⟩
      · rw [cv_tF_s, if_neg z, ← e, if_neg w, if_pos k]
      · rw [cv_tF_s, if_neg z, ← e, if_neg w, if_neg k]
theorem cv_topSum {post : Int32 → St1 → Prop} {n f r : Nat} {x y : Int32} (ex : x = nI r) (ey : y = nI f) (hr : r < 8) (hf : f < 32768) (hB : cv_B n a1 a3 a4) (hC : cv_C n a1 a2 a5 a6 a7)
    (H : ∀ b8 b9, post (cv_tS (cv_K n f r a1) (cv_S n f r a1 a2)) (nI n, a1, a2, a3, a4, a5, a6, a7, b8, b9)) : wpX_topSum post (nI n, a1, a2, a3, a4, a5, a6, a7, a8, a9) x y := by
  subst ex
  subst ey
  unfold cv_tS at H
  have hin := cv_tF_in (cv_K n f r a1) (cv_S n f r a1 a2) 120 (by omega)
  unfold wpX_topSum
  refine cv_badGrouping hr (br_t rfl (cv_badFilter hf (br_t rfl (cv_top hr hf hB hC (fun b8 b9 h => br_c (fun z => ?_) (fun z => ?_))))))
  · rw [if_pos z] at H
    obtain ⟨j, hj, ej⟩ := hin.resolve_left (Int32.not_lt.mpr z)
    refine ⟨pk_in j 120 hj ej, ?_⟩
    rw [h _ (by rw [ej, nI_clamp (show j < 2 ^ 31 by omega)]; exact hj)]
    exact H b8 b9
  · rw [if_neg z] at H
    exact H b8 b9
theorem cv_topGroup {post : Int32 → St1 → Prop} {n f r : Nat} {x y : Int32} (ex : x = nI r) (ey : y = nI f) (hr : r < 8) (hf : f < 32768) (hB : cv_B n a1 a3 a4) (hC : cv_C n a1 a2 a5 a6 a7)
    (H : ∀ b8 b9, post (cv_tG (cv_K n f r a1) (cv_S n f r a1 a2)) (nI n, a1, a2, a3, a4, a5, a6, a7, b8, b9)) : wpX_topGroup post (nI n, a1, a2, a3, a4, a5, a6, a7, a8, a9) x y := by
  subst ex
  subst ey
  unfold cv_tG at H
  unfold wpX_topGroup
  refine cv_badGrouping hr (br_t rfl (cv_badFilter hf (br_t rfl (cv_top hr hf hB hC (fun b8 b9 h => br_c (fun z => ?_) (fun z => ?_))))))
  · rw [if_pos z] at H
    exact H b8 b9
  · rw [if_neg z] at H
    exact H b8 b9
def cv_qf (q r : Nat) : Nat := 2 ^ r + 496 + 7 * 2 ^ (9 + 3 * q)
theorem cv_qe : ∀ q, q < 2 → ∀ r, r < 4 → cv_qf q r < 32768 ∧ ((((1 : Int32) <<< (nI r &&& 31)) ||| 496) ||| ((7 : Int32) <<< ((9 + (3 * nI q)) &&& 31))) = nI (cv_qf q r) := by decide +kernel
theorem cv_quarter {post : Int32 → St1 → Prop} {n q r : Nat} {x y : Int32} (ex : x = nI q) (ey : y = nI r) (hq : q < 2) (hr : r < 4) (hB : cv_B n a1 a3 a4) (hC : cv_C n a1 a2 a5 a6 a7)
    (H : ∀ b8 b9, post (cv_S n (cv_qf q r) 0 a1 a2 0) (nI n, a1, a2, a3, a4, a5, a6, a7, b8, b9)) : wpX_quarter post (nI n, a1, a2, a3, a4, a5, a6, a7, a8, a9) x y := by
  subst ex
  subst ey
  obtain ⟨h1, h2⟩ := cv_qe q hq r hr
  refine br_f (nI_pos (by omega)) (pk_lt 1 q (fun z => absurd z (by omega)) (fun _ => br_f (nI_pos (by omega)) (pk_lt r 4 (fun _ => ?_) (fun z => absurd z (by omega)))))
  refine cv_gather (r := 0) rfl h2 hB hC (by omega) h1 (fun b8 b9 h => ?_)
  show post (b9 0) (nI n, a1, a2, a3, a4, a5, a6, a7, b8, b9)
  rw [(h 0 (by omega)).2]
  exact H b8 b9
end
section
variable {a1 a2 a3 a4 : Nat → Int32} {n : Nat}
theorem cv_gat (h4 : ∀ p, ¬ a4 p < 0 → vp_in (a4 p) 40) : ∀ m k x2 x3, k ≤ 40 → 40 - k ≤ m → (¬ x3 < 0 → vp_in x3 40) → ∃ r, ∀ (post : Int32 → Prop) (a5 a6 a7 a8 a9 : Nat → Int32), post r → wX_greatestAt_13 post (nI n) a1 a2 a3 a4 a5 a6 a7 a8 a9 (m + 1) x2 x3 (nI k) := by
  intro m
  induction m with
  | zero => exact fun k x2 x3 hk hm h3 => ⟨x2, fun post a5 a6 a7 a8 a9 H => pk_le 40 k (fun _ => H) (fun z => absurd z (by omega))⟩
  | succ m ih =>
    intro k x2 x3 hk hm h3
    by_cases e : 40 ≤ k
    · exact ⟨x2, fun post a5 a6 a7 a8 a9 H => pk_le 40 k (fun _ => H) (fun z => absurd z (by omega))⟩
    by_cases e3 : x3 < 0
    · exact ⟨x2, fun post a5 a6 a7 a8 a9 H => pk_le 40 k (fun _ => H) (fun _ => br_t e3 H)⟩
    have hv := h3 e3
    by_cases c : a2 x3.toNatClampNeg ≤ x2
    · obtain ⟨r, hr⟩ := ih (k + 1) x2 (a4 x3.toNatClampNeg) (by omega) (by omega) (h4 _)
      exact ⟨r, fun post a5 a6 a7 a8 a9 H => pk_le 40 k (fun z => absurd z (by omega)) (fun _ => br_f e3 ⟨hv, br_t c ⟨hv, nm_e (nm_r (nI_1 k) (hr post a5 a6 a7 a8 a9 H))⟩⟩)⟩
    · obtain ⟨r, hr⟩ := ih (k + 1) (a2 x3.toNatClampNeg) (a4 x3.toNatClampNeg) (by omega) (by omega) (h4 _)
      exact ⟨r, fun post a5 a6 a7 a8 a9 H => pk_le 40 k (fun z => absurd z (by omega)) (fun _ => br_f e3 ⟨hv, br_f c ⟨hv, hv, nm_e (nm_r (nI_1 k) (hr post a5 a6 a7 a8 a9 H))⟩⟩)⟩
theorem cv_greatestAt (hB : cv_B n a1 a3 a4) (k : Nat) (hk : k < 120) : ∃ r, ∀ (post : Int32 → Prop) (a5 a6 a7 a8 a9 : Nat → Int32), post r → wpX_greatestAt post (nI n, a1, a2, a3, a4, a5, a6, a7, a8, a9) (nI k) := by
  obtain ⟨r, hr⟩ := cv_gat (a1 := a1) (a2 := a2) (a3 := a3) (n := n) hB.2.2.2 40 0 (-4000000) (a3 (nI k).toNatClampNeg) (by omega) (by omega) (hB.2.2.1 _)
  exact ⟨r, fun post a5 a6 a7 a8 a9 H => ⟨pk_in k 120 hk, nm_e ⟨41, hr post a5 a6 a7 a8 a9 H⟩⟩⟩
theorem cv_gr16 (hB : cv_B n a1 a3 a4) {f : Nat} (hf : f < 32768) : ∀ m k x2, k ≤ 120 → 120 - k ≤ m → ∃ r, ∀ (post : Int32 → Prop) (a5 a6 a7 a8 a9 : Nat → Int32), post r → wX_greatest_16 post (nI f) (nI n) a1 a2 a3 a4 a5 a6 a7 a8 a9 (m + 1) x2 (nI k) := by
  intro m
  induction m with
  | zero => exact fun k x2 hk hm => ⟨x2, fun post a5 a6 a7 a8 a9 H => pk_le 120 k (fun _ => H) (fun z => absurd z (by omega))⟩
  | succ m ih =>
    intro k x2 hk hm
    by_cases e : 120 ≤ k
    · exact ⟨x2, fun post a5 a6 a7 a8 a9 H => pk_le 120 k (fun _ => H) (fun z => absurd z (by omega))⟩
    obtain ⟨r0, hr0⟩ := ih (k + 1) x2 (by omega) (by omega)
    by_cases e3 : a3 (nI k).toNatClampNeg < 0
    · exact ⟨r0, fun post a5 a6 a7 a8 a9 H => pk_le 120 k (fun z => absurd z (by omega)) (fun _ => ⟨pk_in k 120 (by omega), br_t e3 (nm_r (nI_1 k) (hr0 post a5 a6 a7 a8 a9 H))⟩)⟩
    cases hb : cv_pass k f 7
    · refine ⟨r0, fun post a5 a6 a7 a8 a9 H => pk_le 120 k (fun z => absurd z (by omega)) (fun _ => ⟨pk_in k 120 (by omega), br_f e3 (cv_passes rfl rfl (d := 7) rfl (by omega) hf (by omega) ?_)⟩)⟩
      rw [hb]
      exact br_t rfl (nm_r (nI_1 k) (hr0 post a5 a6 a7 a8 a9 H))
    · obtain ⟨v, hv⟩ := cv_greatestAt (a2 := a2) hB k (by omega)
      by_cases c : v ≤ x2
      · refine ⟨r0, fun post a5 a6 a7 a8 a9 H => pk_le 120 k (fun z => absurd z (by omega)) (fun _ => ⟨pk_in k 120 (by omega), br_f e3 (cv_passes rfl rfl (d := 7) rfl (by omega) hf (by omega) ?_)⟩)⟩
        rw [hb]
        exact br_f (by decide) (hv _ a5 a6 a7 a8 a9 (br_t c (nm_r (nI_1 k) (hr0 post a5 a6 a7 a8 a9 H))))
      · obtain ⟨r1, hr1⟩ := ih (k + 1) v (by omega) (by omega)
        refine ⟨r1, fun post a5 a6 a7 a8 a9 H => pk_le 120 k (fun z => absurd z (by omega)) (fun _ => ⟨pk_in k 120 (by omega), br_f e3 (cv_passes rfl rfl (d := 7) rfl (by omega) hf (by omega) ?_)⟩)⟩
        rw [hb]
        exact br_f (by decide) (hv _ a5 a6 a7 a8 a9 (br_f c (nm_r (nI_1 k) (hr1 post a5 a6 a7 a8 a9 H))))
theorem cv_greatest (hB : cv_B n a1 a3 a4) {f : Nat} (hf : f < 32768) : ∃ r, ∀ (post : Int32 → Prop) (a5 a6 a7 a8 a9 : Nat → Int32), post r → wpX_greatest post (nI n, a1, a2, a3, a4, a5, a6, a7, a8, a9) (nI f) := by
  obtain ⟨r, hr⟩ := cv_gr16 (a2 := a2) hB hf 120 0 (-4000000) (by omega) (by omega)
  refine ⟨r, fun post a5 a6 a7 a8 a9 H => ?_⟩
  unfold wpX_greatest
  exact cv_badFilter hf (br_t rfl ⟨121, hr post a5 a6 a7 a8 a9 H⟩)
end
end
section
section
variable {a1 a2 a3 a4 a5 a6 a7 a8 a9 b5 b6 b7 b8 b9 : Nat → Int32} {n f : Nat}
theorem cv_eq109 {post : Int32 → St2 → Prop} (hB : cv_B n a1 a3 a4) (hC : cv_C n a1 a2 a5 a6 a7) (hD : cv_C n a1 a2 b5 b6 b7) (hf : f < 32768)
    (H : ∀ a8 a9 b8 b9, post 1 (nI n, a1, a2, a3, a4, a5, a6, a7, a8, a9, nI n, a1, a2, a3, a4, b5, b6, b7, b8, b9)) :
    ∃ m, wL_equal_109 post (nI f) m 1 (nI n) a1 a2 a3 a4 a5 a6 a7 a8 a9 (nI n) a1 a2 a3 a4 b5 b6 b7 b8 b9 := by
  obtain ⟨v, hv⟩ := cv_greatest (a2 := a2) hB hf
  refine pk_loop (σ := (Nat → Int32) × (Nat → Int32) × (Nat → Int32) × (Nat → Int32)) (fun m i s => wL_equal_109 post (nI f) m (nI i) (nI n) a1 a2 a3 a4 a5 a6 a7 s.1 s.2.1 (nI n) a1 a2 a3 a4 b5 b6 b7 s.2.2.1 s.2.2.2) (fun i _ => 1 ≤ i) 6 1 (a8, a9, b8, b9) (by omega) (by omega) ?_ ?_
  · intro m s h
    refine pk_le 6 6 (fun _ => ?_) (fun z => absurd z (by omega))
    exact cv_count rfl hB hC hf (fun c8 c9 => cv_count rfl hB hD hf (fun d8 d9 => br_t rfl (cv_sum rfl hB hC hf (fun c8 c9 => cv_sum rfl hB hD hf (fun d8 d9 => br_t rfl (hv _ a5 a6 a7 c8 c9 (hv _ b5 b6 b7 d8 d9 (br_t rfl (br_t rfl (H c8 c9 d8 d9))))))))))
  · intro m i s hi h hw
    refine pk_le 6 i (fun z => absurd z (by omega)) (fun _ => ?_)
    exact cv_growth rfl hi h hB hC (fun c8 c9 => cv_growth rfl hi h hB hD (fun d8 d9 => br_t rfl (nm_r (nI_1 i) (hw (c8, c9, d8, d9) (by omega)))))
theorem cv_q8 : ∀ i, i < 8 → nI i >>> ((2 : Int32) &&& 31) = nI (i / 4) ∧ nI i &&& 3 = nI (i % 4) := by decide +kernel
theorem cv_equal {post : Int32 → St2 → Prop} {y : Int32} (ey : y = nI f) (hB : cv_B n a1 a3 a4) (hC : cv_C n a1 a2 a5 a6 a7) (hD : cv_C n a1 a2 b5 b6 b7) (hf : f < 32768)
    (H : ∀ a8 a9 b8 b9, post 1 (nI n, a1, a2, a3, a4, a5, a6, a7, a8, a9, nI n, a1, a2, a3, a4, b5, b6, b7, b8, b9)) :
    wpL_equal post (nI n, a1, a2, a3, a4, a5, a6, a7, a8, a9, nI n, a1, a2, a3, a4, b5, b6, b7, b8, b9) y := by
  subst ey
  refine pk_loop (σ := (Nat → Int32) × (Nat → Int32) × (Nat → Int32) × (Nat → Int32)) (fun m i s => wL_equal_2 post (nI f) m (nI i) (nI n) a1 a2 a3 a4 a5 a6 a7 s.1 s.2.1 (nI n) a1 a2 a3 a4 b5 b6 b7 s.2.2.1 s.2.2.2) (fun _ _ => True) 8 0 (a8, a9, b8, b9) (by omega) trivial ?_ ?_
  · exact fun m s h => pk_le 8 8 (fun _ => cv_eq109 hB hC hD hf H) (fun z => absurd z (by omega))
  · intro m i s hi h hw
    obtain ⟨q1, q2⟩ := cv_q8 i hi
    refine pk_le 8 i (fun z => absurd z (by omega)) (fun _ => ?_)
    exact cv_groups rfl rfl hi hf hB hC (fun c8 c9 => cv_groups rfl rfl hi hf hB hD (fun d8 d9 => br_t rfl
      (cv_topSum rfl rfl hi hf hB hC (fun c8 c9 => cv_topSum rfl rfl hi hf hB hD (fun d8 d9 => br_t rfl
      (cv_topGroup rfl rfl hi hf hB hC (fun c8 c9 => cv_topGroup rfl rfl hi hf hB hD (fun d8 d9 => br_t rfl
      (cv_atLeast rfl hi hB hC (fun c8 c9 => cv_atLeast rfl hi hB hD (fun d8 d9 => br_t rfl
      (cv_quarter q1 q2 (by omega) (by omega) hB hC (fun c8 c9 => cv_quarter q1 q2 (by omega) (by omega) hB hD (fun d8 d9 => br_t rfl
      (nm_r (nI_1 i) (hw (c8, c9, d8, d9) trivial))))))))))))))))
end
end
section
/-- the plain laws that the last checks rest on -/
def cv_L (i : Nat) (x : Nat) : Bool := decide (x % 4 < i)
def cv_M (i : Nat) (x : Nat) : Bool := cv_L i x || cv_Q (cv_qf 0 i) 0 0 x
theorem cv_L1 : ∀ i, i < 4 → ∀ x, x < 120 → cv_L (i + 1) x = (cv_L i x || cv_Q (32752 + 2 ^ i) 0 0 x) ∧ (cv_L i x && cv_Q (32752 + 2 ^ i) 0 0 x) = false := by decide +kernel
theorem cv_M1 : ∀ i, i < 4 → ∀ x, x < 120 → (cv_L i x && cv_Q (cv_qf 0 i) 0 0 x) = false := by decide +kernel
theorem cv_M2 : ∀ i, i < 4 → ∀ x, x < 120 → cv_L (i + 1) x = (cv_M i x || cv_Q (cv_qf 1 i) 0 0 x) ∧ (cv_M i x && cv_Q (cv_qf 1 i) 0 0 x) = false := by decide +kernel
theorem cv_L4 : ∀ x, x < 120 → cv_L 4 x = cv_Q 32767 0 0 x ∧ cv_Q 32767 0 0 x = true := by decide +kernel
theorem cv_r4 : ∀ i, i < 4 → 32752 + ((1 : Int32) <<< (nI i &&& 31)) = nI (32752 + 2 ^ i) ∧ 32752 + 2 ^ i < 32768 := by decide +kernel
section
variable {a1 a2 : Nat → Int32} {n f : Nat}
theorem cv_regs (h1 : ∀ i, vp_in (a1 i) 120) {i : Nat} (hi : i < 4) : cv_sm (cv_L i) a1 a2 n + cv_S n (32752 + 2 ^ i) 0 a1 a2 0 = cv_sm (cv_L (i + 1)) a1 a2 n :=
  (cv_sm_a (fun j _ => (cv_L1 i hi _ (cv_plc (h1 j))).1) (fun j _ => (cv_L1 i hi _ (cv_plc (h1 j))).2)).symm
theorem cv_quas (h1 : ∀ i, vp_in (a1 i) 120) {i : Nat} (hi : i < 4) : cv_sm (cv_L i) a1 a2 n + cv_S n (cv_qf 0 i) 0 a1 a2 0 + cv_S n (cv_qf 1 i) 0 a1 a2 0 = cv_sm (cv_L (i + 1)) a1 a2 n := by
  have e1 : cv_sm (cv_M i) a1 a2 n = cv_sm (cv_L i) a1 a2 n + cv_S n (cv_qf 0 i) 0 a1 a2 0 := cv_sm_a (fun j _ => rfl) (fun j _ => cv_M1 i hi _ (cv_plc (h1 j)))
  rw [← e1]
  exact (cv_sm_a (fun j _ => (cv_M2 i hi _ (cv_plc (h1 j))).1) (fun j _ => (cv_M2 i hi _ (cv_plc (h1 j))).2)).symm
theorem cv_L0 : cv_sm (cv_L 0) a1 a2 n = 0 := by
  refine cv_sm_0 (cv_cn_f (fun i _ => ?_))
  unfold cv_L
  simp
theorem cv_whole (h1 : ∀ i, vp_in (a1 i) 120) : cv_sm (cv_L 4) a1 a2 n = cv_S n 32767 0 a1 a2 0 :=
  cv_sm_c (fun j _ => (cv_L4 _ (cv_plc (h1 j))).1) (fun _ _ => rfl)
theorem cv_all (h1 : ∀ i, vp_in (a1 i) 120) : cv_K n 32767 0 a1 0 = nI n := by
  unfold cv_K
  rw [cv_cn_t (fun j _ => (cv_L4 _ (cv_plc (h1 j))).2)]
theorem cv_grp0 (x : Nat) : cv_grp x 0 = 0 := rfl
theorem cv_K0 {q : Nat} (hq : 0 < q) : cv_K n f 0 a1 q = 0 := by
  unfold cv_K
  rw [cv_cn_f (fun i _ => ?_)]
  · rfl
  · unfold cv_Q
    rw [cv_grp0, Bool.and_eq_false_iff, beq_eq_false_iff_ne]
    exact Or.inr (by omega)
theorem cv_t0 (hn : n ≤ 40) (k : Nat) : cv_tF (cv_K n f 0 a1) (cv_S n f 0 a1 a2) (k + 1) = if cv_cn (cv_Q f 0 0) a1 n = 0 then -1 else 0 := by
  induction k with
  | zero =>
    rw [cv_tF_s]
    have e := cv_cellpos hn (cv_cn_le (cv_Q f 0 0) a1 n) (x := cv_K n f 0 a1 0) rfl
    by_cases z : cv_cn (cv_Q f 0 0) a1 n = 0
    · rw [if_pos z, if_pos (e.mpr z)]
      rfl
    · rw [if_neg z, if_neg (fun t => z (e.mp t)), if_pos (show cv_tF (cv_K n f 0 a1) (cv_S n f 0 a1 a2) 0 < 0 from show (-1 : Int32) < 0 by decide)]
      rfl
  | succ k ih =>
    rw [cv_tF_s, ih, if_pos]
    rw [cv_K0 (by omega)]
    decide
theorem cv_tS0 (hn : n ≤ 40) : cv_tS (cv_K n f 0 a1) (cv_S n f 0 a1 a2) = if cv_cn (cv_Q f 0 0) a1 n = 0 then -4000000 else cv_S n f 0 a1 a2 0 := by
  unfold cv_tS
  rw [cv_t0 hn 119]
  split
  · rw [if_neg (by decide)]
  · rw [if_pos (by decide)]
    rfl
def cv_U (f k : Nat) (x : Nat) : Bool := cv_pass x f 7 && decide (cv_grp x 7 < k)
theorem cv_U1 (f k x : Nat) : cv_U f (k + 1) x = (cv_U f k x || cv_Q f 7 k x) ∧ (cv_U f k x && cv_Q f 7 k x) = false := by
  unfold cv_U cv_Q
  generalize cv_grp x 7 = y
  cases cv_pass x f 7
  · simp
  · by_cases e : y = k
    · subst e
      simp
    · have e1 : decide (y < k + 1) = decide (y < k) := by
        rw [decide_eq_decide]
        omega
      have e2 : (y == k) = false := by
        rw [beq_eq_false_iff_ne]
        exact e
      rw [e1, e2]
      simp
theorem cv_gU (hn : n ≤ 40) (k : Nat) : ∃ t, cv_gF (cv_K n f 7 a1) k = nI t ∧ t ≤ cv_cn (cv_U f k) a1 n := by
  induction k with
  | zero => exact ⟨0, rfl, Nat.zero_le _⟩
  | succ k ih =>
    obtain ⟨t, e, h⟩ := ih
    have ea := cv_cn_a (n := n) (P := a1) (fun j _ => (cv_U1 f k (a1 j).toNatClampNeg).1) (fun j _ => (cv_U1 f k (a1 j).toNatClampNeg).2)
    have ec := cv_cellpos hn (cv_cn_le (cv_Q f 7 k) a1 n) (x := cv_K n f 7 a1 k) rfl
    rw [cv_gF_s, e, ea]
    split
    · exact ⟨t, rfl, by omega⟩
    · rename_i z
      have z' : ¬ cv_cn (cv_Q f 7 k) a1 n = 0 := fun w => z (ec.mpr w)
      exact ⟨t + 1, nI_1 t, by omega⟩
theorem cv_gle (hn : n ≤ 40) (h1 : ∀ i, vp_in (a1 i) 120) : ¬ cv_K n f 0 a1 0 < cv_gF (cv_K n f 7 a1) 120 := by
  obtain ⟨t, e, h⟩ := cv_gU (a1 := a1) (f := f) hn 120
  have w : cv_cn (cv_U f 120) a1 n = cv_cn (cv_Q f 0 0) a1 n := by
    refine cv_cn_c (fun j _ => ?_)
    unfold cv_U cv_Q
    rw [cv_grp0, decide_eq_true (cv_gg _ (cv_plc (h1 j)) 7 (by omega)).1]
    rfl
  have hl := cv_cn_le (cv_Q f 0 0) a1 n
  rw [e]
  exact nI_nlt (by omega) (by omega)
end
end
section
section
variable {a1 a2 a3 a4 a5 a6 a7 a8 a9 : Nat → Int32} {n f L kc ks : Nat} {xs : Nat → Int32}
theorem cv_l286 {z0 z1 : Int32} (hz : z1 = z0) (hB : cv_B n a1 a3 a4) (hC : cv_C n a1 a2 a5 a6 a7) (hf : f < 32768) :
    wL_law_286 (fun r => r = 1) L xs (nI f) (cv_K n f 0 a1 0) z0 z1 kc ks (nI n) a1 a2 a3 a4 a5 a6 a7 a8 a9 :=
  br_t hz (cv_groups (r := 7) rfl rfl (by omega) hf hB hC (fun c8 c9 => br_f (cv_gle hB.1 hB.2.1) rfl))
theorem cv_l175 (hB : cv_B n a1 a3 a4) (hC : cv_C n a1 a2 a5 a6 a7) (hf : f < 32768) :
    ∃ m, wL_law_175 (fun r => r = 1) L xs (nI f) kc ks m 0 0 0 (nI n) a1 a2 a3 a4 a5 a6 a7 a8 a9 := by
  refine pk_loop (σ := Int32 × Int32 × (Nat → Int32) × (Nat → Int32)) (fun m i s => wL_law_175 (fun r => r = 1) L xs (nI f) kc ks m s.1 s.2.1 (nI i) (nI n) a1 a2 a3 a4 a5 a6 a7 s.2.2.1 s.2.2.2) (fun i s => s.1 = cv_sm (cv_L i) a1 a2 n ∧ s.2.1 = cv_sm (cv_L i) a1 a2 n) 4 0 (0, 0, a8, a9) (by omega) ⟨cv_L0.symm, cv_L0.symm⟩ ?_ ?_
  · intro m s h
    have ht := cv_tS0 (a1 := a1) (a2 := a2) (f := f) hB.1
    refine pk_le 4 4 (fun _ => ?_) (fun z => absurd z (by omega))
    refine cv_sum (f := 32767) rfl hB hC (by omega) (fun c8 c9 => cv_count rfl hB hC hf (fun c8 c9 => cv_topSum (r := 0) rfl rfl (by omega) hf hB hC (fun c8 c9 => br_t (h.1.trans (cv_whole hB.2.1)) (br_t (h.2.trans (cv_whole hB.2.1)) (ek_if (cv_cellpos hB.1 (cv_cn_le (cv_Q f 0 0) a1 n) rfl) (fun z => ?_) (fun z => ?_))))))
    · rw [if_pos z] at ht
      exact cv_l286 ht hB hC hf
    · rw [if_neg z] at ht
      exact cv_sum rfl hB hC hf (fun d8 d9 => cv_l286 ht hB hC hf)
  · intro m i s hi h hw
    obtain ⟨e4, l4⟩ := cv_r4 i hi
    have r1 := cv_regs (a2 := a2) (n := n) hB.2.1 hi
    have q1 := cv_quas (a2 := a2) (n := n) hB.2.1 hi
    refine pk_le 4 i (fun z => absurd z (by omega)) (fun _ => ?_)
    refine cv_sum e4 hB hC l4 (fun c8 c9 => nm_e (cv_quarter (q := 0) rfl rfl (by omega) hi hB hC (fun c8 c9 => nm_e (cv_quarter (q := 1) rfl rfl (by omega) hi hB hC (fun c8 c9 => nm_e (nm_r (nI_1 i) (hw (s.1 + cv_S n (32752 + 2 ^ i) 0 a1 a2 0, s.2.1 + cv_S n (cv_qf 0 i) 0 a1 a2 0 + cv_S n (cv_qf 1 i) 0 a1 a2 0, c8, c9) ?_)))))))
    dsimp only
    rw [h.1, h.2]
    exact ⟨r1, q1⟩
end
theorem cv_l39 {L kc ks f : Nat} {xs : Nat → Int32} {x3 : Int32} (hL : L ≤ 260) (hf : f < 32768) : ∀ (m k n : Nat) (a1 a2 a3 a4 a5 a6 a7 a8 a9 b5 b6 b7 b8 b9 : Nat → Int32), k ≤ 300 → L - k ≤ m → cv_B n a1 a3 a4 → cv_C n a1 a2 a5 a6 a7 → cv_C n a1 a2 b5 b6 b7 →
    wL_law_39 (fun r => r = 1) L xs x3 (nI f) kc ks (m + 1) (nI k) (nI n) a1 a2 a3 a4 a5 a6 a7 a8 a9 (nI n) a1 a2 a3 a4 b5 b6 b7 b8 b9 := by
  intro m
  induction m with
  | zero =>
    intro k n a1 a2 a3 a4 a5 a6 a7 a8 a9 b5 b6 b7 b8 b9 hk hm hB hC hD
    refine pk_le L (k + 1) (fun _ => ?_) (fun z => absurd z (by omega)) rfl (nI_1 k)
    obtain ⟨j, hj, ej⟩ := pk_andE (x3 >>> ((15 : Int32) &&& 31)) (m := 127) 7 (by decide)
    exact cv_plan ej (by omega) hB (fun c5 c6 c7 hE => cv_equal rfl hB hC hE hf (fun _ _ _ _ => br_f (by decide) (cv_equal (f := 32767) rfl hB hC hE (by omega) (fun _ _ _ _ => br_f (by decide) (cv_count (f := 32767) rfl hB hC (by omega) (fun _ _ => br_t (cv_all hB.2.1) (cv_l175 hB hC hf)))))))
  | succ m ih =>
    intro k n a1 a2 a3 a4 a5 a6 a7 a8 a9 b5 b6 b7 b8 b9 hk hm hB hC hD
    refine pk_le L (k + 1) (fun _ => ?_) (fun z => ?_) rfl (nI_1 k)
    · obtain ⟨j, hj, ej⟩ := pk_andE (x3 >>> ((15 : Int32) &&& 31)) (m := 127) 7 (by decide)
      exact cv_plan ej (by omega) hB (fun c5 c6 c7 hE => cv_equal rfl hB hC hE hf (fun _ _ _ _ => br_f (by decide) (cv_equal (f := 32767) rfl hB hC hE (by omega) (fun _ _ _ _ => br_f (by decide) (cv_count (f := 32767) rfl hB hC (by omega) (fun _ _ => br_t (cv_all hB.2.1) (cv_l175 hB hC hf)))))))
    · have i0 : vp_in (nI k) L := pk_in k L (by omega)
      have i1 : vp_in (nI k + 1) L := pk_in (k + 1) L (by omega) (nI_1 k)
      obtain ⟨r, n', c1, c2, c3, c4, hB', h⟩ := cv_turn (a2 := a2) hB (xs (nI k).toNatClampNeg) (xs (nI k + 1).toNatClampNeg)
      obtain ⟨j, hj, ej⟩ := pk_andE ((xs (nI k + 1).toNatClampNeg) >>> ((4 : Int32) &&& 31)) (m := 127) 7 (by decide)
      exact ⟨i0, i1, h _ a5 a6 a7 a8 a9 hC (fun a5' a6' a7' hC' => ⟨i0, i1, h _ b5 b6 b7 b8 b9 hD (fun b5' b6' b7' hD' => ⟨i1, cv_plan ej (by omega) hB' (fun d5 d6 d7 hE => br_t rfl (br_t rfl (nm_r (nI_add k 2) (ih (k + 2) n' c1 c2 c3 c4 a5' a6' a7' a8 a9 d5 d6 d7 b8 b9 (by omega) (by omega) hB' hC' hE))))⟩)⟩)⟩
def cv_m1 (i : Nat) (p : Nat) : Int32 := if p < i then -1 else 0
theorem cv_init {post : St1 → Prop} (H : post (0, (fun _ => 0), (fun _ => 0), cv_m1 120, (fun _ => 0), (fun _ => 0), (fun _ => 0), (fun _ => 0), (fun _ => 0), (fun _ => 0))) : wpX_init post 9 2408 0 := by
  refine ⟨by omega, by omega, by omega, by omega, by omega, by omega, by omega, by omega, by omega, by omega, by omega, by omega, by omega, by omega, by omega, by omega, by omega, by omega, ?_⟩
  refine pk_loop (fun m i s => wX_init_80 post 9 2408 9 2408 0 m (nI i) (fun _ => 0) (fun _ => 0) s (fun _ => 0) (fun _ => 0) (fun _ => 0) (fun _ => 0) (fun _ => 0) (fun _ => 0)) (fun i s => s = cv_m1 i) 120 0 (fun _ => 0) (by omega) ?_ ?_ ?_
  · funext p
    unfold cv_m1
    rw [if_neg (by omega)]
  · intro m s h
    subst h
    exact pk_le 120 120 (fun _ => H) (fun z => absurd z (by omega))
  · intro m i s hi h hw
    subst h
    refine pk_le 120 i (fun z => absurd z (by omega)) (fun _ => ⟨pk_in i 120 hi, nm_e (nm_r (nI_1 i) (hw _ ?_))⟩)
    rw [nI_clamp (show i < 2 ^ 31 by omega)]
    funext p
    by_cases e : p = i
    · rw [e, pk_us]
      unfold cv_m1
      rw [if_pos (by omega)]
    · rw [pk_un e]
      unfold cv_m1
      by_cases z : p < i
      · rw [if_pos z, if_pos (by omega)]
      · rw [if_neg z, if_neg (by omega)]
theorem cv_B0 : cv_B 0 (fun _ => 0) (cv_m1 120) (fun _ => 0) := by
  refine ⟨by omega, fun _ => pk_in 0 120 (by omega), fun p => ?_, fun _ _ => pk_in 0 40 (by omega)⟩
  unfold cv_m1
  split
  · exact fun z => absurd (by decide) z
  · exact fun _ => pk_in 0 40 (by omega)
theorem cv_C0 : cv_C 0 (fun _ => 0) (fun _ => 0) (fun _ => 0) (fun _ => 0) (fun _ => 0) := fun g _ h => absurd rfl h
theorem i_vc (xs : Nat → Int32) (L : Nat) (hL : L ≤ 260) : wpL_law (fun r => r = 1) L xs := by
  refine ⟨9, 2408, by omega, by omega, cv_init ⟨by omega, by omega, 9, 2408, by omega, by omega, cv_init ?_⟩⟩
  refine pk_le L 0 (fun _ => nm_r (show (0 : Int32) &&& 32767 = nI 0 by decide) ?_) (fun z => ⟨pk_in 0 L z, nm_e ?_⟩)
  · exact ⟨L + 1, cv_l39 hL (by omega) L 1 0 _ _ _ _ _ _ _ _ _ _ _ _ _ _ (by omega) (by omega) cv_B0 cv_C0 cv_C0⟩
  · obtain ⟨f, hf, ef⟩ := pk_andE (xs (0 : Int32).toNatClampNeg) (m := 32767) 15 (by decide)
    exact nm_r ef ⟨L + 1, cv_l39 hL hf L 1 0 _ _ _ _ _ _ _ _ _ _ _ _ _ _ (by omega) (by omega) cv_B0 cv_C0 cv_C0⟩
end
