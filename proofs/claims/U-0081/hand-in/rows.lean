section
theorem pk_us {f : Nat → Int32} {k : Nat} {x : Int32} : upd f k x k = x := if_pos rfl
theorem pk_un {f : Nat → Int32} {k j : Nat} {x : Int32} (h : j ≠ k) : upd f k x j = f j := if_neg h
theorem pk_sub {a b : Nat} (h : b ≤ a) : nI a - nI b = nI (a - b) := by
  obtain ⟨c, rfl⟩ : ∃ c, a = c + b := ⟨a - b, by omega⟩
  rw [← nI_add, Int32.add_sub_cancel, Nat.add_sub_cancel]
theorem pk_m1 (n : Nat) : nI (n + 1) + (-1) = nI n := by
  rw [← nI_1, Int32.add_assoc, show (1 : Int32) + (-1) = 0 from rfl, Int32.add_zero]
theorem pk_mul (a b : Nat) : nI a * nI b = nI (a * b) := (Int32.ofNat_mul a b).symm
theorem pk_div {a d : Nat} (ha : a < 2 ^ 31) (h0 : 0 < d) (hd : d < 2 ^ 31) : nI a / nI d = nI (a / d) := by
  apply Int32.toInt_inj.mp
  rw [lg_idiv_nonneg (by rw [nI_toInt ha]; omega) (by rw [nI_toInt hd]; omega), nI_toInt ha, nI_toInt hd, nI_toInt (Nat.lt_of_le_of_lt (Nat.div_le_self a d) ha)]
  first | rfl | exact (Int.natCast_ediv _ _).symm
theorem pk_rem {a d : Nat} (ha : a < 2 ^ 31) (h0 : 0 < d) (hd : d < 2 ^ 31) : nI a - nI a / nI d * nI d = nI (a % d) := by
  rw [pk_div ha h0 hd, pk_mul, pk_sub (Nat.div_mul_le_self a d)]
  exact congrArg nI (by have := Nat.div_add_mod' a d; omega)
theorem pk_sub_toInt {a b : Nat} (ha : a < 2 ^ 30) (hb : b < 2 ^ 30) : (nI a - nI b).toInt = (a : Int) - b := by
  rw [Int32.toInt_sub, nI_toInt (by omega), nI_toInt (by omega)]
  exact Int.bmod_eq_of_le (by omega) (by omega)
theorem pk_sneg {a b : Nat} (hb : b < 2 ^ 30) (h : a < b) : nI a - nI b < 0 := by
  rw [Int32.lt_iff_toInt_lt, pk_sub_toInt (by omega) hb, show (0 : Int32).toInt = 0 from by decide]
  omega
theorem pk_ix (x : Int32) {n : Nat} (hn : n < 2 ^ 31) : x < 0 ∨ nI n ≤ x ∨ ∃ j : Nat, j < n ∧ x = nI j := by
  by_cases h : x < 0
  · exact Or.inl h
  · obtain ⟨j, hj, rfl⟩ := nI_of h
    by_cases h2 : j < n
    · exact Or.inr (Or.inr ⟨j, h2, rfl⟩)
    · exact Or.inr (Or.inl (nI_le (by omega) hj))
theorem pk_le {x y : Int32} {A B : Prop} (a b : Nat) (f : a ≤ b → A) (g : b < a → B) (hx : x = nI a := by rfl) (hy : y = nI b := by rfl) (ha : a < 2 ^ 31 := by omega) (hb : b < 2 ^ 31 := by omega) : (x ≤ y → A) ∧ (¬ x ≤ y → B) := by
  subst hx hy
  rw [nI_leI ha hb]
  exact ⟨f, fun z => g (by omega)⟩
theorem pk_lt {x y : Int32} {A B : Prop} (a b : Nat) (f : a < b → A) (g : b ≤ a → B) (hx : x = nI a := by rfl) (hy : y = nI b := by rfl) (ha : a < 2 ^ 31 := by omega) (hb : b < 2 ^ 31 := by omega) : (x < y → A) ∧ (¬ x < y → B) := by
  subst hx hy
  rw [nI_ltI ha hb]
  exact ⟨f, fun z => g (by omega)⟩
theorem pk_eq {x y : Int32} {A B : Prop} (a b : Nat) (f : a = b → A) (g : a ≠ b → B) (hx : x = nI a := by rfl) (hy : y = nI b := by rfl) (ha : a < 2 ^ 31 := by omega) (hb : b < 2 ^ 31 := by omega) : (x = y → A) ∧ (¬ x = y → B) := by
  subst hx hy
  rw [nI_eq ha hb]
  exact ⟨f, g⟩
theorem pk_in {x : Int32} (n N : Nat) (h : n < N) (hx : x = nI n := by rfl) (hN : N < 2 ^ 31 := by omega) : vp_in x N := by
  subst hx
  exact vp_in_nI h hN
theorem pk_cl {x : Int32} (n : Nat) (hx : x = nI n := by rfl) (h : n < 2 ^ 31 := by omega) : x.toNatClampNeg = n := by
  subst hx
  exact nI_clamp h
theorem pk_least (P : Nat → Prop) (h : ∃ k, P k) : ∃ k, P k ∧ ∀ j, j < k → ¬ P j := by
  obtain ⟨k, hk⟩ := h
  induction k using Nat.strongRecOn with
  | ind k ih =>
    by_cases e : ∃ j, j < k ∧ P j
    · obtain ⟨j, hj, pj⟩ := e
      exact ih j hj pj
    · exact ⟨k, hk, fun j hj pj => e ⟨j, hj, pj⟩⟩
theorem za_s1 {n : Nat} (h : 0 < n) : nI n - 1 = nI (n - 1) := by
  obtain ⟨c, rfl⟩ : ∃ c, n = c + 1 := ⟨n - 1, by omega⟩
  exact nI_pred c
theorem za_m1 {n : Nat} (h : 0 < n) : nI n + (-1) = nI (n - 1) := by
  obtain ⟨c, rfl⟩ : ∃ c, n = c + 1 := ⟨n - 1, by omega⟩
  exact pk_m1 c
theorem za_m10 (a : Nat) : nI a * 10 = nI (a * 10) := pk_mul a 10
theorem za_m11 (a : Nat) : nI a * 11 = nI (a * 11) := pk_mul a 11
theorem za_m8 (a : Nat) : nI a * 8 = nI (a * 8) := pk_mul a 8
theorem za_m3 (a : Nat) : nI a * 3 = nI (a * 3) := pk_mul a 3
theorem za_vb0 : vp_nar .boolean 0 = 0 := by decide
theorem za_vb1 : vp_nar .boolean 1 = 1 := by decide
theorem za_n10 : ¬ (1 : Int32) = 0 := by decide
theorem za_fb0 : fits .boolean (.int 0) = true := by decide
theorem za_fb1 : fits .boolean (.int 1) = true := by decide
/-- the Int32 that says whether P -/
noncomputable def za_b (P : Prop) : Int32 := @ite Int32 P (Classical.propDecidable P) 1 0
theorem za_bt {P : Prop} (h : P) : za_b P = 1 := by unfold za_b; exact if_pos h
theorem za_bf {P : Prop} (h : ¬ P) : za_b P = 0 := by unfold za_b; exact if_neg h
theorem za_b0 {P : Prop} : za_b P = 0 ↔ ¬ P := by
  by_cases h : P
  · rw [za_bt h]; exact ⟨fun e => absurd e za_n10, fun e => absurd h e⟩
  · rw [za_bf h]; exact ⟨fun _ => h, fun _ => rfl⟩
theorem za_b1 {P : Prop} : za_b P = 1 ↔ P := by
  by_cases h : P
  · rw [za_bt h]; exact ⟨fun _ => h, fun _ => rfl⟩
  · rw [za_bf h]; exact ⟨fun e => absurd e.symm za_n10, fun e => absurd e h⟩
theorem za_bn {P : Prop} : ¬ za_b P = 0 ↔ P := by
  rw [za_b0]; exact Classical.not_not
theorem za_bb {P Q : Prop} (h : P ↔ Q) : za_b P = za_b Q := by rw [propext h]
theorem za_nar (P : Prop) : narrow .boolean (.int (za_b P)) = .int (za_b P) := by
  by_cases h : P
  · rw [za_bt h]; rfl
  · rw [za_bf h]; rfl
theorem za_fit (P : Prop) : fits .boolean (.int (za_b P)) = true := by
  by_cases h : P
  · rw [za_bt h]; exact za_fb1
  · rw [za_bf h]; exact za_fb0
theorem za_ble {A B : Prop} {P : Prop} (f : P → A) (g : ¬ P → B) : (za_b P = 0 → B) ∧ (¬ za_b P = 0 → A) :=
  ⟨fun h => g (za_b0.mp h), fun h => f (za_bn.mp h)⟩
/-- branches by the integers -/
theorem za_le {x y : Int32} {A B : Prop} (f : x.toInt ≤ y.toInt → A) (g : y.toInt < x.toInt → B) : (x ≤ y → A) ∧ (¬ x ≤ y → B) := by
  rw [Int32.le_iff_toInt_le]
  exact ⟨f, fun z => g (by omega)⟩
theorem za_lt {x y : Int32} {A B : Prop} (f : x.toInt < y.toInt → A) (g : y.toInt ≤ x.toInt → B) : (x < y → A) ∧ (¬ x < y → B) := by
  rw [Int32.lt_iff_toInt_lt]
  exact ⟨f, fun z => g (by omega)⟩
theorem za_ad {x y : Int32} (h1 : -2147483648 ≤ x.toInt + y.toInt) (h2 : x.toInt + y.toInt < 2147483648) : (x + y).toInt = x.toInt + y.toInt :=
  Jvm.Kit.i32_add (by omega) (by omega)
theorem za_su {x y : Int32} (h1 : -2147483648 ≤ x.toInt - y.toInt) (h2 : x.toInt - y.toInt < 2147483648) : (x - y).toInt = x.toInt - y.toInt :=
  Jvm.Kit.i32_sub (by omega) (by omega)
theorem za_ne {x : Int32} (h1 : -2147483648 < x.toInt) : (-x).toInt = -x.toInt :=
  Jvm.Kit.i32_neg (by omega)
theorem za_i0 : (0 : Int32).toInt = 0 := by decide
theorem za_i1 : (1 : Int32).toInt = 1 := by decide
theorem za_im1 : (-1 : Int32).toInt = -1 := by decide
theorem za_inf : (1000000000 : Int32).toInt = 1000000000 := by decide
theorem za_k0 : (1000 : Int32).toInt = 1000 := by decide
theorem za_km : (-1000 : Int32).toInt = -1000 := by decide
theorem za_v0 : (1000000 : Int32).toInt = 1000000 := by decide
theorem za_vm : (-1000000 : Int32).toInt = -1000000 := by decide
theorem za_no {k : Int32} (h1 : -1001 ≤ k.toInt) (h2 : k.toInt ≤ 1001) : (-k - 1).toInt = -k.toInt - 1 := by
  have e : (-k).toInt = -k.toInt := za_ne (by omega)
  rw [za_su (by rw [e, za_i1]; omega) (by rw [e, za_i1]; omega), e, za_i1]
theorem za_cl0 : (0 : Int32).toNatClampNeg = 0 := by decide
theorem za_of {x : Int32} {n : Nat} (h0 : ¬ x < 0) (h1 : ¬ nI n ≤ x) (hn : n < 2 ^ 31) : ∃ j, j < n ∧ x = nI j := by
  obtain h | h | h := pk_ix x hn
  · exact absurd h h0
  · exact absurd h h1
  · exact h
end
section
/-- back to the latest IF still without second branch (newest first) -/
def zw_pop (ki : Nat → Int32) : List (Nat × Bool) → List (Nat × Bool)
  | [] => []
  | (p, s) :: r => if ki p = 6 ∧ s = false then (p, true) :: r else zw_pop ki r
/-- the path to place n (newest first, with the side taken), and the bodies finished before -/
def zw_w (ki : Nat → Int32) : Nat → List (Nat × Bool) × Nat
  | 0 => ([], 0)
  | m + 1 => if ki m = 7 then (zw_pop ki (zw_w ki m).1, (zw_w ki m).2 + (if zw_pop ki (zw_w ki m).1 = [] then 1 else 0)) else ((m, false) :: (zw_w ki m).1, (zw_w ki m).2)
theorem zw_0 (ki : Nat → Int32) : zw_w ki 0 = ([], 0) := rfl
theorem zw_n {ki : Nat → Int32} {m : Nat} (h : ki m ≠ 7) : zw_w ki (m + 1) = ((m, false) :: (zw_w ki m).1, (zw_w ki m).2) := by
  rw [zw_w, if_neg h]
theorem zw_7e {ki : Nat → Int32} {m : Nat} (h : ki m = 7) (e : zw_pop ki (zw_w ki m).1 = []) : zw_w ki (m + 1) = ([], (zw_w ki m).2 + 1) := by
  rw [zw_w, if_pos h, e, if_pos rfl]
theorem zw_7n {ki : Nat → Int32} {m : Nat} (h : ki m = 7) (e : zw_pop ki (zw_w ki m).1 ≠ []) : zw_w ki (m + 1) = (zw_pop ki (zw_w ki m).1, (zw_w ki m).2) := by
  rw [zw_w, if_pos h, if_neg e]; rfl
theorem zw_pop_t {ki : Nat → Int32} {p : Nat} {s : Bool} {r : List (Nat × Bool)} (h : ki p = 6 ∧ s = false) : zw_pop ki ((p, s) :: r) = (p, true) :: r := by
  rw [zw_pop, if_pos h]
theorem zw_pop_f {ki : Nat → Int32} {p : Nat} {s : Bool} {r : List (Nat × Bool)} (h : ¬ (ki p = 6 ∧ s = false)) : zw_pop ki ((p, s) :: r) = zw_pop ki r := by
  rw [zw_pop, if_neg h]
theorem zw_pop_mem {ki : Nat → Int32} : ∀ (l : List (Nat × Bool)) (x : Nat × Bool), x ∈ zw_pop ki l → ∃ y, y ∈ l ∧ y.1 = x.1 := by
  intro l
  induction l with
  | nil => intro x hx; cases hx
  | cons a r ih =>
    obtain ⟨p, s⟩ := a
    intro x hx
    by_cases h : ki p = 6 ∧ s = false
    · rw [zw_pop_t h] at hx
      cases hx with
      | head => exact ⟨(p, s), List.Mem.head _, rfl⟩
      | tail _ hx => exact ⟨x, List.Mem.tail _ hx, rfl⟩
    · rw [zw_pop_f h] at hx
      obtain ⟨y, hy, e⟩ := ih x hx
      exact ⟨y, List.Mem.tail _ hy, e⟩
theorem zw_lt {ki : Nat → Int32} : ∀ (n : Nat) (x : Nat × Bool), x ∈ (zw_w ki n).1 → x.1 < n := by
  intro n
  induction n with
  | zero => intro x hx; cases hx
  | succ n ih =>
    intro x hx
    by_cases h : ki n = 7
    · by_cases e : zw_pop ki (zw_w ki n).1 = []
      · rw [zw_7e h e] at hx; cases hx
      · rw [zw_7n h e] at hx
        obtain ⟨y, hy, ey⟩ := zw_pop_mem _ _ hx
        have := ih y hy
        omega
    · rw [zw_n h] at hx
      cases hx with
      | head => exact Nat.lt_succ_self n
      | tail _ hx => have := ih x hx; omega
theorem zw_pop_cg {ki ki' : Nat → Int32} : ∀ (l : List (Nat × Bool)), (∀ x, x ∈ l → ki x.1 = ki' x.1) → zw_pop ki l = zw_pop ki' l := by
  intro l
  induction l with
  | nil => intro _; rfl
  | cons a r ih =>
    obtain ⟨p, s⟩ := a
    intro h
    have e : ki p = ki' p := h (p, s) (List.Mem.head _)
    have i := ih (fun x hx => h x (List.Mem.tail _ hx))
    rw [zw_pop, zw_pop, e, i]
theorem zw_cg {ki ki' : Nat → Int32} : ∀ (n : Nat), (∀ j, j < n → ki j = ki' j) → zw_w ki n = zw_w ki' n := by
  intro n
  induction n with
  | zero => intro _; rfl
  | succ n ih =>
    intro h
    have i := ih (fun j hj => h j (by omega))
    have e : ki n = ki' n := h n (Nat.lt_succ_self n)
    have p : zw_pop ki (zw_w ki n).1 = zw_pop ki' (zw_w ki' n).1 := by
      rw [← i]
      exact zw_pop_cg _ (fun x hx => h x.1 (by have := zw_lt n x hx; omega))
    rw [zw_w, zw_w, p, e, i]
/-- a chain: each tail is the path of its node -/
def zw_C (ki : Nat → Int32) (b : Nat) : List (Nat × Bool) → Nat → Prop
  | [], _ => True
  | (p, s) :: r, n => p < n ∧ zw_w ki p = (r, b) ∧ (s = true → ki p = 6) ∧ ki p ≠ 7 ∧ zw_C ki b r p
theorem zw_C_mono {ki : Nat → Int32} {b n n' : Nat} {l : List (Nat × Bool)} (h : zw_C ki b l n) (hn : n ≤ n') : zw_C ki b l n' := by
  cases l with
  | nil => exact trivial
  | cons a r =>
    obtain ⟨p, s⟩ := a
    obtain ⟨h1, h2⟩ := h
    exact ⟨by omega, h2⟩
theorem zw_C_pop {ki : Nat → Int32} {b : Nat} : ∀ (l : List (Nat × Bool)) (n : Nat), zw_C ki b l n → zw_C ki b (zw_pop ki l) n := by
  intro l
  induction l with
  | nil => intro n _; exact trivial
  | cons a r ih =>
    obtain ⟨p, s⟩ := a
    intro n h
    obtain ⟨h1, h2, h3, h4, h5⟩ := h
    by_cases c : ki p = 6 ∧ s = false
    · rw [zw_pop_t c]
      exact ⟨h1, h2, fun _ => c.1, h4, h5⟩
    · rw [zw_pop_f c]
      exact zw_C_mono (ih p h5) (by omega)
theorem zw_chain (ki : Nat → Int32) : ∀ n, zw_C ki (zw_w ki n).2 (zw_w ki n).1 n := by
  intro n
  induction n with
  | zero => exact trivial
  | succ n ih =>
    by_cases h : ki n = 7
    · by_cases e : zw_pop ki (zw_w ki n).1 = []
      · rw [zw_7e h e]; exact trivial
      · rw [zw_7n h e]
        exact zw_C_mono (zw_C_pop _ _ ih) (by omega)
    · rw [zw_n h]
      exact ⟨Nat.lt_succ_self n, rfl, fun z => (Bool.noConfusion z), h, ih⟩
/-- what the head of a path says -/
theorem zw_head {ki : Nat → Int32} {n p : Nat} {s : Bool} {r : List (Nat × Bool)} (e : (zw_w ki n).1 = (p, s) :: r) :
    p < n ∧ zw_w ki p = (r, (zw_w ki n).2) ∧ (s = true → ki p = 6) ∧ ki p ≠ 7 := by
  have h := zw_chain ki n
  rw [e] at h
  exact ⟨h.1, h.2.1, h.2.2.1, h.2.2.2.1⟩
theorem zw_pop_len {ki : Nat → Int32} : ∀ (l : List (Nat × Bool)), (zw_pop ki l).length ≤ l.length := by
  intro l
  induction l with
  | nil => exact Nat.le_refl _
  | cons a r ih =>
    obtain ⟨p, s⟩ := a
    by_cases c : ki p = 6 ∧ s = false
    · rw [zw_pop_t c]; exact Nat.le_refl _
    · rw [zw_pop_f c]; exact Nat.le_succ_of_le ih
theorem zw_len {ki : Nat → Int32} : ∀ n, (zw_w ki n).1.length ≤ n := by
  intro n
  induction n with
  | zero => exact Nat.le_refl _
  | succ n ih =>
    by_cases h : ki n = 7
    · by_cases e : zw_pop ki (zw_w ki n).1 = []
      · rw [zw_7e h e]; exact Nat.zero_le _
      · rw [zw_7n h e]
        have := zw_pop_len (ki := ki) (zw_w ki n).1
        show (zw_pop ki (zw_w ki n).1).length ≤ n + 1
        omega
    · rw [zw_n h]; exact Nat.succ_le_succ ih
theorem zw_b2_le {ki : Nat → Int32} : ∀ n, (zw_w ki n).2 ≤ n := by
  intro n
  induction n with
  | zero => exact Nat.le_refl _
  | succ n ih =>
    by_cases h : ki n = 7
    · by_cases e : zw_pop ki (zw_w ki n).1 = []
      · rw [zw_7e h e]; exact Nat.succ_le_succ ih
      · rw [zw_7n h e]; exact Nat.le_succ_of_le ih
    · rw [zw_n h]; exact Nat.le_succ_of_le ih
/-- does a kind bind a slot -/
def zw_i (k : Int32) : Nat := if 1 ≤ k ∧ k ≤ 4 then 1 else 0
def zw_nb (ki : Nat → Int32) : List (Nat × Bool) → Nat
  | [] => 0
  | (p, _) :: r => zw_nb ki r + zw_i (ki p)
theorem zw_i1 {k : Int32} (h1 : ¬ k < 1) (h2 : ¬ 4 < k) : zw_i k = 1 := if_pos ⟨Int32.not_lt.mp h1, Int32.not_lt.mp h2⟩
theorem zw_i0 {k : Int32} (h : k < 1 ∨ 4 < k) : zw_i k = 0 := if_neg (fun z => by
  cases h with
  | inl h => exact absurd z.1 (Int32.not_le.mpr h)
  | inr h => exact absurd z.2 (Int32.not_le.mpr h))
theorem zw_nb_cg {ki ki' : Nat → Int32} : ∀ (l : List (Nat × Bool)), (∀ x, x ∈ l → ki x.1 = ki' x.1) → zw_nb ki l = zw_nb ki' l := by
  intro l
  induction l with
  | nil => intro _; rfl
  | cons a r ih =>
    obtain ⟨p, s⟩ := a
    intro h
    have e : ki p = ki' p := h (p, s) (List.Mem.head _)
    have i := ih (fun x hx => h x (List.Mem.tail _ hx))
    rw [zw_nb, zw_nb, e, i]
/-- the slots in scope at place n -/
def zw_sc (ki : Nat → Int32) (n : Nat) : Nat := 4 + zw_nb ki (zw_w ki n).1
/-- a side as a number -/
def zw_b (s : Bool) : Int32 := if s = true then 1 else 0
theorem zw_b_t : zw_b true = 1 := rfl
theorem zw_b_f : zw_b false = 0 := rfl
theorem zw_b_0 {s : Bool} : zw_b s = 0 ↔ s = false := by
  cases s
  · exact ⟨fun _ => rfl, fun _ => rfl⟩
  · exact ⟨fun e => absurd e za_n10, fun e => (Bool.noConfusion e)⟩
theorem zw_b_1 {s : Bool} : zw_b s = 1 ↔ s = true := by
  cases s
  · exact ⟨fun e => absurd e.symm za_n10, fun e => (Bool.noConfusion e)⟩
  · exact ⟨fun _ => rfl, fun _ => rfl⟩
/-- the reference's two arrays hold the path -/
def zw_R (pth sid : Nat → Int32) : List (Nat × Bool) → Prop
  | [] => True
  | (p, s) :: r => pth r.length = nI p ∧ sid r.length = zw_b s ∧ zw_R pth sid r
theorem zw_R_upd {pth sid : Nat → Int32} {k : Nat} {x y : Int32} : ∀ (l : List (Nat × Bool)), l.length ≤ k → zw_R pth sid l → zw_R (upd pth k x) (upd sid k y) l := by
  intro l
  induction l with
  | nil => intro _ _; exact trivial
  | cons a r ih =>
    obtain ⟨p, s⟩ := a
    intro hk h
    have hk' : r.length < k := hk
    exact ⟨by rw [pk_un (by omega)]; exact h.1, by rw [pk_un (by omega)]; exact h.2.1, ih (by omega) h.2.2⟩
theorem zw_R_sid {pth sid : Nat → Int32} {k : Nat} {y : Int32} : ∀ (l : List (Nat × Bool)), l.length ≤ k → zw_R pth sid l → zw_R pth (upd sid k y) l := by
  intro l
  induction l with
  | nil => intro _ _; exact trivial
  | cons a r ih =>
    obtain ⟨p, s⟩ := a
    intro hk h
    have hk' : r.length < k := hk
    exact ⟨h.1, by rw [pk_un (by omega)]; exact h.2.1, ih (by omega) h.2.2⟩
theorem zw_R_push {pth sid : Nat → Int32} {l : List (Nat × Bool)} {m : Nat} (h : zw_R pth sid l) : zw_R (upd pth l.length (nI m)) (upd sid l.length 0) ((m, false) :: l) :=
  ⟨pk_us, pk_us, zw_R_upd l (Nat.le_refl _) h⟩
/-- the lowest i nodes of a path -/
def zw_t (l : List (Nat × Bool)) (i : Nat) : List (Nat × Bool) := l.drop (l.length - i)
theorem zw_t_0 (l : List (Nat × Bool)) : zw_t l 0 = [] := by unfold zw_t; exact List.drop_length
theorem zw_t_all (l : List (Nat × Bool)) : zw_t l l.length = l := by unfold zw_t; rw [Nat.sub_self]; rfl
theorem zw_t_cons (a : Nat × Bool) (r : List (Nat × Bool)) {i : Nat} (h : i ≤ r.length) : zw_t (a :: r) i = zw_t r i := by
  unfold zw_t
  have e : (a :: r).length - i = (r.length - i) + 1 := by
    show r.length + 1 - i = _
    omega
  rw [e, List.drop_succ_cons]
/-- at index i stands a node p with side s, and the lowest i + 1 nodes are it and the lowest i -/
theorem zw_t_s {ki pth sid : Nat → Int32} {b : Nat} : ∀ (l : List (Nat × Bool)) (n i : Nat), zw_R pth sid l → zw_C ki b l n → i < l.length →
    ∃ p s, pth i = nI p ∧ sid i = zw_b s ∧ p < n ∧ ki p ≠ 7 ∧ zw_w ki p = (zw_t l i, b) ∧ (s = true → ki p = 6) ∧ zw_t l (i + 1) = (p, s) :: zw_t l i := by
  intro l
  induction l with
  | nil => intro n i _ _ hi; exact absurd hi (Nat.not_lt_zero i)
  | cons a r ih =>
    obtain ⟨p, s⟩ := a
    intro n i hR hC hi
    have hi' : i < r.length + 1 := hi
    by_cases e : i = r.length
    · subst e
      have e1 : zw_t ((p, s) :: r) r.length = r := by rw [zw_t_cons _ _ (Nat.le_refl _), zw_t_all]
      have e2 : zw_t ((p, s) :: r) (r.length + 1) = (p, s) :: r := zw_t_all ((p, s) :: r)
      exact ⟨p, s, hR.1, hR.2.1, hC.1, hC.2.2.2.1, by rw [e1]; exact hC.2.1, hC.2.2.1, by rw [e1, e2]⟩
    · obtain ⟨p', s', h1, h2, h3, h4, h5, h6, h7⟩ := ih p i hR.2.2 hC.2.2.2.2 (by omega)
      have := hC.1
      exact ⟨p', s', h1, h2, by omega, h4, by rw [zw_t_cons _ _ (by omega)]; exact h5, h6, by rw [zw_t_cons _ _ (by omega), zw_t_cons _ _ (by omega)]; exact h7⟩
/-- the IFs that wait, newest first -/
def zw_q (ki : Nat → Int32) : List (Nat × Bool) → List Nat
  | [] => []
  | (p, s) :: r => if ki p = 6 ∧ s = false then p :: zw_q ki r else zw_q ki r
theorem zw_q_t {ki : Nat → Int32} {p : Nat} {s : Bool} {r : List (Nat × Bool)} (h : ki p = 6 ∧ s = false) : zw_q ki ((p, s) :: r) = p :: zw_q ki r := by
  rw [zw_q, if_pos h]
theorem zw_q_f {ki : Nat → Int32} {p : Nat} {s : Bool} {r : List (Nat × Bool)} (h : ¬ (ki p = 6 ∧ s = false)) : zw_q ki ((p, s) :: r) = zw_q ki r := by
  rw [zw_q, if_neg h]
theorem zw_q_cg {ki ki' : Nat → Int32} : ∀ (l : List (Nat × Bool)), (∀ x, x ∈ l → ki x.1 = ki' x.1) → zw_q ki l = zw_q ki' l := by
  intro l
  induction l with
  | nil => intro _; rfl
  | cons a r ih =>
    obtain ⟨p, s⟩ := a
    intro h
    have e : ki p = ki' p := h (p, s) (List.Mem.head _)
    have i := ih (fun x hx => h x (List.Mem.tail _ hx))
    rw [zw_q, zw_q, e, i]
theorem zw_q_len {ki : Nat → Int32} : ∀ (l : List (Nat × Bool)), (zw_q ki l).length ≤ l.length := by
  intro l
  induction l with
  | nil => exact Nat.le_refl _
  | cons a r ih =>
    obtain ⟨p, s⟩ := a
    by_cases c : ki p = 6 ∧ s = false
    · rw [zw_q_t c]; exact Nat.succ_le_succ ih
    · rw [zw_q_f c]; exact Nat.le_succ_of_le ih
theorem zw_pop_q {ki : Nat → Int32} : ∀ (l : List (Nat × Bool)), (zw_q ki l = [] ∧ zw_pop ki l = []) ∨ ∃ p ws r, zw_q ki l = p :: ws ∧ zw_pop ki l = (p, true) :: r ∧ zw_q ki r = ws := by
  intro l
  induction l with
  | nil => exact Or.inl ⟨rfl, rfl⟩
  | cons a r ih =>
    obtain ⟨p, s⟩ := a
    by_cases c : ki p = 6 ∧ s = false
    · exact Or.inr ⟨p, zw_q ki r, r, zw_q_t c, zw_pop_t c, rfl⟩
    · rw [zw_q_f c, zw_pop_f c]; exact ih
/-- the IFs that wait at a place: the one whose second branch is next still counts -/
def zw_v (ki : Nat → Int32) : List (Nat × Bool) → List Nat
  | [] => []
  | (p, s) :: r => if s = true then p :: zw_q ki r else zw_q ki ((p, s) :: r)
/-- the class's stack holds them -/
def zw_Q (wt : Nat → Int32) : List Nat → Prop
  | [] => True
  | p :: r => wt r.length = nI p ∧ zw_Q wt r
theorem zw_Q_upd {wt : Nat → Int32} {k : Nat} {x : Int32} : ∀ (l : List Nat), l.length ≤ k → zw_Q wt l → zw_Q (upd wt k x) l := by
  intro l
  induction l with
  | nil => intro _ _; exact trivial
  | cons a r ih =>
    intro hk h
    have hk' : r.length < k := hk
    exact ⟨by rw [pk_un (by omega)]; exact h.1, ih (by omega) h.2⟩
def zw_hp : List (Nat × Bool) → Int32
  | [] => -1
  | (p, _) :: _ => nI p
def zw_hs : List (Nat × Bool) → Int32
  | [] => 0
  | (_, s) :: _ => zw_b s
theorem zw_b2_s {ki : Nat → Int32} (n : Nat) : ((zw_w ki (n + 1)).2 = (zw_w ki n).2 ∧ (zw_w ki (n + 1)).1 ≠ []) ∨ ((zw_w ki (n + 1)).2 = (zw_w ki n).2 + 1 ∧ (zw_w ki (n + 1)).1 = [] ∧ ki n = 7) := by
  by_cases h : ki n = 7
  · by_cases e : zw_pop ki (zw_w ki n).1 = []
    · rw [zw_7e h e]; exact Or.inr ⟨rfl, rfl, h⟩
    · rw [zw_7n h e]; exact Or.inl ⟨rfl, e⟩
  · rw [zw_n h]; exact Or.inl ⟨rfl, List.cons_ne_nil _ _⟩
theorem zw_b2_mono {ki : Nat → Int32} : ∀ (n m : Nat), n ≤ m → (zw_w ki n).2 ≤ (zw_w ki m).2 := by
  intro n m h
  induction m with
  | zero => have e : n = 0 := by omega
            rw [e]; exact Nat.le_refl _
  | succ m ih =>
    by_cases e : n = m + 1
    · rw [e]; exact Nat.le_refl _
    · have i := ih (by omega)
      obtain h | h := zw_b2_s (ki := ki) m
      · have := h.1; omega
      · have := h.1; omega
/-- the first place of a body -/
theorem zw_fst {ki : Nat → Int32} : ∀ N, ∃ n, n ≤ N ∧ (zw_w ki n).2 = (zw_w ki N).2 ∧ (zw_w ki n).1 = [] ∧ ∀ m, m < n → (zw_w ki m).2 ≠ (zw_w ki N).2 := by
  intro N
  induction N with
  | zero => exact ⟨0, Nat.le_refl _, rfl, rfl, fun m hm => absurd hm (Nat.not_lt_zero m)⟩
  | succ N ih =>
    obtain h | h := zw_b2_s (ki := ki) N
    · obtain ⟨n, h1, h2, h3, h4⟩ := ih
      exact ⟨n, by omega, by rw [h.1]; exact h2, h3, fun m hm => by rw [h.1]; exact h4 m hm⟩
    · exact ⟨N + 1, Nat.le_refl _, rfl, h.2.1, fun m hm => by
        have := zw_b2_mono (ki := ki) m N (by omega)
        have := h.1
        omega⟩
theorem zw_ivt {ki : Nat → Int32} : ∀ (N f : Nat), f ≤ (zw_w ki N).2 → ∃ M, M ≤ N ∧ (zw_w ki M).2 = f := by
  intro N
  induction N with
  | zero =>
    intro f hf
    have e : (zw_w ki 0).2 = 0 := rfl
    exact ⟨0, Nat.le_refl _, by omega⟩
  | succ N ih =>
    intro f hf
    by_cases e : f = (zw_w ki (N + 1)).2
    · exact ⟨N + 1, Nat.le_refl _, e.symm⟩
    · have : f ≤ (zw_w ki N).2 := by
        obtain h | h := zw_b2_s (ki := ki) N
        · have := h.1; omega
        · have := h.1; omega
      obtain ⟨M, h1, h2⟩ := ih f this
      exact ⟨M, by omega, h2⟩
theorem zw_start {ki : Nat → Int32} {N f : Nat} (h : f < (zw_w ki N).2) : ∃ n, n < N ∧ (zw_w ki n).2 = f ∧ (zw_w ki n).1 = [] ∧ ∀ m, m < n → (zw_w ki m).2 ≠ f := by
  obtain ⟨M, h1, h2⟩ := zw_ivt (ki := ki) N f (by omega)
  have hM : M ≠ N := fun e => by rw [e] at h2; omega
  obtain ⟨n, h3, h4, h5, h6⟩ := zw_fst (ki := ki) M
  exact ⟨n, by omega, by rw [h4]; exact h2, h5, fun m hm => by rw [← h2]; exact h6 m hm⟩
theorem zw_pop_in {ki : Nat → Int32} {p : Nat} (hp : ki p = 6) : ∀ (l : List (Nat × Bool)), (p, false) ∈ l → (∃ r, zw_pop ki l = (p, true) :: r) ∨ (p, false) ∈ zw_pop ki l := by
  intro l
  induction l with
  | nil => intro h; cases h
  | cons a r ih =>
    obtain ⟨p', s⟩ := a
    intro h
    by_cases c : ki p' = 6 ∧ s = false
    · rw [zw_pop_t c]
      cases h with
      | head => exact Or.inl ⟨r, rfl⟩
      | tail _ h => exact Or.inr (List.Mem.tail _ h)
    · rw [zw_pop_f c]
      cases h with
      | head => exact absurd ⟨hp, rfl⟩ c
      | tail _ h => exact ih h
/-- an IF waits on the path, or its second branch has begun -/
theorem zw_if {ki : Nat → Int32} {p : Nat} (hp : ki p = 6) : ∀ n, p < n → (p, false) ∈ (zw_w ki n).1 ∨ ∃ m r, p < m ∧ m ≤ n ∧ (zw_w ki m).1 = (p, true) :: r := by
  intro n
  induction n with
  | zero => intro h; exact absurd h (Nat.not_lt_zero p)
  | succ n ih =>
    intro h
    by_cases e : p = n
    · subst e
      rw [zw_n (by rw [hp]; decide)]
      exact Or.inl (List.Mem.head _)
    · obtain h1 | ⟨m, r, h2, h3, h4⟩ := ih (by omega)
      · by_cases h7 : ki n = 7
        · obtain ⟨r, e2⟩ | h2 := zw_pop_in hp _ h1
          · refine Or.inr ⟨n + 1, r, by omega, Nat.le_refl _, ?_⟩
            rw [zw_7n h7 (by rw [e2]; exact List.cons_ne_nil _ _)]
            exact e2
          · by_cases e3 : zw_pop ki (zw_w ki n).1 = []
            · rw [e3] at h2; cases h2
            · rw [zw_7n h7 e3]; exact Or.inl h2
        · rw [zw_n h7]; exact Or.inl (List.Mem.tail _ h1)
      · exact Or.inr ⟨m, r, h2, by omega, h4⟩
theorem zw_R_pop {ki pth sid : Nat → Int32} : ∀ (l : List (Nat × Bool)) (p : Nat) (r : List (Nat × Bool)), zw_R pth sid l → zw_pop ki l = (p, true) :: r → zw_R pth (upd sid r.length 1) ((p, true) :: r) := by
  intro l
  induction l with
  | nil => intro p r _ h; exact absurd h.symm (List.cons_ne_nil _ _)
  | cons a r' ih =>
    obtain ⟨p', s⟩ := a
    intro p r hR h
    by_cases c : ki p' = 6 ∧ s = false
    · rw [zw_pop_t c] at h
      injection h with h1 h2
      injection h1 with h1 h3
      subst h1 h2
      exact ⟨hR.1, pk_us, zw_R_sid _ (Nat.le_refl _) hR.2.2⟩
    · rw [zw_pop_f c] at h
      exact ih p r hR.2.2 h
end
section
/-- a list of m bounds: slot L i at most K i above slot R i -/
def zb_sol (m : Nat) (L R : Nat → Nat) (K : Nat → Int) (g : Nat → Int) : Prop := ∀ i, i < m → g (L i) - g (R i) ≤ K i
def zb_sum (g : Nat → Int) : Nat → Int
  | 0 => 0
  | n + 1 => zb_sum g n + g n
theorem zb_sum_s (g : Nat → Int) (n : Nat) : zb_sum g (n + 1) = zb_sum g n + g n := rfl
/-- how many slots are not settled -/
def zb_uc (h G : Nat → Int) : Nat → Nat
  | 0 => 0
  | n + 1 => zb_uc h G n + (if h n = G n then 0 else 1)
theorem zb_uc_s (h G : Nat → Int) (n : Nat) : zb_uc h G (n + 1) = zb_uc h G n + (if h n = G n then 0 else 1) := rfl
theorem zb_uc_le (h G : Nat → Int) : ∀ n, zb_uc h G n ≤ n := by
  intro n
  induction n with
  | zero => exact Nat.le_refl _
  | succ n ih =>
    rw [zb_uc_s]
    by_cases e : h n = G n
    · rw [if_pos e]; omega
    · rw [if_neg e]; omega
theorem zb_uc_mono {h h' G : Nat → Int} : ∀ n, (∀ s, s < n → h s = G s → h' s = G s) → zb_uc h' G n ≤ zb_uc h G n := by
  intro n
  induction n with
  | zero => intro _; exact Nat.le_refl _
  | succ n ih =>
    intro hs
    have i := ih (fun s hs' => hs s (by omega))
    rw [zb_uc_s, zb_uc_s]
    by_cases e : h n = G n
    · rw [if_pos e, if_pos (hs n (by omega) e)]; omega
    · rw [if_neg e]
      by_cases e' : h' n = G n
      · rw [if_pos e']; omega
      · rw [if_neg e']; omega
theorem zb_uc_lt {h h' G : Nat → Int} {t : Nat} (ht : h t ≠ G t) (ht' : h' t = G t) : ∀ n, t < n → (∀ s, s < n → h s = G s → h' s = G s) → zb_uc h' G n < zb_uc h G n := by
  intro n
  induction n with
  | zero => intro h; exact absurd h (Nat.not_lt_zero t)
  | succ n ih =>
    intro htn hs
    rw [zb_uc_s, zb_uc_s]
    by_cases e : t = n
    · subst e
      have i := zb_uc_mono (h := h) (h' := h') (G := G) t (fun s hs' => hs s (by omega))
      rw [if_neg ht, if_pos ht']; omega
    · have i := ih (by omega) (fun s hs' => hs s (by omega))
      by_cases e : h n = G n
      · rw [if_pos e, if_pos (hs n (by omega) e)]; omega
      · rw [if_neg e]
        by_cases e' : h' n = G n
        · rw [if_pos e']; omega
        · rw [if_neg e']; omega
theorem zb_sum_le {g g' : Nat → Int} : ∀ n, (∀ s, s < n → g s ≤ g' s) → zb_sum g n ≤ zb_sum g' n := by
  intro n
  induction n with
  | zero => intro _; exact Int.le_refl _
  | succ n ih =>
    intro h
    have i := ih (fun s hs => h s (by omega))
    have := h n (by omega)
    rw [zb_sum_s, zb_sum_s]
    omega
theorem zb_sum_lt {g g' : Nat → Int} {t : Nat} (ht : g t < g' t) : ∀ n, t < n → (∀ s, s < n → g s ≤ g' s) → zb_sum g n < zb_sum g' n := by
  intro n
  induction n with
  | zero => intro h; exact absurd h (Nat.not_lt_zero t)
  | succ n ih =>
    intro htn h
    rw [zb_sum_s, zb_sum_s]
    by_cases e : t = n
    · subst e
      have i := zb_sum_le (g := g) (g' := g') t (fun s hs => h s (by omega))
      omega
    · have i := ih (by omega) (fun s hs => h s (by omega))
      have := h n (by omega)
      omega
theorem zb_sum_0 {g : Nat → Int} : ∀ n, (∀ s, s < n → g s ≤ 0) → zb_sum g n ≤ 0 := by
  intro n
  induction n with
  | zero => intro _; exact Int.le_refl _
  | succ n ih =>
    intro h
    have i := ih (fun s hs => h s (by omega))
    have := h n (by omega)
    rw [zb_sum_s]
    omega
theorem zb_bd (g : Nat → Int) : ∀ n, ∃ c : Int, ∀ s, s < n → g s ≤ c := by
  intro n
  induction n with
  | zero => exact ⟨0, fun s hs => absurd hs (Nat.not_lt_zero s)⟩
  | succ n ih =>
    obtain ⟨c, hc⟩ := ih
    by_cases e : g n ≤ c
    · exact ⟨c, fun s hs => by
        by_cases e2 : s = n
        · rw [e2]; exact e
        · exact hc s (by omega)⟩
    · exact ⟨g n, fun s hs => by
        by_cases e2 : s = n
        · rw [e2]; exact Int.le_refl _
        · have := hc s (by omega); omega⟩
/-- a solution at most 0 -/
def zb_ok (m : Nat) (L R : Nat → Nat) (K : Nat → Int) (g : Nat → Int) : Prop := zb_sol m L R K g ∧ ∀ s, s < 10 → g s ≤ 0
/-- one of greatest sum -/
def zb_mx (m : Nat) (L R : Nat → Nat) (K : Nat → Int) (G : Nat → Int) : Prop := zb_ok m L R K G ∧ ∀ G', zb_ok m L R K G' → zb_sum G' 10 ≤ zb_sum G 10
theorem zb_ex {m : Nat} {L R : Nat → Nat} {K : Nat → Int} {g : Nat → Int} (h : zb_sol m L R K g) : ∃ G, zb_mx m L R K G := by
  obtain ⟨c, hc⟩ := zb_bd g 10
  have h0 : zb_ok m L R K (fun s => g s - c) := ⟨fun i hi => by have := h i hi; show g (L i) - c - (g (R i) - c) ≤ K i; omega, fun s hs => by have := hc s hs; show g s - c ≤ 0; omega⟩
  obtain ⟨k, ⟨G, hG, eG⟩, hk⟩ := pk_least (fun k => ∃ G, zb_ok m L R K G ∧ zb_sum G 10 = -(k : Int)) ⟨(-(zb_sum (fun s => g s - c) 10)).toNat, _, h0, by
    have := zb_sum_0 10 h0.2
    omega⟩
  refine ⟨G, hG, fun G' hG' => ?_⟩
  by_cases e : zb_sum G' 10 ≤ zb_sum G 10
  · exact e
  · have h1 := zb_sum_0 10 hG'.2
    exact absurd ⟨G', hG', by omega⟩ (hk (-(zb_sum G' 10)).toNat (by omega))
/-- one round settles one slot more -/
theorem zb_step {m : Nat} {L R : Nat → Nat} {K : Nat → Int} {G h0 h1 : Nat → Int} {t0 : Nat} (hLR : ∀ i, i < m → L i < 10 ∧ R i < 10) (hG : zb_mx m L R K G)
    (h00 : ∀ s, s < 10 → h0 s ≤ 0) (hG0 : ∀ s, s < 10 → G s ≤ h0 s) (h10 : ∀ s, s < 10 → h1 s ≤ h0 s) (hG1 : ∀ s, s < 10 → G s ≤ h1 s)
    (hr : ∀ i, i < m → h1 (L i) ≤ h0 (R i) + K i) (ht0 : t0 < 10) (hu : h0 t0 ≠ G t0) : zb_uc h1 G 10 < zb_uc h0 G 10 := by
  have hkeep : ∀ s, s < 10 → h0 s = G s → h1 s = G s := fun s hs e => by
    have := h10 s hs; have := hG1 s hs; omega
  by_cases c : ∃ i, i < m ∧ h0 (L i) ≠ G (L i) ∧ h0 (R i) = G (R i) ∧ G (L i) = G (R i) + K i
  · obtain ⟨i, hi, c1, c2, c3⟩ := c
    have hl := hLR i hi
    have a := hr i hi
    have b := hG1 (L i) hl.1
    exact zb_uc_lt c1 (by omega) 10 hl.1 hkeep
  · have hle : ∀ s, G s ≤ (if h0 s = G s then G s else G s + 1) := fun s => by
      by_cases e : h0 s = G s
      · rw [if_pos e]; exact Int.le_refl _
      · rw [if_neg e]; omega
    have hok : zb_ok m L R K (fun s => if h0 s = G s then G s else G s + 1) := by
      refine ⟨fun i hi => ?_, fun s hs => ?_⟩
      · show (if h0 (L i) = G (L i) then G (L i) else G (L i) + 1) - (if h0 (R i) = G (R i) then G (R i) else G (R i) + 1) ≤ K i
        have a := hG.1.1 i hi
        by_cases e1 : h0 (L i) = G (L i)
        · rw [if_pos e1]; have := hle (R i); omega
        · rw [if_neg e1]
          by_cases e2 : h0 (R i) = G (R i)
          · rw [if_pos e2]
            have : ¬ G (L i) = G (R i) + K i := fun e3 => c ⟨i, hi, e1, e2, e3⟩
            omega
          · rw [if_neg e2]; omega
      · show (if h0 s = G s then G s else G s + 1) ≤ 0
        have a := h00 s hs
        have b := hG0 s hs
        by_cases e : h0 s = G s
        · rw [if_pos e]; omega
        · rw [if_neg e]; omega
    have hlt : zb_sum G 10 < zb_sum (fun s => if h0 s = G s then G s else G s + 1) 10 :=
      zb_sum_lt (t := t0) (by show G t0 < (if h0 t0 = G t0 then G t0 else G t0 + 1); rw [if_neg hu]; omega) 10 ht0 (fun s _ => hle s)
    have := hG.2 _ hok
    omega
/-- inside a round, before fact i; h0 at its beginning -/
def zb_in (m : Nat) (L R : Nat → Nat) (K : Nat → Int) (h0 : Nat → Int) (i : Nat) (h : Nat → Int) (f : Int32) : Prop :=
  (∀ s, s < 10 → h s ≤ h0 s) ∧ (∀ G, zb_sol m L R K G → (∀ s, s < 10 → G s ≤ h0 s) → ∀ s, s < 10 → G s ≤ h s) ∧ (∀ j, j < i → h (L j) ≤ h0 (R j) + K j) ∧
  ((f = 0 ∧ (∀ s, s < 10 → h s = h0 s) ∧ ∀ j, j < i → h0 (L j) - h0 (R j) ≤ K j) ∨ (f = 1 ∧ ∃ t, t < 10 ∧ h t < h0 t))
theorem zb_in_0 {m : Nat} {L R : Nat → Nat} {K : Nat → Int} {h0 : Nat → Int} : zb_in m L R K h0 0 h0 0 :=
  ⟨fun s _ => Int.le_refl _, fun G _ h => h, fun j hj => absurd hj (Nat.not_lt_zero j), Or.inl ⟨rfl, fun s _ => rfl, fun j hj => absurd hj (Nat.not_lt_zero j)⟩⟩
theorem zb_in_k {m : Nat} {L R : Nat → Nat} {K : Nat → Int} {h0 h : Nat → Int} {i : Nat} {f : Int32} (hLR : ∀ i, i < m → L i < 10 ∧ R i < 10) (hi : i < m)
    (I : zb_in m L R K h0 i h f) (c : h (L i) - h (R i) ≤ K i) : zb_in m L R K h0 (i + 1) h f := by
  obtain ⟨a, b, d, e⟩ := I
  have hl := hLR i hi
  refine ⟨a, b, fun j hj => ?_, ?_⟩
  · by_cases ej : j = i
    · rw [ej]; have := a (R i) hl.2; omega
    · exact d j (by omega)
  · obtain ⟨e1, e2, e3⟩ | e := e
    · refine Or.inl ⟨e1, e2, fun j hj => ?_⟩
      by_cases ej : j = i
      · rw [ej, ← e2 _ hl.1, ← e2 _ hl.2]; exact c
      · exact e3 j (by omega)
    · exact Or.inr e
theorem zb_in_c {m : Nat} {L R : Nat → Nat} {K : Nat → Int} {h0 h h' : Nat → Int} {i : Nat} {f : Int32} (hLR : ∀ i, i < m → L i < 10 ∧ R i < 10) (hi : i < m)
    (I : zb_in m L R K h0 i h f) (c : K i < h (L i) - h (R i)) (e1 : h' (L i) = h (R i) + K i) (e2 : ∀ s, s ≠ L i → h' s = h s) : zb_in m L R K h0 (i + 1) h' 1 := by
  obtain ⟨a, b, d, e⟩ := I
  have hl := hLR i hi
  have le : ∀ s, h' s ≤ h s := fun s => by
    by_cases es : s = L i
    · rw [es, e1]; omega
    · rw [e2 s es]; exact Int.le_refl _
  refine ⟨fun s hs => by have := a s hs; have := le s; omega, fun G hG hG0 s hs => ?_, fun j hj => ?_, Or.inr ⟨rfl, L i, hl.1, ?_⟩⟩
  · by_cases es : s = L i
    · have x := b G hG hG0 (R i) hl.2
      have y := hG i hi
      rw [es, e1]; omega
    · rw [e2 s es]; exact b G hG hG0 s hs
  · by_cases ej : j = i
    · rw [ej, e1]; have := a (R i) hl.2; omega
    · have := d j (by omega); have := le (L j); omega
  · have := a (L i) hl.1; rw [e1]; omega
/-- between rounds: r rounds done, the last with flag f -/
def zb_out (m : Nat) (L R : Nat → Nat) (K : Nat → Int) (r : Nat) (h : Nat → Int) (f : Int32) : Prop :=
  (∀ s, s < 10 → h s ≤ 0) ∧ (∀ G, zb_ok m L R K G → ∀ s, s < 10 → G s ≤ h s) ∧
  ((f = 0 ∧ ∃ g, zb_sol m L R K g) ∨ (f = 1 ∧ ∀ G, zb_mx m L R K G → zb_uc h G 10 + r ≤ 10))
theorem zb_out_0 {m : Nat} {L R : Nat → Nat} {K : Nat → Int} {h : Nat → Int} (e : ∀ s, s < 10 → h s = 0) : zb_out m L R K 0 h 1 :=
  ⟨fun s hs => by rw [e s hs]; exact Int.le_refl _, fun G hG s hs => by rw [e s hs]; exact hG.2 s hs, Or.inr ⟨rfl, fun G _ => zb_uc_le h G 10⟩⟩
theorem zb_out_s {m : Nat} {L R : Nat → Nat} {K : Nat → Int} {h h' : Nat → Int} {r : Nat} {f : Int32} (hLR : ∀ i, i < m → L i < 10 ∧ R i < 10)
    (O : zb_out m L R K r h 1) (I : zb_in m L R K h m h' f) : zb_out m L R K (r + 1) h' f := by
  obtain ⟨o1, o2, o3⟩ := O
  obtain ⟨a, b, d, e⟩ := I
  have o3' : ∀ G, zb_mx m L R K G → zb_uc h G 10 + r ≤ 10 := by
    obtain ⟨z, _⟩ | ⟨_, o⟩ := o3
    · exact absurd z za_n10
    · exact o
  have g1 : ∀ G, zb_ok m L R K G → ∀ s, s < 10 → G s ≤ h' s := fun G hG => b G hG.1 (o2 G hG)
  refine ⟨fun s hs => by have := a s hs; have := o1 s hs; omega, g1, ?_⟩
  obtain ⟨e1, e2, e3⟩ | ⟨e1, t, ht, e2⟩ := e
  · exact Or.inl ⟨e1, h, e3⟩
  · refine Or.inr ⟨e1, fun G hG => ?_⟩
    have := zb_step hLR hG o1 (o2 G hG.1) a (g1 G hG.1) d ht (by have := g1 G hG.1 t ht; omega)
    have := o3' G hG
    omega
theorem zb_end {m : Nat} {L R : Nat → Nat} {K : Nat → Int} {h : Nat → Int} {r : Nat} {f : Int32} (O : zb_out m L R K r h f) (hr : f = 0 ∨ 11 ≤ r) :
    f = za_b (¬ ∃ g, zb_sol m L R K g) := by
  obtain ⟨_, _, ⟨e, o⟩ | ⟨e, o⟩⟩ := O
  · rw [e, za_bf (fun z => z o)]
  · have : ¬ ∃ g, zb_sol m L R K g := fun ⟨g, hg⟩ => by
      obtain ⟨G, hG⟩ := zb_ex hg
      have := o G hG
      obtain z | z := hr
      · rw [z] at e; exact absurd e.symm za_n10
      · omega
    rw [e, za_bt this]
end
section
/-- the values that keep a table of bounds -/
def zf_sol (d : Nat → Nat → Int) (g : Nat → Int) : Prop := ∀ a b, a < 10 → b < 10 → d a b < 1000000000 → g a - g b ≤ d a b
def zf_rx (d : Nat → Nat → Int) (m : Nat) : Nat → Nat → Int := fun a b => if d a m < 1000000000 ∧ d m b < 1000000000 ∧ d a m + d m b < d a b then d a m + d m b else d a b
def zf_bd (d : Nat → Nat → Int) (B : Int) : Prop := ∀ a b, a < 10 → b < 10 → d a b = 1000000000 ∨ (-B ≤ d a b ∧ d a b ≤ B)
def zf_cl (d : Nat → Nat → Int) (m : Nat) : Prop := ∀ c a b, c < m → a < 10 → b < 10 → d a c < 1000000000 → d c b < 1000000000 → d a b ≤ d a c + d c b
theorem zf_rx_le (d : Nat → Nat → Int) (m a b : Nat) : zf_rx d m a b ≤ d a b := by
  unfold zf_rx
  split
  · omega
  · exact Int.le_refl _
theorem zf_rx_c (d : Nat → Nat → Int) (m a b : Nat) : zf_rx d m a b = d a b ∨ (d a m < 1000000000 ∧ d m b < 1000000000 ∧ zf_rx d m a b = d a m + d m b) := by
  unfold zf_rx
  split
  · rename_i h; exact Or.inr ⟨h.1, h.2.1, rfl⟩
  · exact Or.inl rfl
theorem zf_rx_t {d : Nat → Nat → Int} {m a b : Nat} (h1 : d a m < 1000000000) (h2 : d m b < 1000000000) : zf_rx d m a b ≤ d a m + d m b := by
  unfold zf_rx
  split
  · exact Int.le_refl _
  · omega
theorem zf_rx_i {d : Nat → Nat → Int} {m a b : Nat} (h : ¬ (d a m < 1000000000 ∧ d m b < 1000000000 ∧ d a m + d m b < d a b)) : zf_rx d m a b = d a b := if_neg h
theorem zf_rx_j {d : Nat → Nat → Int} {m a b : Nat} (h1 : d a m < 1000000000) (h2 : d m b < 1000000000) (h3 : d a m + d m b < d a b) : zf_rx d m a b = d a m + d m b := if_pos ⟨h1, h2, h3⟩
theorem zf_rx_r {d : Nat → Nat → Int} {m b : Nat} (h : 0 ≤ d m m) : zf_rx d m m b = d m b := zf_rx_i (fun z => by omega)
theorem zf_rx_l {d : Nat → Nat → Int} {m a : Nat} (h : 0 ≤ d m m) : zf_rx d m a m = d a m := zf_rx_i (fun z => by omega)
theorem zf_sol_rx {d : Nat → Nat → Int} {m : Nat} {g : Nat → Int} (hm : m < 10) : zf_sol (zf_rx d m) g ↔ zf_sol d g := by
  constructor
  · intro h a b ha hb hd
    have l := zf_rx_le d m a b
    have := h a b ha hb (by omega)
    omega
  · intro h a b ha hb hd
    obtain e | ⟨e1, e2, e3⟩ := zf_rx_c d m a b
    · rw [e] at hd ⊢; exact h a b ha hb hd
    · have x := h a m ha hm e1
      have y := h m b hm hb e2
      omega
theorem zf_bd_rx {d : Nat → Nat → Int} {m : Nat} {B : Int} (hm : m < 10) (hB : 0 ≤ B) (h : zf_bd d B) : zf_bd (zf_rx d m) (2 * B) := by
  intro a b ha hb
  obtain e | ⟨e1, e2, e3⟩ := zf_rx_c d m a b
  · rw [e]
    have := h a b ha hb
    omega
  · have x := h a m ha hm
    have y := h m b hm hb
    omega
theorem zf_cl_rx {d : Nat → Nat → Int} {m : Nat} {B : Int} (hm : m < 10) (hB : B < 100000000) (hb : zf_bd d B) (h0 : 0 ≤ d m m) (h : zf_cl d m) : zf_cl (zf_rx d m) (m + 1) := by
  intro c a b hc ha hb' h1 h2
  by_cases e : c = m
  · subst e
    rw [zf_rx_l h0] at h1 ⊢
    rw [zf_rx_r h0] at h2 ⊢
    exact zf_rx_t h1 h2
  · have hc' : c < m := by omega
    have hc10 : c < 10 := by omega
    have le := zf_rx_le d m a b
    have bac := hb a c ha hc10
    have bcb := hb c b hc10 hb'
    have bmc := hb m c hm hc10
    have bcm := hb c m hc10 hm
    have bam := hb a m ha hm
    have bmb := hb m b hm hb'
    obtain e1 | ⟨f1, f2, e1⟩ := zf_rx_c d m a c
    · obtain e2 | ⟨f3, f4, e2⟩ := zf_rx_c d m c b
      · rw [e1] at h1 ⊢
        rw [e2] at h2 ⊢
        have := h c a b hc' ha hb' h1 h2
        omega
      · rw [e1] at h1 ⊢
        rw [e2]
        have x := h c a m hc' ha hm h1 f3
        have y := zf_rx_t (d := d) (m := m) (a := a) (b := b) (by omega) f4
        omega
    · obtain e2 | ⟨f3, f4, e2⟩ := zf_rx_c d m c b
      · rw [e2] at h2 ⊢
        rw [e1]
        have x := h c m b hc' hm hb' f2 h2
        have y := zf_rx_t (d := d) (m := m) (a := a) (b := b) f1 (by omega)
        omega
      · rw [e1, e2]
        have x := h c m m hc' hm hm f2 f3
        have y := zf_rx_t (d := d) (m := m) (a := a) (b := b) f1 f4
        omega
/-- the least bound out of a slot -/
def zf_p (d : Nat → Nat → Int) (s : Nat) : Nat → Int
  | 0 => 0
  | n + 1 => if d s n < zf_p d s n then d s n else zf_p d s n
theorem zf_p_s (d : Nat → Nat → Int) (s n : Nat) : zf_p d s (n + 1) = if d s n < zf_p d s n then d s n else zf_p d s n := rfl
theorem zf_p_le (d : Nat → Nat → Int) (s : Nat) : ∀ n, zf_p d s n ≤ 0 ∧ ∀ t, t < n → zf_p d s n ≤ d s t := by
  intro n
  induction n with
  | zero => exact ⟨Int.le_refl _, fun t ht => absurd ht (Nat.not_lt_zero t)⟩
  | succ n ih =>
    rw [zf_p_s]
    by_cases e : d s n < zf_p d s n
    · rw [if_pos e]
      refine ⟨by have := ih.1; omega, fun t ht => ?_⟩
      by_cases e2 : t = n
      · rw [e2]; exact Int.le_refl _
      · have := ih.2 t (by omega); omega
    · rw [if_neg e]
      refine ⟨ih.1, fun t ht => ?_⟩
      by_cases e2 : t = n
      · rw [e2]; omega
      · exact ih.2 t (by omega)
theorem zf_p_at (d : Nat → Nat → Int) (s : Nat) : ∀ n, zf_p d s n = 0 ∨ ∃ t, t < n ∧ zf_p d s n = d s t := by
  intro n
  induction n with
  | zero => exact Or.inl rfl
  | succ n ih =>
    rw [zf_p_s]
    by_cases e : d s n < zf_p d s n
    · rw [if_pos e]; exact Or.inr ⟨n, Nat.lt_succ_self n, rfl⟩
    · rw [if_neg e]
      obtain h | ⟨t, h1, h2⟩ := ih
      · exact Or.inl h
      · exact Or.inr ⟨t, by omega, h2⟩
theorem zf_p_tri {d : Nat → Nat → Int} (hc : zf_cl d 10) {a b : Nat} (ha : a < 10) (hb : b < 10) (h : d a b < 1000000000) : zf_p d a 10 ≤ d a b + zf_p d b 10 := by
  obtain e | ⟨t, ht, e⟩ := zf_p_at d b 10
  · rw [e]; have := (zf_p_le d a 10).2 b hb; omega
  · have l := (zf_p_le d b 10).1
    have x := hc b a t hb ha ht h (by omega)
    have y := (zf_p_le d a 10).2 t ht
    omega
theorem zf_p_lo {d : Nat → Nat → Int} {B : Int} (hB : 0 ≤ B) (hb : zf_bd d B) {s : Nat} (hs : s < 10) : -B ≤ zf_p d s 10 := by
  obtain e | ⟨t, ht, e⟩ := zf_p_at d s 10
  · omega
  · have := hb s t hs ht; omega
/-- a bound that the closed table doesn't force can be broken -/
theorem zf_feas {d : Nat → Nat → Int} {B : Int} (hB : 0 ≤ B) (hB2 : B < 10000000) (hb : zf_bd d B) (hc : zf_cl d 10) (hd : ∀ s, s < 10 → d s s = 0) {l r : Nat} (hl : l < 10) (hr : r < 10)
    {k : Int} (hk : k ≤ 2000) (h : k < d l r) : ∃ g, zf_sol d g ∧ k < g l - g r := by
  refine ⟨fun s => if d s r < 1000000000 then d s r else 100000000 + zf_p d s 10, ?_, ?_⟩
  · intro a b ha hb' hab
    show (if d a r < 1000000000 then d a r else 100000000 + zf_p d a 10) - (if d b r < 1000000000 then d b r else 100000000 + zf_p d b 10) ≤ d a b
    have bab := hb a b ha hb'
    have bbr := hb b r hb' hr
    have bar := hb a r ha hr
    have pa := zf_p_lo hB hb ha
    have pb := zf_p_lo hB hb hb'
    have pt := zf_p_tri hc ha hb' hab
    by_cases e1 : d b r < 1000000000
    · have x := hc b a r hb' ha hr hab e1
      rw [if_pos e1, if_pos (by omega)]
      omega
    · rw [if_neg e1]
      by_cases e2 : d a r < 1000000000
      · rw [if_pos e2]; omega
      · rw [if_neg e2]; omega
  · show k < (if d l r < 1000000000 then d l r else 100000000 + zf_p d l 10) - (if d r r < 1000000000 then d r r else 100000000 + zf_p d r 10)
    have pl := zf_p_lo hB hb hl
    rw [hd r hr, if_pos (show (0 : Int) < 1000000000 by omega)]
    by_cases e : d l r < 1000000000
    · rw [if_pos e]; omega
    · rw [if_neg e]; omega
/-- do the values S force slot l at most k above slot r -/
def zf_ent (S : (Nat → Int) → Prop) (l r : Nat) (k : Int) : Prop := ∀ g, S g → g l - g r ≤ k
/-- the table while facts are added: it stands for S -/
def zf_tab (d : Nat → Nat → Int) (S : (Nat → Int) → Prop) : Prop := zf_bd d 1001 ∧ (∀ s, s < 10 → d s s ≤ 0) ∧ ∀ g, zf_sol d g ↔ S g
/-- the table while it is closed: m stages done, no negative loop -/
def zf_stg (d : Nat → Nat → Int) (S : (Nat → Int) → Prop) (m : Nat) (B : Int) : Prop := zf_bd d B ∧ (∀ s, s < 10 → d s s = 0) ∧ zf_cl d m ∧ ∀ g, zf_sol d g ↔ S g
/-- the closed table answers for S -/
def zf_ans (d : Nat → Nat → Int) (c : Int32) (S : (Nat → Int) → Prop) : Prop := ∀ l r k, l < 10 → r < 10 → k ≤ 2000 → ((c ≠ 0 ∨ d l r ≤ k) ↔ zf_ent S l r k)
theorem zf_neg {d : Nat → Nat → Int} {S : (Nat → Int) → Prop} {s : Nat} (hs : s < 10) (h : d s s < 0) (hS : ∀ g, zf_sol d g ↔ S g) : zf_ans d 1 S := by
  intro l r k _ _ _
  refine ⟨fun _ g hg => ?_, fun _ => Or.inl za_n10⟩
  have := (hS g).mpr hg s s hs hs (by omega)
  omega
theorem zf_fin {d : Nat → Nat → Int} {S : (Nat → Int) → Prop} {B : Int} (hB : 0 ≤ B) (hB2 : B < 10000000) (h : zf_stg d S 10 B) : zf_ans d 0 S := by
  obtain ⟨hb, hd, hc, hS⟩ := h
  intro l r k hl hr hk
  refine ⟨fun h g hg => ?_, fun h => Or.inr ?_⟩
  · obtain z | z := h
    · exact absurd rfl z
    · have := (hS g).mpr hg l r hl hr (by omega)
      omega
  · by_cases e : d l r ≤ k
    · exact e
    · obtain ⟨g, h1, h2⟩ := zf_feas hB hB2 hb hc hd hl hr hk (by omega)
      have := h g ((hS g).mp h1)
      omega
theorem zf_stg_0 {d : Nat → Nat → Int} {S : (Nat → Int) → Prop} (h : zf_tab d S) (h0 : ∀ s, s < 10 → 0 ≤ d s s) : zf_stg d S 0 1001 :=
  ⟨h.1, fun s hs => by have := h.2.1 s hs; have := h0 s hs; omega, fun c _ _ hc => absurd hc (Nat.not_lt_zero c), h.2.2⟩
theorem zf_stg_s {d : Nat → Nat → Int} {S : (Nat → Int) → Prop} {m : Nat} {B : Int} (hm : m < 10) (hB : 0 ≤ B) (hB2 : B < 100000000) (h : zf_stg d S m B) :
    zf_bd (zf_rx d m) (2 * B) ∧ (∀ s, s < 10 → zf_rx d m s s ≤ 0) ∧ zf_cl (zf_rx d m) (m + 1) ∧ ∀ g, zf_sol (zf_rx d m) g ↔ S g := by
  obtain ⟨hb, hd, hc, hS⟩ := h
  refine ⟨zf_bd_rx hm hB hb, fun s hs => ?_, zf_cl_rx hm hB2 hb (by rw [hd m hm]; exact Int.le_refl _) hc, fun g => Iff.trans (zf_sol_rx hm) (hS g)⟩
  have := zf_rx_le d m s s
  have := hd s hs
  omega
/-- one bound more -/
def zf_add (d : Nat → Nat → Int) (l r : Nat) (k : Int) : Nat → Nat → Int := fun a b => if a = l ∧ b = r ∧ k < d a b then k else d a b
theorem zf_tab_add {d d' : Nat → Nat → Int} {S : (Nat → Int) → Prop} {l r : Nat} {k : Int} (hl : l < 10) (hr : r < 10) (hk : -1001 ≤ k ∧ k ≤ 1001) (h : zf_tab d S)
    (e1 : d' l r = (if k < d l r then k else d l r)) (e2 : ∀ a b, a < 10 → b < 10 → ¬ (a = l ∧ b = r) → d' a b = d a b) : zf_tab d' (fun g => S g ∧ g l - g r ≤ k) := by
  obtain ⟨hb, hd, hS⟩ := h
  have le : ∀ a b, a < 10 → b < 10 → d' a b ≤ d a b := fun a b ha hb' => by
    by_cases c : a = l ∧ b = r
    · rw [c.1, c.2, e1]
      split
      · omega
      · exact Int.le_refl _
    · rw [e2 a b ha hb' c]; exact Int.le_refl _
  refine ⟨fun a b ha hb' => ?_, fun s hs => by have := le s s hs hs; have := hd s hs; omega, fun g => ⟨fun h => ⟨(hS g).mp (fun a b ha hb' hab => ?_), ?_⟩, fun h a b ha hb' hab => ?_⟩⟩
  · have z := hb a b ha hb'
    by_cases c : a = l ∧ b = r
    · rw [c.1, c.2] at z ⊢
      rw [e1]
      split
      · omega
      · exact z
    · rw [e2 a b ha hb' c]; exact z
  · have x := le a b ha hb'
    have y := h a b ha hb' (by omega)
    omega
  · have x : d' l r ≤ k := by
      rw [e1]
      split
      · exact Int.le_refl _
      · omega
    have y := h l r hl hr (by omega)
    omega
  · have z := (hS g).mpr h.1 a b ha hb'
    by_cases c : a = l ∧ b = r
    · rw [c.1, c.2] at z hab ⊢
      rw [e1] at hab ⊢
      split
      · exact h.2
      · rename_i q
        rw [if_neg q] at hab
        exact z hab
    · rw [e2 a b ha hb' c] at hab ⊢
      exact z hab
end
section
section
variable {yF yMN yMQ yN yQ yE yLe yLv yLn yIn yPl yBo yFa : Int32} {ki aa ab ac ql qr qb el er eb ce pr po pth sid fl fr fk gu av vy : Nat → Int32}
theorem za_rd {f : Nat → Int32} {n : Nat} (h : n < 2 ^ 31) : f (nI n).toNatClampNeg = f n := by rw [nI_clamp h]
theorem zy_w66_1 {post : SY → Prop} {J12 : Int32 → Int32 → Int32 → (Nat → Int32) → (Nat → Int32) → (Nat → Int32) → (Nat → Int32) → (Nat → Int32) → (Nat → Int32) → (Nat → Int32) → (Nat → Int32) → (Nat → Int32) → (Nat → Int32) → (Nat → Int32) → (Nat → Int32) → (Nat → Int32) → (Nat → Int32) → (Nat → Int32) → (Nat → Int32) → (Nat → Int32) → (Nat → Int32) → (Nat → Int32) → (Nat → Int32) → (Nat → Int32) → Prop} {x1 x4 : Int32} {m k n : Nat} (hk : k < 25)
    (h : J12 (nI (m + 1)) (nI (k + 1)) yBo ki aa ab ac ql qr qb el er eb ce pr po pth (upd sid k 1) fl fr fk gu av vy) :
    wY_walk_66 post J12 x1 (nI m) yF yMN yMQ yN yQ yE yLe yLv yLn yIn yBo yFa ki aa ab ac ql qr qb el er eb ce pr po pth sid fl fr fk gu av vy (n + 1) 1 x4 (nI (k + 1)) := by
  have e : nI (k + 1) - 1 = nI k := nI_pred k
  have g : wY_walk_132 post J12 x1 (nI m) 1 yF yMN yMQ yN yQ yE yLe yLv yLn yIn (nI (k + 1)) yBo yFa ki aa ab ac ql qr qb el er eb ce pr po pth sid fl fr fk gu av vy := by
    unfold wY_walk_132
    rw [e, nI_clamp (by omega)]
    exact br_f za_n10 ⟨vp_in_nI hk (by decide), nm_e (nm_r (nI_1 m) h)⟩
  rw [wY_walk_66]
  exact br_c (fun _ => g) (fun _ => br_f za_n10 g)
theorem zy_w66 {post : SY → Prop} {J12 : Int32 → Int32 → Int32 → (Nat → Int32) → (Nat → Int32) → (Nat → Int32) → (Nat → Int32) → (Nat → Int32) → (Nat → Int32) → (Nat → Int32) → (Nat → Int32) → (Nat → Int32) → (Nat → Int32) → (Nat → Int32) → (Nat → Int32) → (Nat → Int32) → (Nat → Int32) → (Nat → Int32) → (Nat → Int32) → (Nat → Int32) → (Nat → Int32) → (Nat → Int32) → (Nat → Int32) → (Nat → Int32) → Prop} {x1 : Int32} {m : Nat} : ∀ (l : List (Nat × Bool)) (n : Nat), l.length + 1 < n → l.length ≤ 25 → zw_R pth sid l → (∀ x, x ∈ l → x.1 < 24) →
    (zw_pop ki l = [] → J12 (nI (m + 1)) (nI 0) (yBo + 1) ki aa ab ac ql qr qb el er eb ce pr po pth sid fl fr fk gu av vy) →
    (∀ p r, zw_pop ki l = (p, true) :: r → J12 (nI (m + 1)) (nI (r.length + 1)) yBo ki aa ab ac ql qr qb el er eb ce pr po pth (upd sid r.length 1) fl fr fk gu av vy) →
    wY_walk_66 post J12 x1 (nI m) yF yMN yMQ yN yQ yE yLe yLv yLn yIn yBo yFa ki aa ab ac ql qr qb el er eb ce pr po pth sid fl fr fk gu av vy n 0 (nI l.length) (nI l.length) := by
  intro l
  induction l with
  | nil =>
    intro n hn _ _ _ h1 _
    obtain ⟨n, rfl⟩ : ∃ c, n = c + 1 := ⟨n - 1, by omega⟩
    rw [wY_walk_66]
    refine pk_le 0 0 (fun _ => ?_) (fun h => absurd h (Nat.lt_irrefl 0))
    exact br_t rfl (nm_e (nm_r (nI_1 m) (h1 rfl)))
  | cons a r ih =>
    obtain ⟨p, s⟩ := a
    intro n hn hl hR hx h1 h2
    have hn' : r.length + 1 + 1 < n := hn
    have hl' : r.length + 1 ≤ 25 := hl
    obtain ⟨n, rfl⟩ : ∃ c, n = c + 1 := ⟨n - 1, by omega⟩
    have hp : p < 24 := hx (p, s) (List.Mem.head _)
    have e : nI ((p, s) :: r).length - 1 = nI r.length := nI_pred r.length
    have e2 : nI ((p, s) :: r).length + (-1) = nI r.length := pk_m1 r.length
    have go : ¬ (ki p = 6 ∧ s = false) → wY_walk_110 post J12 (wY_walk_66 post J12 x1 (nI m) yF yMN yMQ yN yQ yE yLe yLv yLn yIn yBo yFa ki aa ab ac ql qr qb el er eb ce pr po pth sid fl fr fk gu av vy n) x1 (nI m) (nI ((p, s) :: r).length) yF yMN yMQ yN yQ yE yLe yLv yLn yIn (nI ((p, s) :: r).length) yBo yFa ki aa ab ac ql qr qb el er eb ce pr po pth sid fl fr fk gu av vy := fun c => by
      rw [zw_pop_f c] at h1 h2
      unfold wY_walk_110 wY_walk_111
      exact br_t rfl (nm_r e (nm_r e2 (ih n (by omega) (by omega) hR.2.2 (fun x hx' => hx x (List.Mem.tail _ hx')) h1 h2)))
    rw [wY_walk_66]
    dsimp only
    rw [e, nI_clamp (show r.length < 2 ^ 31 by omega), hR.1, nI_clamp (show p < 2 ^ 31 by omega), hR.2.1]
    refine pk_le (r.length + 1) 0 (fun h => absurd h (by omega)) (fun _ => br_t rfl ⟨vp_in_nI (by omega) (by decide), vp_in_nI hp (by decide), ?_⟩)
    by_cases c6 : ki p = 6
    · refine br_t c6 ⟨vp_in_nI (by omega) (by decide), ?_⟩
      cases s with
      | false =>
        refine br_t rfl ?_
        unfold wY_walk_111
        refine br_f za_n10 (nm_r e2 ?_)
        obtain ⟨n, rfl⟩ : ∃ c, n = c + 1 := ⟨n - 1, by omega⟩
        exact zy_w66_1 (by omega) (h2 p r (zw_pop_t ⟨c6, rfl⟩))
      | true => exact br_f za_n10 (go (fun z => (Bool.noConfusion z.2)))
    · exact br_f c6 (go (fun z => c6 z.1))
theorem zy_w12 {post : SY → Prop} {N : Nat} (hN : N ≤ 24) 
    (h : ∀ pth sid, zw_R pth sid (zw_w ki N).1 → post (yF, yMN, yMQ, yN, yQ, yE, yLe, yLv, yLn, yIn, nI (zw_w ki N).1.length, nI (zw_w ki N).2, yFa, ki, aa, ab, ac, ql, qr, qb, el, er, eb, ce, pr, po, pth, sid, fl, fr, fk, gu, av, vy)) : ∀ (d m n : Nat) (pth sid : Nat → Int32), m + d = N → d < n → zw_R pth sid (zw_w ki m).1 →
    wY_walk_12 post (nI N) yF yMN yMQ yN yQ yE yLe yLv yLn yIn yFa n (nI m) (nI (zw_w ki m).1.length) (nI (zw_w ki m).2) ki aa ab ac ql qr qb el er eb ce pr po pth sid fl fr fk gu av vy := by
  intro d
  induction d with
  | zero =>
    intro m n pth sid hm hn hR
    obtain ⟨n, rfl⟩ : ∃ c, n = c + 1 := ⟨n - 1, by omega⟩
    have hm' : m = N := hm
    subst hm'
    rw [wY_walk_12]
    exact pk_le m m (fun _ => h pth sid hR) (fun z => absurd z (Nat.lt_irrefl m))
  | succ d ih =>
    intro m n pth sid hm hn hR
    obtain ⟨n, rfl⟩ : ∃ c, n = c + 1 := ⟨n - 1, by omega⟩
    have hL := zw_len (ki := ki) m
    have hL2 : (zw_w ki m).1.length < 2 ^ 31 := by omega
    rw [wY_walk_12]
    dsimp only
    rw [nI_clamp hL2, nI_clamp (show m < 2 ^ 31 by omega)]
    refine pk_le N m (fun z => absurd z (by omega)) (fun _ => ⟨vp_in_nI (by omega) (by decide), nm_e ⟨vp_in_nI (by omega) (by decide), nm_e (nm_r (nI_1 _) ⟨vp_in_nI (by omega) (by decide), ?_⟩)⟩⟩)
    have hR' := zw_R_push (m := m) hR
    by_cases h7 : ki m = 7
    · refine br_t h7 ⟨((m, false) :: (zw_w ki m).1).length + 2, ?_⟩
      have c : ¬ (ki m = 6 ∧ false = false) := fun z => absurd (z.1.symm.trans h7) (by decide)
      refine zy_w66 ((m, false) :: (zw_w ki m).1) _ (by omega) (by show (zw_w ki m).1.length + 1 ≤ 25; omega) hR' (fun x hx => ?_) (fun e => ?_) (fun p r e => ?_)
      · cases hx with
        | head => show m < 24; omega
        | tail _ hx => have := zw_lt m x hx; omega
      · rw [zw_pop_f c] at e
        have i := ih (m + 1) n (upd pth (zw_w ki m).1.length (nI m)) (upd sid (zw_w ki m).1.length 0) (by omega) (by omega)
        rw [zw_7e h7 e] at i
        rw [nI_1]
        exact i trivial
      · rw [zw_pop_f c] at e
        have ne : zw_pop ki (zw_w ki m).1 ≠ [] := by rw [e]; exact List.cons_ne_nil _ _
        have i := ih (m + 1) n (upd pth (zw_w ki m).1.length (nI m)) (upd (upd sid (zw_w ki m).1.length 0) r.length 1) (by omega) (by omega)
        rw [zw_7n h7 ne, e] at i
        exact i (zw_R_pop _ p r hR'.2.2 e)
    · refine br_f h7 (nm_r (nI_1 m) ?_)
      have i := ih (m + 1) n (upd pth (zw_w ki m).1.length (nI m)) (upd sid (zw_w ki m).1.length 0) (by omega) (by omega)
      rw [zw_n h7] at i
      exact i hR'
theorem zy_walk {post : SY → Prop} {N : Nat} (hN : N ≤ 24)
    (h : ∀ pth sid, zw_R pth sid (zw_w ki N).1 → post (yF, yMN, yMQ, yN, yQ, yE, yLe, yLv, yLn, yIn, nI (zw_w ki N).1.length, nI (zw_w ki N).2, yFa, ki, aa, ab, ac, ql, qr, qb, el, er, eb, ce, pr, po, pth, sid, fl, fr, fk, gu, av, vy)) : wpY_walk post (yF, yMN, yMQ, yN, yQ, yE, yLe, yLv, yLn, yIn, yPl, yBo, yFa, ki, aa, ab, ac, ql, qr, qb, el, er, eb, ce, pr, po, pth, sid, fl, fr, fk, gu, av, vy) (nI N) :=
  ⟨N + 1, zy_w12 hN h N 0 (N + 1) pth sid (by omega) (by omega) trivial⟩
theorem zy_binds {post : Int32 → Prop} {k : Int32} (h1 : zw_i k = 1 → post 1) (h0 : zw_i k = 0 → post 0) : wpY_binds post (yF, yMN, yMQ, yN, yQ, yE, yLe, yLv, yLn, yIn, yPl, yBo, yFa, ki, aa, ab, ac, ql, qr, qb, el, er, eb, ce, pr, po, pth, sid, fl, fr, fk, gu, av, vy) k := by
  unfold wpY_binds
  exact br_c (fun h => h0 (zw_i0 (Or.inl h))) (fun h => br_c (fun h' => h0 (zw_i0 (Or.inr h'))) (fun h' => h1 (zw_i1 h h')))
theorem zy_sc9 {post : Int32 → SY → Prop} {l : List (Nat × Bool)} {b N : Nat} (hR : zw_R pth sid l) (hC : zw_C ki b l N) (hN : N ≤ 24) (hl : l.length ≤ 24)
    (h : post (nI (4 + zw_nb ki l)) (yF, yMN, yMQ, yN, yQ, yE, yLe, yLv, yLn, yIn, nI l.length, yBo, yFa, ki, aa, ab, ac, ql, qr, qb, el, er, eb, ce, pr, po, pth, sid, fl, fr, fk, gu, av, vy)) : ∀ (d i n : Nat), i + d = l.length → d < n →
    wY_scopeAt_9 post yF yMN yMQ yN yQ yE yLe yLv yLn yIn (nI l.length) yBo yFa ki aa ab ac ql qr qb el er eb ce pr po pth sid fl fr fk gu av vy n (nI (4 + zw_nb ki (zw_t l i))) (nI i) := by
  intro d
  induction d with
  | zero =>
    intro i n hi hn
    obtain ⟨n, rfl⟩ : ∃ c, n = c + 1 := ⟨n - 1, by omega⟩
    have hi' : i = l.length := hi
    subst hi'
    rw [wY_scopeAt_9]
    exact pk_le l.length l.length (fun _ => by rw [zw_t_all]; exact h) (fun z => absurd z (Nat.lt_irrefl _))
  | succ d ih =>
    intro i n hi hn
    obtain ⟨n, rfl⟩ : ∃ c, n = c + 1 := ⟨n - 1, by omega⟩
    obtain ⟨p, s, h1, h2, h3, h4, h5, h6, h7⟩ := zw_t_s l N i hR hC (by omega)
    rw [wY_scopeAt_9]
    dsimp only
    rw [nI_clamp (show i < 2 ^ 31 by omega), h1, nI_clamp (show p < 2 ^ 31 by omega)]
    refine pk_le l.length i (fun z => absurd z (by omega)) (fun _ => ⟨vp_in_nI (by omega) (by decide), vp_in_nI (by omega) (by decide), ?_⟩)
    have i' := ih (i + 1) n (by omega) (by omega)
    rw [h7, zw_nb] at i'
    refine zy_binds (fun e => ?_) (fun e => ?_)
    · rw [e] at i'
      exact br_f za_n10 (nm_r (nI_1 _) (nm_r (nI_1 i) i'))
    · rw [e] at i'
      exact br_t rfl (nm_r (nI_1 i) i')
theorem zy_scopeAt {post : Int32 → SY → Prop} {N : Nat} (hN : N ≤ 24)
    (h : ∀ pth sid, zw_R pth sid (zw_w ki N).1 → post (nI (zw_sc ki N)) (yF, yMN, yMQ, yN, yQ, yE, yLe, yLv, yLn, yIn, nI (zw_w ki N).1.length, nI (zw_w ki N).2, yFa, ki, aa, ab, ac, ql, qr, qb, el, er, eb, ce, pr, po, pth, sid, fl, fr, fk, gu, av, vy)) : wpY_scopeAt post (yF, yMN, yMQ, yN, yQ, yE, yLe, yLv, yLn, yIn, yPl, yBo, yFa, ki, aa, ab, ac, ql, qr, qb, el, er, eb, ce, pr, po, pth, sid, fl, fr, fk, gu, av, vy) (nI N) := by
  unfold wpY_scopeAt
  refine zy_walk hN (fun pth sid hR => ⟨(zw_w ki N).1.length + 1, ?_⟩)
  have hL := zw_len (ki := ki) N
  have i := zy_sc9 (post := post) hR (zw_chain ki N) hN (by omega) (h pth sid hR) (zw_w ki N).1.length 0 ((zw_w ki N).1.length + 1) (by omega) (by omega)
  rw [zw_t_0] at i
  exact i
theorem zy_complete {post : Int32 → SY → Prop} {N F : Nat} (hN : N ≤ 24) (hF : F ≤ 3)
    (h1 : (zw_w ki N).2 = F → ∀ pth sid, zw_R pth sid (zw_w ki N).1 → post 1 (nI F, yMN, yMQ, nI N, yQ, yE, yLe, yLv, yLn, yIn, nI (zw_w ki N).1.length, nI (zw_w ki N).2, yFa, ki, aa, ab, ac, ql, qr, qb, el, er, eb, ce, pr, po, pth, sid, fl, fr, fk, gu, av, vy))
    (h0 : (zw_w ki N).2 ≠ F → ∀ pth sid, zw_R pth sid (zw_w ki N).1 → post 0 (nI F, yMN, yMQ, nI N, yQ, yE, yLe, yLv, yLn, yIn, nI (zw_w ki N).1.length, nI (zw_w ki N).2, yFa, ki, aa, ab, ac, ql, qr, qb, el, er, eb, ce, pr, po, pth, sid, fl, fr, fk, gu, av, vy)) :
    wpY_complete post (nI F, yMN, yMQ, nI N, yQ, yE, yLe, yLv, yLn, yIn, yPl, yBo, yFa, ki, aa, ab, ac, ql, qr, qb, el, er, eb, ce, pr, po, pth, sid, fl, fr, fk, gu, av, vy) := by
  unfold wpY_complete
  have := zw_b2_le (ki := ki) N
  exact zy_walk hN (fun pth sid hR => pk_eq (zw_w ki N).2 F (fun e => h1 e pth sid hR) (fun e => h0 e pth sid hR))
theorem zy_bs2 {post : Int32 → SY → Prop} {N f n0 : Nat} (hN : N ≤ 24) (hf : f ≤ 24) (h0 : n0 < N) (e0 : (zw_w ki n0).2 = f) (hm : ∀ m, m < n0 → (zw_w ki m).2 ≠ f)
    (h : ∀ yPl yBo pth sid, post (nI n0) (yF, yMN, yMQ, nI N, yQ, yE, yLe, yLv, yLn, yIn, yPl, yBo, yFa, ki, aa, ab, ac, ql, qr, qb, el, er, eb, ce, pr, po, pth, sid, fl, fr, fk, gu, av, vy)) : ∀ (d i n : Nat) (yPl yBo : Int32) (pth sid : Nat → Int32), i + d = n0 → d < n →
    wY_bodyStart_2 post (nI f) n (nI i) yF yMN yMQ (nI N) yQ yE yLe yLv yLn yIn yPl yBo yFa ki aa ab ac ql qr qb el er eb ce pr po pth sid fl fr fk gu av vy := by
  intro d
  induction d with
  | zero =>
    intro i n yPl yBo pth sid hi hn
    obtain ⟨n, rfl⟩ : ∃ c, n = c + 1 := ⟨n - 1, by omega⟩
    have hi' : i = n0 := hi
    subst hi'
    have := zw_b2_le (ki := ki) i
    rw [wY_bodyStart_2]
    refine pk_le N i (fun z => absurd z (by omega)) (fun _ => zy_walk (by omega) (fun pth sid hR => ?_))
    exact pk_eq (zw_w ki i).2 f (fun _ => h _ _ pth sid) (fun z => absurd e0 z)
  | succ d ih =>
    intro i n yPl yBo pth sid hi hn
    obtain ⟨n, rfl⟩ : ∃ c, n = c + 1 := ⟨n - 1, by omega⟩
    have := zw_b2_le (ki := ki) i
    rw [wY_bodyStart_2]
    refine pk_le N i (fun z => absurd z (by omega)) (fun _ => zy_walk (by omega) (fun pth sid hR => ?_))
    exact pk_eq (zw_w ki i).2 f (fun z => absurd z (hm i (by omega))) (fun _ => nm_r (nI_1 i) (ih (i + 1) n _ _ pth sid (by omega) (by omega)))
theorem zy_bodyStart {post : Int32 → SY → Prop} {N f n0 : Nat} (hN : N ≤ 24) (hf : f ≤ 24) (h0 : n0 < N) (e0 : (zw_w ki n0).2 = f) (hm : ∀ m, m < n0 → (zw_w ki m).2 ≠ f)
    (h : ∀ yPl yBo pth sid, post (nI n0) (yF, yMN, yMQ, nI N, yQ, yE, yLe, yLv, yLn, yIn, yPl, yBo, yFa, ki, aa, ab, ac, ql, qr, qb, el, er, eb, ce, pr, po, pth, sid, fl, fr, fk, gu, av, vy)) : wpY_bodyStart post (yF, yMN, yMQ, nI N, yQ, yE, yLe, yLv, yLn, yIn, yPl, yBo, yFa, ki, aa, ab, ac, ql, qr, qb, el, er, eb, ce, pr, po, pth, sid, fl, fr, fk, gu, av, vy) (nI f) :=
  ⟨n0 + 1, zy_bs2 hN hf h0 e0 hm h n0 0 (n0 + 1) yPl yBo pth sid (by omega) (by omega)⟩
/-- is the place m the second branch of p -/
def zw_sec (ki : Nat → Int32) (p m : Nat) : Prop := ∃ r, (zw_w ki m).1 = (p, true) :: r
theorem zy_sb4 {post : Int32 → SY → Prop} {N p : Nat} (hN : N ≤ 24) (hp : p < N) {m0 : Nat} (hm0 : m0 < N) (hs : zw_sec ki p m0)
    (h : ∀ m, m < N → zw_sec ki p m → ∀ yPl yBo pth sid, post (nI m) (yF, yMN, yMQ, nI N, yQ, yE, yLe, yLv, yLn, yIn, yPl, yBo, yFa, ki, aa, ab, ac, ql, qr, qb, el, er, eb, ce, pr, po, pth, sid, fl, fr, fk, gu, av, vy)) : ∀ (d i n : Nat) (yPl yBo : Int32) (pth sid : Nat → Int32), i + d = m0 → d < n →
    wY_secondBranch_4 post (nI p) n (nI i) yF yMN yMQ (nI N) yQ yE yLe yLv yLn yIn yPl yBo yFa ki aa ab ac ql qr qb el er eb ce pr po pth sid fl fr fk gu av vy := by
  intro d
  induction d with
  | zero =>
    intro i n yPl yBo pth sid hi hn
    obtain ⟨n, rfl⟩ : ∃ c, n = c + 1 := ⟨n - 1, by omega⟩
    have hi' : i = m0 := hi
    subst hi'
    obtain ⟨r, er⟩ := hs
    have hL := zw_len (ki := ki) i
    rw [er] at hL
    have hL' : r.length + 1 ≤ i := hL
    rw [wY_secondBranch_4]
    refine pk_le N i (fun z => absurd z (by omega)) (fun _ => zy_walk (by omega) (fun pth sid hR => ?_))
    have hq := h i hm0 ⟨r, er⟩ (nI (zw_w ki i).1.length) (nI (zw_w ki i).2) pth sid
    rw [er] at hR hq ⊢
    dsimp only
    have e : nI ((p, true) :: r).length - 1 = nI r.length := nI_pred r.length
    rw [e, nI_clamp (show r.length < 2 ^ 31 by omega), hR.1, hR.2.1]
    exact pk_le (r.length + 1) 0 (fun z => absurd z (by omega)) (fun _ => ⟨vp_in_nI (by omega) (by decide), br_t rfl ⟨vp_in_nI (by omega) (by decide), br_t rfl hq⟩⟩)
  | succ d ih =>
    intro i n yPl yBo pth sid hi hn
    obtain ⟨n, rfl⟩ : ∃ c, n = c + 1 := ⟨n - 1, by omega⟩
    have hL := zw_len (ki := ki) i
    rw [wY_secondBranch_4]
    refine pk_le N i (fun z => absurd z (by omega)) (fun _ => zy_walk (by omega) (fun pth sid hR => ?_))
    have i' := fun yPl yBo => ih (i + 1) n yPl yBo pth sid (by omega) (by omega)
    have i' := i' (nI (zw_w ki i).1.length) (nI (zw_w ki i).2)
    have hq := fun z => h i (by omega) z (nI (zw_w ki i).1.length) (nI (zw_w ki i).2) pth sid
    have hlt := zw_lt (ki := ki) i
    have hsec : ∀ q r, (zw_w ki i).1 = (q, true) :: r → q = p → zw_sec ki p i := fun q r e1 e2 => ⟨r, by rw [e1, e2]⟩
    generalize (zw_w ki i).1 = l at hR i' hq hL hlt hsec ⊢
    cases l with
    | nil => exact pk_le 0 0 (fun _ => nm_r (nI_1 i) i') (fun z => absurd z (Nat.lt_irrefl 0))
    | cons a r =>
      obtain ⟨q, s⟩ := a
      have hL' : r.length + 1 ≤ i := hL
      have hq24 : q < 24 := by have := hlt (q, s) (List.Mem.head _); omega
      dsimp only
      have e : nI ((q, s) :: r).length - 1 = nI r.length := nI_pred r.length
      rw [e, nI_clamp (show r.length < 2 ^ 31 by omega), hR.1, hR.2.1]
      refine pk_le (r.length + 1) 0 (fun z => absurd z (by omega)) (fun _ => ⟨vp_in_nI (by omega) (by decide), pk_eq q p (fun eq => ⟨vp_in_nI (by omega) (by decide), ?_⟩) (fun _ => nm_r (nI_1 i) i')⟩)
      cases s with
      | false => exact br_f (by decide) (nm_r (nI_1 i) i')
      | true => exact br_t rfl (hq (hsec q r rfl eq))
theorem zy_secondBranch {post : Int32 → SY → Prop} {N p : Nat} (hN : N ≤ 24) (hp : p < N) {m0 : Nat} (hm0 : m0 < N) (hpm : p < m0) (hs : zw_sec ki p m0)
    (h : ∀ m, m < N → zw_sec ki p m → ∀ yPl yBo pth sid, post (nI m) (yF, yMN, yMQ, nI N, yQ, yE, yLe, yLv, yLn, yIn, yPl, yBo, yFa, ki, aa, ab, ac, ql, qr, qb, el, er, eb, ce, pr, po, pth, sid, fl, fr, fk, gu, av, vy)) : wpY_secondBranch post (yF, yMN, yMQ, nI N, yQ, yE, yLe, yLv, yLn, yIn, yPl, yBo, yFa, ki, aa, ab, ac, ql, qr, qb, el, er, eb, ce, pr, po, pth, sid, fl, fr, fk, gu, av, vy) (nI p) := by
  unfold wpY_secondBranch
  exact nm_r (nI_1 p) ⟨m0 - (p + 1) + 1, zy_sb4 hN hp hm0 hs h (m0 - (p + 1)) (p + 1) _ yPl yBo pth sid (by omega) (by omega)⟩
end
end
section
section
variable {yF yMN yMQ yN yQ yE yLe yLv yLn yIn yPl yBo yFa : Int32} {ki aa ab ac ql qr qb el er eb ce pr po pth sid fl fr fk gu av vy : Nat → Int32}
theorem za_inlt {x : Int32} {n : Nat} (h : vp_in x n) (hn : n < 2 ^ 31) : x.toNatClampNeg < n := by
  obtain ⟨j, hj, rfl⟩ := vp_in_of h hn
  rw [nI_clamp (by omega)]; exact hj
/-- slot x at most k above slot y -/
def zw_Z (g : Nat → Int) (x y : Int32) (k : Int) : Prop := g x.toNatClampNeg - g y.toNatClampNeg ≤ k
/-- the reference's list of m facts stands for S -/
def zb_fl (m : Nat) (fl fr fk : Nat → Int32) (S : (Nat → Int) → Prop) : Prop :=
  (∀ i, i < m → vp_in (fl i) 10 ∧ vp_in (fr i) 10 ∧ -1001 ≤ (fk i).toInt ∧ (fk i).toInt ≤ 1001) ∧
  ∀ g, zb_sol m (fun i => (fl i).toNatClampNeg) (fun i => (fr i).toNatClampNeg) (fun i => (fk i).toInt) g ↔ S g
theorem zb_fl_0 : zb_fl 0 fl fr fk (fun _ => True) :=
  ⟨fun i hi => absurd hi (Nat.not_lt_zero i), fun g => ⟨fun _ => trivial, fun _ i hi => absurd hi (Nat.not_lt_zero i)⟩⟩
theorem zb_fl_iff {m : Nat} {S S' : (Nat → Int) → Prop} (h : zb_fl m fl fr fk S) (e : ∀ g, S g ↔ S' g) : zb_fl m fl fr fk S' :=
  ⟨h.1, fun g => (h.2 g).trans (e g)⟩
theorem zb_fl_cg {m : Nat} {S : (Nat → Int) → Prop} {fl' fr' fk' : Nat → Int32} (h : zb_fl m fl fr fk S) (e : ∀ i, i < m → fl' i = fl i ∧ fr' i = fr i ∧ fk' i = fk i) : zb_fl m fl' fr' fk' S := by
  refine ⟨fun i hi => ?_, fun g => Iff.trans ⟨fun z i hi => ?_, fun z i hi => ?_⟩ (h.2 g)⟩
  · obtain ⟨a, b, c⟩ := e i hi
    rw [a, b, c]; exact h.1 i hi
  · obtain ⟨a, b, c⟩ := e i hi
    have y := z i hi
    dsimp only at y ⊢
    rw [a, b, c] at y; exact y
  · obtain ⟨a, b, c⟩ := e i hi
    have y := z i hi
    dsimp only at y ⊢
    rw [a, b, c]; exact y
theorem zb_fl_old {m : Nat} {S : (Nat → Int) → Prop} {x y k : Int32} (h : zb_fl m fl fr fk S) : zb_fl m (upd fl m x) (upd fr m y) (upd fk m k) S :=
  zb_fl_cg h (fun i hi => ⟨pk_un (by omega), pk_un (by omega), pk_un (by omega)⟩)
theorem zb_fl_add {m : Nat} {S : (Nat → Int) → Prop} {x y k : Int32} (h : zb_fl m fl fr fk S) (hx : vp_in x 10) (hy : vp_in y 10) (hk : -1001 ≤ k.toInt ∧ k.toInt ≤ 1001) :
    zb_fl (m + 1) (upd fl m x) (upd fr m y) (upd fk m k) (fun g => S g ∧ zw_Z g x y k.toInt) := by
  have o := zb_fl_old (x := x) (y := y) (k := k) h
  have last : ∀ g : Nat → Int, (g (upd fl m x m).toNatClampNeg - g (upd fr m y m).toNatClampNeg ≤ (upd fk m k m).toInt) = zw_Z g x y k.toInt := fun g => by
    rw [pk_us, pk_us, pk_us]; rfl
  refine ⟨fun i hi => ?_, fun g => ⟨fun z => ⟨(o.2 g).mp (fun i hi => z i (by omega)), ?_⟩, fun z i hi => ?_⟩⟩
  · by_cases e : i = m
    · rw [e, pk_us, pk_us, pk_us]; exact ⟨hx, hy, hk⟩
    · exact o.1 i (by omega)
  · rw [← last g]; exact z m (Nat.lt_succ_self m)
  · by_cases e : i = m
    · subst e
      show g (upd fl i x i).toNatClampNeg - g (upd fr i y i).toNatClampNeg ≤ (upd fk i k i).toInt
      rw [last g]; exact z.2
    · exact (o.2 g).mpr z.1 i (by omega)
theorem zy_add {post : SY → Prop} {m : Nat} {x y k : Int32} (hm : m < 256) (h : post (yF, yMN, yMQ, yN, yQ, yE, yLe, yLv, yLn, yIn, yPl, yBo, nI (m + 1), ki, aa, ab, ac, ql, qr, qb, el, er, eb, ce, pr, po, pth, sid, upd fl m x, upd fr m y, upd fk m k, gu, av, vy)) :
    wpY_add post (yF, yMN, yMQ, yN, yQ, yE, yLe, yLv, yLn, yIn, yPl, yBo, nI m, ki, aa, ab, ac, ql, qr, qb, el, er, eb, ce, pr, po, pth, sid, fl, fr, fk, gu, av, vy) x y k := by
  unfold wpY_add
  dsimp only
  rw [nI_clamp (by omega)]
  exact pk_lt m 256 (fun _ => ⟨vp_in_nI hm (by decide), nm_e ⟨vp_in_nI hm (by decide), nm_e ⟨vp_in_nI hm (by decide), nm_e (nm_r (nI_1 m) h)⟩⟩⟩) (fun z => absurd z (by omega))
theorem zy_f58 {post : Int32 → SY → Prop} {J40 : Int32 → Int32 → (Nat → Int32) → (Nat → Int32) → (Nat → Int32) → (Nat → Int32) → (Nat → Int32) → (Nat → Int32) → (Nat → Int32) → (Nat → Int32) → (Nat → Int32) → (Nat → Int32) → (Nat → Int32) → (Nat → Int32) → (Nat → Int32) → (Nat → Int32) → (Nat → Int32) → (Nat → Int32) → (Nat → Int32) → (Nat → Int32) → (Nat → Int32) → (Nat → Int32) → (Nat → Int32) → Prop} {M r : Nat} {h0 : Nat → Int} {B : Int} (hM : M ≤ 256)
    (hf : ∀ i, i < M → vp_in (fl i) 10 ∧ vp_in (fr i) 10 ∧ -1001 ≤ (fk i).toInt ∧ (fk i).toInt ≤ 1001) (hB : 0 ≤ B) (hB2 : B ≤ 4000000)
    (h : ∀ x4 gu, zb_in M (fun i => (fl i).toNatClampNeg) (fun i => (fr i).toNatClampNeg) (fun i => (fk i).toInt) h0 M (fun s => (gu s).toInt) x4 →
      (∀ s, s < 10 → -(B + 1001 * M) ≤ (gu s).toInt ∧ (gu s).toInt ≤ 0) → J40 x4 (nI (r + 1)) ki aa ab ac ql qr qb el er eb ce pr po pth sid fl fr fk gu av vy) : ∀ (d i n : Nat) (x4 : Int32) (gu : Nat → Int32), i + d = M → d < n →
    zb_in M (fun i => (fl i).toNatClampNeg) (fun i => (fr i).toNatClampNeg) (fun i => (fk i).toInt) h0 i (fun s => (gu s).toInt) x4 →
    (∀ s, s < 10 → -(B + 1001 * i) ≤ (gu s).toInt ∧ (gu s).toInt ≤ 0) → wY_forces_58 post J40 (nI r) yF yMN yMQ yN yQ yE yLe yLv yLn yIn yPl yBo (nI M) n x4 (nI i) ki aa ab ac ql qr qb el er eb ce pr po pth sid fl fr fk gu av vy := by
  have hLR : ∀ i, i < M → (fl i).toNatClampNeg < 10 ∧ (fr i).toNatClampNeg < 10 := fun i hi => ⟨za_inlt (hf i hi).1 (by decide), za_inlt (hf i hi).2.1 (by decide)⟩
  intro d
  induction d with
  | zero =>
    intro i n x4 gu hi hn I b
    obtain ⟨n, rfl⟩ : ∃ c, n = c + 1 := ⟨n - 1, by omega⟩
    have hi' : i = M := hi
    subst hi'
    rw [wY_forces_58]
    exact pk_le i i (fun _ => nm_r (nI_1 r) (h x4 gu I b)) (fun z => absurd z (Nat.lt_irrefl i))
  | succ d ih =>
    intro i n x4 gu hi hn I b
    obtain ⟨n, rfl⟩ : ∃ c, n = c + 1 := ⟨n - 1, by omega⟩
    have hiM : i < M := by omega
    obtain ⟨f1, f2, f3, f4⟩ := hf i hiM
    obtain ⟨l1, l2⟩ := hLR i hiM
    obtain ⟨a1, a2⟩ := b _ l1
    obtain ⟨b1, b2⟩ := b _ l2
    have hin : vp_in (nI i) 256 := vp_in_nI (by omega) (by decide)
    rw [wY_forces_58]
    dsimp only
    rw [nI_clamp (show i < 2 ^ 31 by omega)]
    have es : (gu (fl i).toNatClampNeg - gu (fr i).toNatClampNeg).toInt = (gu (fl i).toNatClampNeg).toInt - (gu (fr i).toNatClampNeg).toInt := za_su (by omega) (by omega)
    have ea : (gu (fr i).toNatClampNeg + fk i).toInt = (gu (fr i).toNatClampNeg).toInt + (fk i).toInt := za_ad (by omega) (by omega)
    refine pk_le M i (fun z => absurd z (by omega)) (fun _ => ⟨hin, f1, hin, f2, hin, za_le (fun c => ?_) (fun c => ?_)⟩)
    · rw [es] at c
      exact nm_r (nI_1 i) (ih (i + 1) n x4 gu (by omega) (by omega) (zb_in_k hLR hiM I c) (fun s hs => by have := b s hs; omega))
    · rw [es] at c
      refine ⟨hin, hin, f2, hin, f1, nm_e (nm_r (nI_1 i) (ih (i + 1) n 1 _ (by omega) (by omega) (zb_in_c hLR hiM I c ?_ ?_) (fun s hs => ?_)))⟩
      · rw [pk_us]; exact ea
      · intro s hs
        rw [pk_un hs]
      · by_cases e : s = (fl i).toNatClampNeg
        · rw [e, pk_us, ea]; omega
        · rw [pk_un e]; have := b s hs; omega
theorem zy_f40 {post : Int32 → SY → Prop} {m : Nat} (hm : m < 256)
    (hf : ∀ i, i < m + 1 → vp_in (fl i) 10 ∧ vp_in (fr i) 10 ∧ -1001 ≤ (fk i).toInt ∧ (fk i).toInt ≤ 1001)
    (h : ∀ gu, post (za_b (¬ ∃ g, zb_sol (m + 1) (fun i => (fl i).toNatClampNeg) (fun i => (fr i).toNatClampNeg) (fun i => (fk i).toInt) g)) (yF, yMN, yMQ, yN, yQ, yE, yLe, yLv, yLn, yIn, yPl, yBo, nI m, ki, aa, ab, ac, ql, qr, qb, el, er, eb, ce, pr, po, pth, sid, fl, fr, fk, gu, av, vy)) :
    ∀ (d r n : Nat) (x4 : Int32) (gu : Nat → Int32), r + d = 12 → d < n →
    zb_out (m + 1) (fun i => (fl i).toNatClampNeg) (fun i => (fr i).toNatClampNeg) (fun i => (fk i).toInt) r (fun s => (gu s).toInt) x4 →
    (∀ s, s < 10 → -(257000 * (r : Int)) ≤ (gu s).toInt ∧ (gu s).toInt ≤ 0) → wY_forces_40 post yF yMN yMQ yN yQ yE yLe yLv yLn yIn yPl yBo (nI (m + 1)) n x4 (nI r) ki aa ab ac ql qr qb el er eb ce pr po pth sid fl fr fk gu av vy := by
  have hLR : ∀ i, i < m + 1 → (fl i).toNatClampNeg < 10 ∧ (fr i).toNatClampNeg < 10 := fun i hi => ⟨za_inlt (hf i hi).1 (by decide), za_inlt (hf i hi).2.1 (by decide)⟩
  have fin : ∀ (x4 : Int32) (gu : Nat → Int32), x4 = za_b (¬ ∃ g, zb_sol (m + 1) (fun i => (fl i).toNatClampNeg) (fun i => (fr i).toNatClampNeg) (fun i => (fk i).toInt) g) → wY_forces_149 post x4 yF yMN yMQ yN yQ yE yLe yLv yLn yIn yPl yBo (nI (m + 1)) ki aa ab ac ql qr qb el er eb ce pr po pth sid fl fr fk gu av vy := fun x4 gu e => by
    unfold wY_forces_149
    rw [e]
    exact nm_r (nI_pred m) ⟨za_nar _, h gu⟩
  intro d
  induction d with
  | zero =>
    intro r n x4 gu hr hn O b
    obtain ⟨n, rfl⟩ : ∃ c, n = c + 1 := ⟨n - 1, by omega⟩
    rw [wY_forces_40]
    exact pk_le 12 r (fun _ => fin x4 gu (zb_end O (Or.inr (by omega)))) (fun z => absurd z (by omega))
  | succ d ih =>
    intro r n x4 gu hr hn O b
    obtain ⟨n, rfl⟩ : ∃ c, n = c + 1 := ⟨n - 1, by omega⟩
    rw [wY_forces_40]
    refine pk_le 12 r (fun z => absurd z (by omega)) (fun _ => br_c (fun e => fin x4 gu (zb_end O (Or.inl e))) (fun e => ⟨m + 2, ?_⟩))
    have e1 : x4 = 1 := by
      obtain ⟨_, _, ⟨z, _⟩ | ⟨z, _⟩⟩ := O
      · exact absurd z e
      · exact z
    subst e1
    refine zy_f58 (B := 257000 * (r : Int)) (by omega) hf (by omega) (by omega) (fun x4 gu I b' => ?_) (m + 1) 0 (m + 2) 0 gu (by omega) (by omega) zb_in_0 (fun s hs => by have := b s hs; omega)
    exact ih (r + 1) n x4 gu (by omega) (by omega) (zb_out_s hLR O I) (fun s hs => by have := b' s hs; omega)
theorem zy_f13 {post : Int32 → SY → Prop} (h : ∀ gu : Nat → Int32, (∀ s, s < 10 → gu s = 0) → ∃ n, wY_forces_40 post yF yMN yMQ yN yQ yE yLe yLv yLn yIn yPl yBo yFa n 1 0 ki aa ab ac ql qr qb el er eb ce pr po pth sid fl fr fk gu av vy) : ∀ (d i n : Nat) (gu : Nat → Int32), i + d = 10 → d < n → (∀ s, s < i → gu s = 0) →
    wY_forces_13 post yF yMN yMQ yN yQ yE yLe yLv yLn yIn yPl yBo yFa n (nI i) ki aa ab ac ql qr qb el er eb ce pr po pth sid fl fr fk gu av vy := by
  intro d
  induction d with
  | zero =>
    intro i n gu hi hn hg
    obtain ⟨n, rfl⟩ : ∃ c, n = c + 1 := ⟨n - 1, by omega⟩
    rw [wY_forces_13]
    exact pk_le 10 i (fun _ => h gu (fun s hs => hg s (by omega))) (fun z => absurd z (by omega))
  | succ d ih =>
    intro i n gu hi hn hg
    obtain ⟨n, rfl⟩ : ∃ c, n = c + 1 := ⟨n - 1, by omega⟩
    rw [wY_forces_13]
    dsimp only
    rw [nI_clamp (show i < 2 ^ 31 by omega)]
    refine pk_le 10 i (fun z => absurd z (by omega)) (fun _ => ⟨vp_in_nI (by omega) (by decide), nm_e (nm_r (nI_1 i) (ih (i + 1) n _ (by omega) (by omega) (fun s hs => ?_)))⟩)
    by_cases e : s = i
    · rw [e, pk_us]
    · rw [pk_un e]; exact hg s (by omega)
theorem zy_forces {post : Int32 → SY → Prop} {m : Nat} {S : (Nat → Int) → Prop} {x y k : Int32} (hm : m < 256) (hS : zb_fl m fl fr fk S) (hx : vp_in x 10) (hy : vp_in y 10) (hk : -1000 ≤ k.toInt ∧ k.toInt ≤ 1000)
    (h : ∀ fl fr fk gu, zb_fl m fl fr fk S → post (za_b (zf_ent S x.toNatClampNeg y.toNatClampNeg k.toInt)) (yF, yMN, yMQ, yN, yQ, yE, yLe, yLv, yLn, yIn, yPl, yBo, nI m, ki, aa, ab, ac, ql, qr, qb, el, er, eb, ce, pr, po, pth, sid, fl, fr, fk, gu, av, vy)) : wpY_forces post (yF, yMN, yMQ, yN, yQ, yE, yLe, yLv, yLn, yIn, yPl, yBo, nI m, ki, aa, ab, ac, ql, qr, qb, el, er, eb, ce, pr, po, pth, sid, fl, fr, fk, gu, av, vy) x y k := by
  unfold wpY_forces
  have ek : (-k - 1).toInt = -k.toInt - 1 := za_no (by omega) (by omega)
  have hS' := zb_fl_add (x := y) (y := x) (k := -k - 1) hS hy hx (by omega)
  refine zy_add hm ⟨11, zy_f13 (fun gu hg => ⟨13, ?_⟩) 10 0 11 gu (by omega) (by omega) (fun s hs => absurd hs (Nat.not_lt_zero s))⟩
  refine zy_f40 hm hS'.1 (fun gu => ?_) 12 0 13 1 gu (by omega) (by omega) (zb_out_0 (fun s hs => by rw [hg s hs]; decide)) (fun s hs => by rw [hg s hs, za_i0]; omega)
  have e : (¬ ∃ g, zb_sol (m + 1) (fun i => (upd fl m y i).toNatClampNeg) (fun i => (upd fr m x i).toNatClampNeg) (fun i => (upd fk m (-k - 1) i).toInt) g) ↔ zf_ent S x.toNatClampNeg y.toNatClampNeg k.toInt := by
    constructor
    · intro z g hg
      by_cases c : g x.toNatClampNeg - g y.toNatClampNeg ≤ k.toInt
      · exact c
      · exact absurd ⟨g, (hS'.2 g).mpr ⟨hg, by unfold zw_Z; rw [ek]; omega⟩⟩ z
    · intro z ⟨g, hg⟩
      obtain ⟨h1, h2⟩ := (hS'.2 g).mp hg
      have := z g h1
      unfold zw_Z at h2
      rw [ek] at h2
      omega
  rw [za_bb e]
  exact h _ _ _ gu (zb_fl_old hS)
/-- the slot that a qualifier's variable stands for -/
def zw_pk (v x y z : Int32) : Int32 := if v = 2 then x else if v = 3 then y else if v = 4 then z else v
theorem zw_pk_in {v x y z : Int32} (hv : vp_in v 5) (hx : vp_in x 10) (hy : vp_in y 10) (hz : vp_in z 10) : vp_in (zw_pk v x y z) 10 := by
  unfold zw_pk
  split
  · exact hx
  · split
    · exact hy
    · split
      · exact hz
      · rw [vp_in_iff] at hv ⊢; omega
theorem zy_pick {post : Int32 → Prop} {v x y z : Int32} (h : post (zw_pk v x y z)) : wpY_pick post (yF, yMN, yMQ, yN, yQ, yE, yLe, yLv, yLn, yIn, yPl, yBo, yFa, ki, aa, ab, ac, ql, qr, qb, el, er, eb, ce, pr, po, pth, sid, fl, fr, fk, gu, av, vy) v x y z := by
  unfold wpY_pick
  unfold zw_pk at h
  by_cases h2 : v = 2
  · rw [if_pos h2] at h; exact br_t h2 h
  · rw [if_neg h2] at h
    refine br_f h2 ?_
    by_cases h3 : v = 3
    · rw [if_pos h3] at h; exact br_t h3 h
    · rw [if_neg h3] at h
      refine br_f h3 ?_
      by_cases h4 : v = 4
      · rw [if_pos h4] at h; exact br_t h4 h
      · rw [if_neg h4] at h; exact br_f h4 h
/-- the instance q[x,y,z] is forced by S -/
def zw_en (ql qr qb : Nat → Int32) (S : (Nat → Int) → Prop) (q : Nat) (x y z : Int32) : Prop := zf_ent S (zw_pk (ql q) x y z).toNatClampNeg (zw_pk (qr q) x y z).toNatClampNeg (qb q).toInt
/-- the qualifiers are in range -/
def zw_QV (ql qr qb : Nat → Int32) (Q : Nat) : Prop := Q ≤ 8 ∧ ∀ q, q < Q → vp_in (ql q) 5 ∧ vp_in (qr q) 5 ∧ -1000 ≤ (qb q).toInt ∧ (qb q).toInt ≤ 1000
theorem zy_holds {post : Int32 → SY → Prop} {m q Q : Nat} {S : (Nat → Int) → Prop} {x y z : Int32} (hQ : zw_QV ql qr qb Q) (hq : q < Q) (hm : m < 256) (hS : zb_fl m fl fr fk S) (hx : vp_in x 10) (hy : vp_in y 10) (hz : vp_in z 10)
    (h : ∀ fl fr fk gu, zb_fl m fl fr fk S → post (za_b (zw_en ql qr qb S q x y z)) (yF, yMN, yMQ, yN, yQ, yE, yLe, yLv, yLn, yIn, yPl, yBo, nI m, ki, aa, ab, ac, ql, qr, qb, el, er, eb, ce, pr, po, pth, sid, fl, fr, fk, gu, av, vy)) : wpY_holds post (yF, yMN, yMQ, yN, yQ, yE, yLe, yLv, yLn, yIn, yPl, yBo, nI m, ki, aa, ab, ac, ql, qr, qb, el, er, eb, ce, pr, po, pth, sid, fl, fr, fk, gu, av, vy) (nI q) x y z := by
  unfold wpY_holds
  obtain ⟨q8, hQ⟩ := hQ
  obtain ⟨q1, q2, q3, q4⟩ := hQ q hq
  have hq8 : vp_in (nI q) 8 := vp_in_nI (by omega) (by decide)
  dsimp only
  rw [nI_clamp (show q < 2 ^ 31 by omega)]
  refine ⟨hq8, zy_pick ⟨hq8, zy_pick ⟨hq8, zy_forces hm hS (zw_pk_in q1 hx hy hz) (zw_pk_in q2 hx hy hz) ⟨q3, q4⟩ (fun fl fr fk gu hS' => ⟨za_nar _, h fl fr fk gu hS'⟩)⟩⟩⟩
end
end
section
section
variable {yF yMN yMQ yN yQ yE yLe yLv yLn yIn yPl yBo yFa : Int32} {ki aa ab ac ql qr qb el er eb ce pr po pth sid fl fr fk gu av vy : Nat → Int32}
/-- what passing node p on side s says, its slot being d -/
def zw_F (ki aa ab ac ql qr qb po : Nat → Int32) (Q p : Nat) (s : Bool) (d : Int32) (g : Nat → Int) : Prop :=
  (ki p = 1 → zw_Z g d (aa p) (ab p).toInt ∧ zw_Z g (aa p) d (-(ab p).toInt)) ∧
  (ki p = 3 → zw_Z g 0 (aa p) 0 ∧ zw_Z g (aa p) 1 (-1)) ∧
  (ki p = 4 → ∀ q, q < Q → po ((aa p).toNatClampNeg * 8 + q) ≠ 0 → zw_Z g (zw_pk (ql q) (ab p) (ac p) d) (zw_pk (qr q) (ab p) (ac p) d) (qb q).toInt) ∧
  (ki p = 5 → zw_Z g (aa p) (ab p) (ac p).toInt) ∧
  (ki p = 6 → s = false → zw_Z g (aa p) (ab p) (ac p).toInt) ∧
  (ki p = 6 → s = true → zw_Z g (ab p) (aa p) (-(ac p).toInt - 1))
theorem zw_F1 {Q p : Nat} {s : Bool} {d : Int32} {g : Nat → Int} (h : ki p = 1) : zw_F ki aa ab ac ql qr qb po Q p s d g ↔ zw_Z g d (aa p) (ab p).toInt ∧ zw_Z g (aa p) d (-(ab p).toInt) :=
  ⟨fun z => z.1 h, fun z => ⟨fun _ => z, fun e => absurd (h.symm.trans e) (by decide), fun e => absurd (h.symm.trans e) (by decide), fun e => absurd (h.symm.trans e) (by decide), fun e => absurd (h.symm.trans e) (by decide), fun e => absurd (h.symm.trans e) (by decide)⟩⟩
theorem zw_F2 {Q p : Nat} {s : Bool} {d : Int32} {g : Nat → Int} (h : ki p = 2) : zw_F ki aa ab ac ql qr qb po Q p s d g ↔ True :=
  ⟨fun _ => trivial, fun _ => ⟨fun e => absurd (h.symm.trans e) (by decide), fun e => absurd (h.symm.trans e) (by decide), fun e => absurd (h.symm.trans e) (by decide), fun e => absurd (h.symm.trans e) (by decide), fun e => absurd (h.symm.trans e) (by decide), fun e => absurd (h.symm.trans e) (by decide)⟩⟩
theorem zw_F3 {Q p : Nat} {s : Bool} {d : Int32} {g : Nat → Int} (h : ki p = 3) : zw_F ki aa ab ac ql qr qb po Q p s d g ↔ zw_Z g 0 (aa p) 0 ∧ zw_Z g (aa p) 1 (-1) :=
  ⟨fun z => z.2.1 h, fun z => ⟨fun e => absurd (h.symm.trans e) (by decide), fun _ => z, fun e => absurd (h.symm.trans e) (by decide), fun e => absurd (h.symm.trans e) (by decide), fun e => absurd (h.symm.trans e) (by decide), fun e => absurd (h.symm.trans e) (by decide)⟩⟩
theorem zw_F4 {Q p : Nat} {s : Bool} {d : Int32} {g : Nat → Int} (h : ki p = 4) : zw_F ki aa ab ac ql qr qb po Q p s d g ↔ ∀ q, q < Q → po ((aa p).toNatClampNeg * 8 + q) ≠ 0 → zw_Z g (zw_pk (ql q) (ab p) (ac p) d) (zw_pk (qr q) (ab p) (ac p) d) (qb q).toInt :=
  ⟨fun z => z.2.2.1 h, fun z => ⟨fun e => absurd (h.symm.trans e) (by decide), fun e => absurd (h.symm.trans e) (by decide), fun _ => z, fun e => absurd (h.symm.trans e) (by decide), fun e => absurd (h.symm.trans e) (by decide), fun e => absurd (h.symm.trans e) (by decide)⟩⟩
theorem zw_F5 {Q p : Nat} {s : Bool} {d : Int32} {g : Nat → Int} (h : ki p = 5) : zw_F ki aa ab ac ql qr qb po Q p s d g ↔ zw_Z g (aa p) (ab p) (ac p).toInt :=
  ⟨fun z => z.2.2.2.1 h, fun z => ⟨fun e => absurd (h.symm.trans e) (by decide), fun e => absurd (h.symm.trans e) (by decide), fun e => absurd (h.symm.trans e) (by decide), fun _ => z, fun e => absurd (h.symm.trans e) (by decide), fun e => absurd (h.symm.trans e) (by decide)⟩⟩
theorem zw_F6f {Q p : Nat} {d : Int32} {g : Nat → Int} (h : ki p = 6) : zw_F ki aa ab ac ql qr qb po Q p false d g ↔ zw_Z g (aa p) (ab p) (ac p).toInt :=
  ⟨fun z => z.2.2.2.2.1 h rfl, fun z => ⟨fun e => absurd (h.symm.trans e) (by decide), fun e => absurd (h.symm.trans e) (by decide), fun e => absurd (h.symm.trans e) (by decide), fun e => absurd (h.symm.trans e) (by decide), fun _ _ => z, fun _ e => (Bool.noConfusion e)⟩⟩
theorem zw_F6t {Q p : Nat} {d : Int32} {g : Nat → Int} (h : ki p = 6) : zw_F ki aa ab ac ql qr qb po Q p true d g ↔ zw_Z g (ab p) (aa p) (-(ac p).toInt - 1) :=
  ⟨fun z => z.2.2.2.2.2 h rfl, fun z => ⟨fun e => absurd (h.symm.trans e) (by decide), fun e => absurd (h.symm.trans e) (by decide), fun e => absurd (h.symm.trans e) (by decide), fun e => absurd (h.symm.trans e) (by decide), fun _ e => (Bool.noConfusion e), fun _ _ => z⟩⟩
/-- what a path says -/
def zw_P (ki aa ab ac ql qr qb po : Nat → Int32) (Q : Nat) : List (Nat × Bool) → (Nat → Int) → Prop
  | [], _ => True
  | (p, s) :: r, g => zw_F ki aa ab ac ql qr qb po Q p s (nI (4 + zw_nb ki r)) g ∧ zw_P ki aa ab ac ql qr qb po Q r g
/-- what holds at the beginning of function b -/
def zw_B (ql qr qb pr : Nat → Int32) (Q b : Nat) (g : Nat → Int) : Prop := zw_Z g 0 1 0 ∧ ∀ q, q < Q → pr (b * 8 + q) ≠ 0 → zw_Z g (ql q) (qr q) (qb q).toInt
/-- the facts at place n -/
def zw_S (ki aa ab ac ql qr qb pr po : Nat → Int32) (Q n : Nat) (g : Nat → Int) : Prop := zw_B ql qr qb pr Q (zw_w ki n).2 g ∧ zw_P ki aa ab ac ql qr qb po Q (zw_w ki n).1 g
/-- node p is well formed -/
def zw_NV (ki aa ab ac : Nat → Int32) (F p : Nat) : Prop :=
  (ki p = 1 ∨ ki p = 2 ∨ ki p = 3 ∨ ki p = 4 ∨ ki p = 5 ∨ ki p = 6 ∨ ki p = 7) ∧ vp_in (aa p) 10 ∧
  (ki p = 1 → -1000 ≤ (ab p).toInt ∧ (ab p).toInt ≤ 1000) ∧ (ki p = 2 → vp_in (ab p) 10) ∧ (ki p = 4 → vp_in (aa p) F ∧ vp_in (ab p) 10 ∧ vp_in (ac p) 10) ∧
  (ki p = 5 ∨ ki p = 6 → vp_in (ab p) 10 ∧ -1000 ≤ (ac p).toInt ∧ (ac p).toInt ≤ 1000) ∧ (zw_i (ki p) = 1 → zw_sc ki p < 10)
theorem zy_c328 {post : SY → Prop} {J76 : Int32 → Int32 → Int32 → Int32 → Int32 → Int32 → Int32 → Int32 → Int32 → Int32 → Int32 → Int32 → Int32 → Int32 → Int32 → (Nat → Int32) → (Nat → Int32) → (Nat → Int32) → (Nat → Int32) → (Nat → Int32) → (Nat → Int32) → (Nat → Int32) → (Nat → Int32) → (Nat → Int32) → (Nat → Int32) → (Nat → Int32) → (Nat → Int32) → (Nat → Int32) → (Nat → Int32) → (Nat → Int32) → (Nat → Int32) → (Nat → Int32) → (Nat → Int32) → (Nat → Int32) → (Nat → Int32) → (Nat → Int32) → Prop} {d i : Nat} {k : Int32} (h : J76 (nI (d + zw_i k)) (nI (i + 1)) yF yMN yMQ yN yQ yE yLe yLv yLn yIn yPl yBo yFa ki aa ab ac ql qr qb el er eb ce pr po pth sid fl fr fk gu av vy) : wY_collect_328 post J76 (nI d) (nI i) k yF yMN yMQ yN yQ yE yLe yLv yLn yIn yPl yBo yFa ki aa ab ac ql qr qb el er eb ce pr po pth sid fl fr fk gu av vy := by
  unfold wY_collect_328
  refine zy_binds (fun e => ?_) (fun e => ?_)
  · rw [e] at h
    exact br_f za_n10 (nm_r (nI_1 d) (nm_r (nI_1 i) h))
  · rw [e] at h
    exact br_t rfl (nm_r (nI_1 i) h)
theorem zy_c298 {post : SY → Prop} {J76 : Int32 → Int32 → Int32 → Int32 → Int32 → Int32 → Int32 → Int32 → Int32 → Int32 → Int32 → Int32 → Int32 → Int32 → Int32 → (Nat → Int32) → (Nat → Int32) → (Nat → Int32) → (Nat → Int32) → (Nat → Int32) → (Nat → Int32) → (Nat → Int32) → (Nat → Int32) → (Nat → Int32) → (Nat → Int32) → (Nat → Int32) → (Nat → Int32) → (Nat → Int32) → (Nat → Int32) → (Nat → Int32) → (Nat → Int32) → (Nat → Int32) → (Nat → Int32) → (Nat → Int32) → (Nat → Int32) → (Nat → Int32) → Prop} {d i : Nat} {k x6 x7 x8 : Int32} (hk : ¬ k = 6) (h : J76 (nI (d + zw_i k)) (nI (i + 1)) yF yMN yMQ yN yQ yE yLe yLv yLn yIn yPl yBo yFa ki aa ab ac ql qr qb el er eb ce pr po pth sid fl fr fk gu av vy) : wY_collect_298 post J76 (nI d) (nI i) k x6 x7 x8 yF yMN yMQ yN yQ yE yLe yLv yLn yIn yPl yBo yFa ki aa ab ac ql qr qb el er eb ce pr po pth sid fl fr fk gu av vy := by
  unfold wY_collect_298
  exact br_f hk (zy_c328 h)
theorem zy_c266 {post : SY → Prop} {J76 : Int32 → Int32 → Int32 → Int32 → Int32 → Int32 → Int32 → Int32 → Int32 → Int32 → Int32 → Int32 → Int32 → Int32 → Int32 → (Nat → Int32) → (Nat → Int32) → (Nat → Int32) → (Nat → Int32) → (Nat → Int32) → (Nat → Int32) → (Nat → Int32) → (Nat → Int32) → (Nat → Int32) → (Nat → Int32) → (Nat → Int32) → (Nat → Int32) → (Nat → Int32) → (Nat → Int32) → (Nat → Int32) → (Nat → Int32) → (Nat → Int32) → (Nat → Int32) → (Nat → Int32) → (Nat → Int32) → (Nat → Int32) → Prop} {d i : Nat} {k x6 x7 x8 : Int32} (h5 : ¬ k = 5) (hk : ¬ k = 6) (h : J76 (nI (d + zw_i k)) (nI (i + 1)) yF yMN yMQ yN yQ yE yLe yLv yLn yIn yPl yBo yFa ki aa ab ac ql qr qb el er eb ce pr po pth sid fl fr fk gu av vy) : wY_collect_266 post J76 (nI d) (nI i) k x6 x7 x8 yF yMN yMQ yN yQ yE yLe yLv yLn yIn yPl yBo yFa ki aa ab ac ql qr qb el er eb ce pr po pth sid fl fr fk gu av vy := by
  unfold wY_collect_266
  exact br_f h5 (br_f hk (zy_c298 hk h))
theorem zy_c178n {post : SY → Prop} {J76 : Int32 → Int32 → Int32 → Int32 → Int32 → Int32 → Int32 → Int32 → Int32 → Int32 → Int32 → Int32 → Int32 → Int32 → Int32 → (Nat → Int32) → (Nat → Int32) → (Nat → Int32) → (Nat → Int32) → (Nat → Int32) → (Nat → Int32) → (Nat → Int32) → (Nat → Int32) → (Nat → Int32) → (Nat → Int32) → (Nat → Int32) → (Nat → Int32) → (Nat → Int32) → (Nat → Int32) → (Nat → Int32) → (Nat → Int32) → (Nat → Int32) → (Nat → Int32) → (Nat → Int32) → (Nat → Int32) → (Nat → Int32) → Prop} {x2 x3 k x6 x7 x8 x9 : Int32} {n : Nat} (h4 : ¬ k = 4) (h : wY_collect_266 post J76 x2 x3 k x6 x7 x8 yF yMN yMQ yN yQ yE yLe yLv yLn yIn yPl yBo yFa ki aa ab ac ql qr qb el er eb ce pr po pth sid fl fr fk gu av vy) : wY_collect_178 post J76 x2 x3 k x6 x7 x8 (n + 1) x9 yF yMN yMQ yN yQ yE yLe yLv yLn yIn yPl yBo yFa ki aa ab ac ql qr qb el er eb ce pr po pth sid fl fr fk gu av vy := by
  rw [wY_collect_178]
  exact br_f h4 h
theorem zy_c153n {post : SY → Prop} {J76 : Int32 → Int32 → Int32 → Int32 → Int32 → Int32 → Int32 → Int32 → Int32 → Int32 → Int32 → Int32 → Int32 → Int32 → Int32 → (Nat → Int32) → (Nat → Int32) → (Nat → Int32) → (Nat → Int32) → (Nat → Int32) → (Nat → Int32) → (Nat → Int32) → (Nat → Int32) → (Nat → Int32) → (Nat → Int32) → (Nat → Int32) → (Nat → Int32) → (Nat → Int32) → (Nat → Int32) → (Nat → Int32) → (Nat → Int32) → (Nat → Int32) → (Nat → Int32) → (Nat → Int32) → (Nat → Int32) → (Nat → Int32) → Prop} {x2 x3 k x6 x7 x8 : Int32} (h3 : ¬ k = 3) (h4 : ¬ k = 4) (h : wY_collect_266 post J76 x2 x3 k x6 x7 x8 yF yMN yMQ yN yQ yE yLe yLv yLn yIn yPl yBo yFa ki aa ab ac ql qr qb el er eb ce pr po pth sid fl fr fk gu av vy) : wY_collect_153 post J76 x2 x3 k x6 x7 x8 yF yMN yMQ yN yQ yE yLe yLv yLn yIn yPl yBo yFa ki aa ab ac ql qr qb el er eb ce pr po pth sid fl fr fk gu av vy := by
  unfold wY_collect_153
  exact br_f h3 ⟨1, zy_c178n h4 h⟩
/-- the instances of a callee's chosen qualifiers -/
def zw_H (ql qr qb po : Nat → Int32) (a : Nat) (x y z : Int32) (k : Nat) (g : Nat → Int) : Prop := ∀ q, q < k → po (a * 8 + q) ≠ 0 → zw_Z g (zw_pk (ql q) x y z) (zw_pk (qr q) x y z) (qb q).toInt
theorem zw_H0 {a : Nat} {x y z : Int32} {g : Nat → Int} : zw_H ql qr qb po a x y z 0 g := fun q hq => absurd hq (Nat.not_lt_zero q)
theorem zw_Hn {a q : Nat} {x y z : Int32} {g : Nat → Int} (h : po (a * 8 + q) = 0) : zw_H ql qr qb po a x y z q g ↔ zw_H ql qr qb po a x y z (q + 1) g :=
  ⟨fun H j hj hp => by
    by_cases e : j = q
    · rw [e] at hp; exact absurd h hp
    · exact H j (by omega) hp, fun H j hj hp => H j (by omega) hp⟩
theorem zw_Hs {a q : Nat} {x y z : Int32} {g : Nat → Int} (h : ¬ po (a * 8 + q) = 0) : (zw_H ql qr qb po a x y z q g ∧ zw_Z g (zw_pk (ql q) x y z) (zw_pk (qr q) x y z) (qb q).toInt) ↔ zw_H ql qr qb po a x y z (q + 1) g :=
  ⟨fun H j hj hp => by
    by_cases e : j = q
    · rw [e]; exact H.2
    · exact H.1 j (by omega) hp, fun H => ⟨fun j hj hp => H j (by omega) hp, H q (Nat.lt_succ_self q) h⟩⟩
theorem zy_c178 {post : SY → Prop} {J76 : Int32 → Int32 → Int32 → Int32 → Int32 → Int32 → Int32 → Int32 → Int32 → Int32 → Int32 → Int32 → Int32 → Int32 → Int32 → (Nat → Int32) → (Nat → Int32) → (Nat → Int32) → (Nat → Int32) → (Nat → Int32) → (Nat → Int32) → (Nat → Int32) → (Nat → Int32) → (Nat → Int32) → (Nat → Int32) → (Nat → Int32) → (Nat → Int32) → (Nat → Int32) → (Nat → Int32) → (Nat → Int32) → (Nat → Int32) → (Nat → Int32) → (Nat → Int32) → (Nat → Int32) → (Nat → Int32) → (Nat → Int32) → Prop} {x2 x3 k x6 x7 x8 : Int32} {a Q m0 : Nat} {S : (Nat → Int) → Prop} (hk : k = 4) (h6 : x6 = nI a) (hQ : zw_QV ql qr qb Q) (ha : a < 3) (h7 : vp_in x7 10) (h8 : vp_in x8 10) (h2 : vp_in x2 10) (hm0 : m0 ≤ 240)
    (h : ∀ m fl fr fk, m ≤ m0 + 8 → zb_fl m fl fr fk (fun g => S g ∧ zw_H ql qr qb po a x7 x8 x2 Q g) → wY_collect_266 post J76 x2 x3 k x6 x7 x8 yF yMN yMQ yN (nI Q) yE yLe yLv yLn yIn yPl yBo (nI m) ki aa ab ac ql qr qb el er eb ce pr po pth sid fl fr fk gu av vy) :
    ∀ (d q n m : Nat) (fl fr fk : Nat → Int32), q + d = Q → d < n → m ≤ m0 + q → zb_fl m fl fr fk (fun g => S g ∧ zw_H ql qr qb po a x7 x8 x2 q g) →
    wY_collect_178 post J76 x2 x3 k x6 x7 x8 n (nI q) yF yMN yMQ yN (nI Q) yE yLe yLv yLn yIn yPl yBo (nI m) ki aa ab ac ql qr qb el er eb ce pr po pth sid fl fr fk gu av vy := by
  subst hk h6
  intro d
  induction d with
  | zero =>
    intro q n m fl fr fk hq hn hm hS
    obtain ⟨n, rfl⟩ : ∃ c, n = c + 1 := ⟨n - 1, by omega⟩
    have hq' : q = Q := hq
    subst hq'
    have := hQ.1
    rw [wY_collect_178]
    exact br_t rfl (pk_le q q (fun _ => h m fl fr fk (by omega) hS) (fun z => absurd z (Nat.lt_irrefl q)))
  | succ d ih =>
    intro q n m fl fr fk hq hn hm hS
    obtain ⟨n, rfl⟩ : ∃ c, n = c + 1 := ⟨n - 1, by omega⟩
    have q8 := hQ.1
    obtain ⟨q1, q2, q3, q4⟩ := hQ.2 q (by omega)
    have hq8 : vp_in (nI q) 8 := vp_in_nI (by omega) (by decide)
    have ei : nI a * 8 + nI q = nI (a * 8 + q) := by rw [za_m8, nI_add]
    rw [wY_collect_178]
    dsimp only
    rw [nI_clamp (show q < 2 ^ 31 by omega), ei, nI_clamp (show a * 8 + q < 2 ^ 31 by omega)]
    refine br_t rfl (pk_le Q q (fun z => absurd z (by omega)) (fun _ => ⟨hq8, zy_pick ⟨hq8, zy_pick ⟨vp_in_nI (by omega) (by decide), br_c (fun e => ?_) (fun e => ?_)⟩⟩⟩))
    · exact nm_r (nI_1 q) (ih (q + 1) n m fl fr fk (by omega) (by omega) (by omega) (zb_fl_iff hS (fun g => and_congr_right (fun _ => zw_Hn e))))
    · refine ⟨hq8, zy_add (by omega) (nm_r (nI_1 q) (ih (q + 1) n (m + 1) _ _ _ (by omega) (by omega) (by omega) (zb_fl_iff (zb_fl_add hS (zw_pk_in q1 h7 h8 h2) (zw_pk_in q2 h7 h8 h2) (by omega)) (fun g => ?_))))⟩
      rw [and_assoc]
      exact and_congr_right (fun _ => zw_Hs e)
theorem za_in0 : vp_in (0 : Int32) 10 := vp_in_iff.mpr (by decide)
theorem za_in1 : vp_in (1 : Int32) 10 := vp_in_iff.mpr (by decide)
theorem zy_c76 {post : SY → Prop} {l : List (Nat × Bool)} {b N Q F : Nat} {S0 : (Nat → Int) → Prop} (hR : zw_R pth sid l) (hC : zw_C ki b l N) (hN : N ≤ 24) (hl : l.length ≤ 23) (hF : F ≤ 3)
    (hNV : ∀ p, p < N → zw_NV ki aa ab ac F p) (hQ : zw_QV ql qr qb Q)
    (h : ∀ m fl fr fk, m ≤ 9 + 8 * l.length → zb_fl m fl fr fk (fun g => S0 g ∧ zw_P ki aa ab ac ql qr qb po Q l g) → post (yF, yMN, yMQ, yN, nI Q, yE, yLe, yLv, yLn, yIn, nI l.length, yBo, nI m, ki, aa, ab, ac, ql, qr, qb, el, er, eb, ce, pr, po, pth, sid, fl, fr, fk, gu, av, vy)) :
    ∀ (d i n m : Nat) (fl fr fk : Nat → Int32), i + d = l.length → d < n → m ≤ 9 + 8 * i → zb_fl m fl fr fk (fun g => S0 g ∧ zw_P ki aa ab ac ql qr qb po Q (zw_t l i) g) →
    wY_collect_76 post n (nI (4 + zw_nb ki (zw_t l i))) (nI i) yF yMN yMQ yN (nI Q) yE yLe yLv yLn yIn (nI l.length) yBo (nI m) ki aa ab ac ql qr qb el er eb ce pr po pth sid fl fr fk gu av vy := by
  intro d
  induction d with
  | zero =>
    intro i n m fl fr fk hi hn hm hS
    obtain ⟨n, rfl⟩ : ∃ c, n = c + 1 := ⟨n - 1, by omega⟩
    have hi' : i = l.length := hi
    subst hi'
    rw [zw_t_all] at hS
    rw [wY_collect_76]
    exact pk_le l.length l.length (fun _ => h m fl fr fk hm hS) (fun z => absurd z (Nat.lt_irrefl _))
  | succ d ih =>
    intro i n m fl fr fk hi hn hm hS
    obtain ⟨n, rfl⟩ : ∃ c, n = c + 1 := ⟨n - 1, by omega⟩
    obtain ⟨p, s, h1, h2, h3, h4, h5, h6, h7⟩ := zw_t_s l N i hR hC (by omega)
    obtain ⟨v0, v1, v2, v3, v4, v5, v6⟩ := hNV p h3
    have esc : zw_sc ki p = 4 + zw_nb ki (zw_t l i) := by unfold zw_sc; rw [h5]
    rw [esc] at v6
    have e : 4 + zw_nb ki (zw_t l (i + 1)) = 4 + zw_nb ki (zw_t l i) + zw_i (ki p) := by rw [h7, zw_nb]; omega
    have hi31 : i < 2 ^ 31 := by omega
    have hp31 : p < 2 ^ 31 := by omega
    have hip : vp_in (nI i) 25 := vp_in_nI (by omega) (by decide)
    have hpp : vp_in (nI p) 24 := vp_in_nI (by omega) (by decide)
    have go : ∀ m' fl fr fk, m' ≤ m + 8 → zb_fl m' fl fr fk (fun g => (S0 g ∧ zw_P ki aa ab ac ql qr qb po Q (zw_t l i) g) ∧ zw_F ki aa ab ac ql qr qb po Q p s (nI (4 + zw_nb ki (zw_t l i))) g) →
        wY_collect_76 post n (nI (4 + zw_nb ki (zw_t l i) + zw_i (ki p))) (nI (i + 1)) yF yMN yMQ yN (nI Q) yE yLe yLv yLn yIn (nI l.length) yBo (nI m') ki aa ab ac ql qr qb el er eb ce pr po pth sid fl fr fk gu av vy := fun m' fl fr fk hm' hS' => by
      rw [← e]
      refine ih (i + 1) n m' fl fr fk (by omega) (by omega) (by omega) (zb_fl_iff hS' (fun g => ?_))
      rw [h7, zw_P, and_assoc]
      exact and_congr_right (fun _ => And.comm)
    have hd : zw_i (ki p) = 1 → vp_in (nI (4 + zw_nb ki (zw_t l i))) 10 := fun z => vp_in_nI (v6 z) (by decide)
    rw [wY_collect_76]
    refine pk_le l.length i (fun z => absurd z (by omega)) (fun _ => ⟨hip, nm_r (e' := nI p) (by rw [nI_clamp hi31]; exact h1) ⟨hpp, nm_r (za_rd hp31) ⟨hpp, nm_r (za_rd hp31) ⟨hpp, nm_r (za_rd hp31) ⟨hpp, nm_r (za_rd hp31) ?_⟩⟩⟩⟩⟩)
    obtain k | k | k | k | k | k | k := v0
    · have hd' := hd (by rw [k]; decide)
      have v2 := v2 k
      have ne : (-(ab p)).toInt = -(ab p).toInt := za_ne (by omega)
      refine br_t k (zy_add (by omega) (zy_add (by omega) (zy_c153n (by rw [k]; decide) (by rw [k]; decide) (zy_c266 (by rw [k]; decide) (by rw [k]; decide) (go _ _ _ _ (by omega) (zb_fl_iff (zb_fl_add (zb_fl_add hS hd' v1 (by omega)) v1 hd' (by omega)) (fun g => ?_)))))))
      rw [zw_F1 k, ne, and_assoc]
    · refine br_f (by rw [k]; decide) (zy_c153n (by rw [k]; decide) (by rw [k]; decide) (zy_c266 (by rw [k]; decide) (by rw [k]; decide) (go _ _ _ _ (by omega) (zb_fl_iff hS (fun g => ?_)))))
      rw [zw_F2 k, and_true]
    · have hd' := hd (by rw [k]; decide)
      refine br_f (by rw [k]; decide) ?_
      unfold wY_collect_153
      refine br_t k (zy_add (by omega) (zy_add (by omega) ⟨1, zy_c178n (by rw [k]; decide) (zy_c266 (by rw [k]; decide) (by rw [k]; decide) (go _ _ _ _ (by omega) (zb_fl_iff (zb_fl_add (zb_fl_add hS za_in0 v1 (by rw [za_i0]; omega)) v1 za_in1 (by rw [za_im1]; omega)) (fun g => ?_))))⟩))
      rw [zw_F3 k, za_i0, za_im1, and_assoc]
    · have hd' := hd (by rw [k]; decide)
      obtain ⟨w1, w2, w3⟩ := v4 k
      obtain ⟨a, ha, ea⟩ := vp_in_of w1 (by omega)
      refine br_f (by rw [k]; decide) ?_
      unfold wY_collect_153
      refine br_f (by rw [k]; decide) ⟨Q + 1, zy_c178 (m0 := m) k ea hQ (by omega) w2 w3 hd' (by omega) (fun m' fl fr fk hm' hS' => zy_c266 (by rw [k]; decide) (by rw [k]; decide) (go m' fl fr fk (by omega) (zb_fl_iff hS' (fun g => ?_)))) Q 0 (Q + 1) m fl fr fk (by omega) (by omega) (by omega) (zb_fl_iff hS (fun g => ⟨fun z => ⟨z, zw_H0⟩, fun z => z.1⟩))⟩
      rw [zw_F4 k, ea, nI_clamp (by omega)]
      exact Iff.rfl
    · obtain ⟨w1, w2⟩ := v5 (Or.inl k)
      refine br_f (by rw [k]; decide) (zy_c153n (by rw [k]; decide) (by rw [k]; decide) ?_)
      unfold wY_collect_266
      refine br_t k ?_
      unfold wY_collect_288
      refine zy_add (by omega) (zy_c298 (by rw [k]; decide) (go _ _ _ _ (by omega) (zb_fl_iff (zb_fl_add hS v1 w1 (by omega)) (fun g => ?_))))
      rw [zw_F5 k]
    · obtain ⟨w1, w2⟩ := v5 (Or.inr k)
      refine br_f (by rw [k]; decide) (zy_c153n (by rw [k]; decide) (by rw [k]; decide) ?_)
      have esd : sid (nI i).toNatClampNeg = zw_b s := by rw [nI_clamp hi31]; exact h2
      unfold wY_collect_266
      refine br_f (by rw [k]; decide) (br_t k ⟨hip, ?_⟩)
      cases s with
      | false =>
        refine br_t esd ?_
        unfold wY_collect_288
        refine zy_add (by omega) ?_
        show wY_collect_298 _ _ _ _ _ _ _ _ yF yMN yMQ yN _ yE yLe yLv yLn yIn _ yBo _ ki aa ab ac ql qr qb el er eb ce pr po pth sid _ _ _ gu av vy
        unfold wY_collect_298
        refine br_t k ⟨hip, br_f (by rw [esd]; decide) (zy_c328 (go _ _ _ _ (by omega) (zb_fl_iff (zb_fl_add hS v1 w1 (by omega)) (fun g => ?_))))⟩
        rw [zw_F6f k]
      | true =>
        refine br_f (by rw [esd]; decide) ?_
        have en : (-(ac p) - 1).toInt = -(ac p).toInt - 1 := za_no (by omega) (by omega)
        unfold wY_collect_298
        refine br_t k ⟨hip, br_t esd (zy_add (by omega) (zy_c328 (go _ _ _ _ (by omega) (zb_fl_iff (zb_fl_add hS w1 v1 (by omega)) (fun g => ?_)))))⟩
        rw [zw_F6t k, en]
    · exact absurd k h4
theorem zy_c19 {post : SY → Prop} {b Q : Nat} (hQ : zw_QV ql qr qb Q) (hb : b < 3)
    (h : ∀ m fl fr fk, m ≤ 9 → zb_fl m fl fr fk (zw_B ql qr qb pr Q b) → ∃ n, wY_collect_76 post n 4 0 yF yMN yMQ yN (nI Q) yE yLe yLv yLn yIn yPl (nI b) (nI m) ki aa ab ac ql qr qb el er eb ce pr po pth sid fl fr fk gu av vy) :
    ∀ (d q n m : Nat) (fl fr fk : Nat → Int32), q + d = Q → d < n → m ≤ 1 + q → zb_fl m fl fr fk (fun g => zw_Z g 0 1 0 ∧ ∀ j, j < q → pr (b * 8 + j) ≠ 0 → zw_Z g (ql j) (qr j) (qb j).toInt) →
    wY_collect_19 post n (nI q) yF yMN yMQ yN (nI Q) yE yLe yLv yLn yIn yPl (nI b) (nI m) ki aa ab ac ql qr qb el er eb ce pr po pth sid fl fr fk gu av vy := by
  intro d
  induction d with
  | zero =>
    intro q n m fl fr fk hq hn hm hS
    obtain ⟨n, rfl⟩ : ∃ c, n = c + 1 := ⟨n - 1, by omega⟩
    have hq' : q = Q := hq
    subst hq'
    have := hQ.1
    rw [wY_collect_19]
    exact pk_le q q (fun _ => h m fl fr fk (by omega) hS) (fun z => absurd z (Nat.lt_irrefl q))
  | succ d ih =>
    intro q n m fl fr fk hq hn hm hS
    obtain ⟨n, rfl⟩ : ∃ c, n = c + 1 := ⟨n - 1, by omega⟩
    have q8 := hQ.1
    obtain ⟨q1, q2, q3, q4⟩ := hQ.2 q (by omega)
    have hq8 : vp_in (nI q) 8 := vp_in_nI (by omega) (by decide)
    have ei : nI b * 8 + nI q = nI (b * 8 + q) := by rw [za_m8, nI_add]
    have q1' : vp_in (ql q) 10 := by rw [vp_in_iff] at q1 ⊢; omega
    have q2' : vp_in (qr q) 10 := by rw [vp_in_iff] at q2 ⊢; omega
    rw [wY_collect_19]
    dsimp only
    rw [nI_clamp (show q < 2 ^ 31 by omega), ei, nI_clamp (show b * 8 + q < 2 ^ 31 by omega)]
    refine pk_le Q q (fun z => absurd z (by omega)) (fun _ => ⟨vp_in_nI (by omega) (by decide), br_c (fun e => ?_) (fun e => ?_)⟩)
    · refine nm_r (nI_1 q) (ih (q + 1) n m fl fr fk (by omega) (by omega) (by omega) (zb_fl_iff hS (fun g => and_congr_right (fun _ => ⟨fun H j hj hp => ?_, fun H j hj hp => H j (by omega) hp⟩))))
      by_cases ej : j = q
      · rw [ej] at hp; exact absurd e hp
      · exact H j (by omega) hp
    · refine ⟨hq8, hq8, hq8, zy_add (by omega) (nm_r (nI_1 q) (ih (q + 1) n (m + 1) _ _ _ (by omega) (by omega) (by omega) (zb_fl_iff (zb_fl_add hS q1' q2' (by omega)) (fun g => ?_))))⟩
      rw [and_assoc]
      refine and_congr_right (fun _ => ⟨fun H j hj hp => ?_, fun H => ⟨fun j hj hp => H j (by omega) hp, H q (Nat.lt_succ_self q) e⟩⟩)
      by_cases ej : j = q
      · rw [ej]; exact H.2
      · exact H.1 j (by omega) hp
theorem zy_collect {post : SY → Prop} {N Q F : Nat} (hN : N ≤ 23) (hF : F ≤ 3) (hb : (zw_w ki N).2 < 3) (hNV : ∀ p, p < N → zw_NV ki aa ab ac F p) (hQ : zw_QV ql qr qb Q)
    (h : ∀ m fl fr fk pth sid, m ≤ 200 → zb_fl m fl fr fk (zw_S ki aa ab ac ql qr qb pr po Q N) → post (yF, yMN, yMQ, yN, nI Q, yE, yLe, yLv, yLn, yIn, nI (zw_w ki N).1.length, nI (zw_w ki N).2, nI m, ki, aa, ab, ac, ql, qr, qb, el, er, eb, ce, pr, po, pth, sid, fl, fr, fk, gu, av, vy)) :
    wpY_collect post (yF, yMN, yMQ, yN, nI Q, yE, yLe, yLv, yLn, yIn, yPl, yBo, yFa, ki, aa, ab, ac, ql, qr, qb, el, er, eb, ce, pr, po, pth, sid, fl, fr, fk, gu, av, vy) (nI N) := by
  unfold wpY_collect
  have hL := zw_len (ki := ki) N
  refine zy_walk (by omega) (fun pth sid hR => ?_)
  refine zy_add (m := 0) (by omega) ⟨Q + 1, zy_c19 hQ hb (fun m fl fr fk hm hS => ⟨(zw_w ki N).1.length + 1, ?_⟩) Q 0 (Q + 1) 1 _ _ _ (by omega) (by omega) (by omega) (zb_fl_iff (zb_fl_add zb_fl_0 za_in0 za_in1 (by rw [za_i0]; omega)) (fun g => ?_))⟩
  · have c := zy_c76 (post := post) (S0 := zw_B ql qr qb pr Q (zw_w ki N).2) (yBo := nI (zw_w ki N).2) hR (zw_chain ki N) (by omega) (by omega) hF hNV hQ (fun m fl fr fk hm hS => h m fl fr fk pth sid (by omega) hS) (zw_w ki N).1.length 0 ((zw_w ki N).1.length + 1) m fl fr fk (by omega) (by omega) (by omega) (by
      rw [zw_t_0]
      exact zb_fl_iff hS (fun g => ⟨fun z => ⟨z, trivial⟩, fun z => z.1⟩))
    rw [zw_t_0] at c
    exact c
  · rw [za_i0]
    exact ⟨fun z => ⟨z.2, fun j hj => absurd hj (Nat.not_lt_zero j)⟩, fun z => ⟨trivial, z.1⟩⟩
end
end
section
section
variable {xFL xNL xQL xN xFi xWc xNs xNp xBe xQc xEc xIn xIf xCt xLe xDp xCa xPc xRr xLn : Int32} {ki aa ab ac pa so ow eo sn st wt ql qr qb el er eb cs di ce vx rt : Nat → Int32}
/-- the class's table of bounds -/
def zx_d (di : Nat → Int32) : Nat → Nat → Int := fun a b => (di (a * 10 + b)).toInt
theorem zf_tab_iff {d : Nat → Nat → Int} {S S' : (Nat → Int) → Prop} (h : zf_tab d S) (e : ∀ g, S g ↔ S' g) : zf_tab d S' := ⟨h.1, h.2.1, fun g => (h.2.2 g).trans (e g)⟩
theorem zx_addB {post : SX → Prop} {l r : Nat} {k : Int32} (hl : l < 10) (hr : r < 10) (h1 : zx_d di l r ≤ k.toInt → post (xFL, xNL, xQL, xN, xFi, xWc, xNs, xNp, xBe, xQc, xEc, xIn, xIf, xCt, xLe, xDp, xCa, xPc, xRr, xLn, ki, aa, ab, ac, pa, so, ow, eo, sn, st, wt, ql, qr, qb, el, er, eb, cs, di, ce, vx, rt)) (h2 : k.toInt < zx_d di l r → post (xFL, xNL, xQL, xN, xFi, xWc, xNs, xNp, xBe, xQc, xEc, xIn, xIf, xCt, xLe, xDp, xCa, xPc, xRr, xLn, ki, aa, ab, ac, pa, so, ow, eo, sn, st, wt, ql, qr, qb, el, er, eb, cs, upd di (l * 10 + r) k, ce, vx, rt)) :
    wpX_addBound post (xFL, xNL, xQL, xN, xFi, xWc, xNs, xNp, xBe, xQc, xEc, xIn, xIf, xCt, xLe, xDp, xCa, xPc, xRr, xLn, ki, aa, ab, ac, pa, so, ow, eo, sn, st, wt, ql, qr, qb, el, er, eb, cs, di, ce, vx, rt) (nI l) (nI r) k := by
  unfold wpX_addBound
  refine nm_r (e' := nI (l * 10 + r)) (by rw [za_m10, nI_add]) ⟨vp_in_nI (by omega) (by decide), ?_⟩
  rw [nI_clamp (by omega)]
  exact za_le h1 (fun c => ⟨vp_in_nI (by omega) (by decide), nm_e (h2 c)⟩)
theorem zx_addBound {post : SX → Prop} {x y k : Int32} {S : (Nat → Int) → Prop} (hx : vp_in x 10) (hy : vp_in y 10) (hk : -1001 ≤ k.toInt ∧ k.toInt ≤ 1001) (hT : zf_tab (zx_d di) S)
    (h : ∀ di, zf_tab (zx_d di) (fun g => S g ∧ zw_Z g x y k.toInt) → post (xFL, xNL, xQL, xN, xFi, xWc, xNs, xNp, xBe, xQc, xEc, xIn, xIf, xCt, xLe, xDp, xCa, xPc, xRr, xLn, ki, aa, ab, ac, pa, so, ow, eo, sn, st, wt, ql, qr, qb, el, er, eb, cs, di, ce, vx, rt)) : wpX_addBound post (xFL, xNL, xQL, xN, xFi, xWc, xNs, xNp, xBe, xQc, xEc, xIn, xIf, xCt, xLe, xDp, xCa, xPc, xRr, xLn, ki, aa, ab, ac, pa, so, ow, eo, sn, st, wt, ql, qr, qb, el, er, eb, cs, di, ce, vx, rt) x y k := by
  obtain ⟨l, hl, rfl⟩ := vp_in_of hx (by decide)
  obtain ⟨r, hr, rfl⟩ := vp_in_of hy (by decide)
  have ez : ∀ g : Nat → Int, (S g ∧ g l - g r ≤ k.toInt) ↔ (S g ∧ zw_Z g (nI l) (nI r) k.toInt) := fun g => by
    unfold zw_Z
    rw [nI_clamp (by omega), nI_clamp (by omega)]
  refine zx_addB hl hr (fun c => h di (zf_tab_iff (zf_tab_add hl hr hk hT ?_ (fun _ _ _ _ _ => rfl)) ez)) (fun c => h _ (zf_tab_iff (zf_tab_add hl hr hk hT ?_ (fun a b ha hb e => ?_)) ez))
  · rw [if_neg (by omega)]
  · rw [if_pos c]
    show (upd di (l * 10 + r) k (l * 10 + r)).toInt = k.toInt
    rw [pk_us]
  · show (upd di (l * 10 + r) k (a * 10 + b)).toInt = (di (a * 10 + b)).toInt
    rw [pk_un (by omega)]
theorem zx_of24 {post : SX → Prop} (h : ∀ di, zf_tab (zx_d di) (fun g => zw_Z g 0 1 0) → post (xFL, xNL, xQL, xN, xFi, xWc, xNs, xNp, xBe, xQc, xEc, xIn, xIf, 0, xLe, xDp, xCa, xPc, xRr, xLn, ki, aa, ab, ac, pa, so, ow, eo, sn, st, wt, ql, qr, qb, el, er, eb, cs, di, ce, vx, rt)) : ∀ (d s n : Nat) (di : Nat → Int32), s + d = 10 → d < n →
    (∀ a b, a < 10 → b < 10 → di (a * 10 + b) = if a = b ∧ a < s then 0 else 1000000000) → wX_openFacts_24 post xFL xNL xQL xN xFi xWc xNs xNp xBe xQc xEc xIn xIf xCt xLe xDp xCa xPc xRr xLn n (nI s) ki aa ab ac pa so ow eo sn st wt ql qr qb el er eb cs di ce vx rt := by
  intro d
  induction d with
  | zero =>
    intro s n di hs hn hd
    obtain ⟨n, rfl⟩ : ∃ c, n = c + 1 := ⟨n - 1, by omega⟩
    rw [wX_openFacts_24]
    refine pk_le 10 s (fun _ => ?_) (fun z => absurd z (by omega))
    have T : zf_tab (zx_d di) (fun _ => True) := by
      have e : ∀ a b, a < 10 → b < 10 → (zx_d di a b = 0 ∧ a = b) ∨ (zx_d di a b = 1000000000 ∧ a ≠ b) := fun a b ha hb => by
        have z := hd a b ha hb
        unfold zx_d
        by_cases c : a = b
        · rw [if_pos ⟨c, by omega⟩] at z
          rw [z]; exact Or.inl ⟨za_i0, c⟩
        · rw [if_neg (fun q => c q.1)] at z
          rw [z]; exact Or.inr ⟨za_inf, c⟩
      refine ⟨fun a b ha hb => ?_, fun s hs => ?_, fun g => ⟨fun _ => trivial, fun _ a b ha hb hab => ?_⟩⟩
      · have := e a b ha hb; omega
      · have := e s s hs hs; omega
      · obtain ⟨z1, z2⟩ | ⟨z1, z2⟩ := e a b ha hb
        · rw [z2] at z1 ⊢; omega
        · omega
    exact zx_addBound za_in0 za_in1 (by rw [za_i0]; omega) T (fun di hT => h di (zf_tab_iff hT (fun g => by rw [za_i0]; exact ⟨fun z => z.2, fun z => ⟨trivial, z⟩⟩)))
  | succ d ih =>
    intro s n di hs hn hd
    obtain ⟨n, rfl⟩ : ∃ c, n = c + 1 := ⟨n - 1, by omega⟩
    rw [wX_openFacts_24]
    dsimp only
    rw [za_m11, nI_clamp (show s * 11 < 2 ^ 31 by omega)]
    refine pk_le 10 s (fun z => absurd z (by omega)) (fun _ => ⟨vp_in_nI (by omega) (by decide), nm_e (nm_r (nI_1 s) (ih (s + 1) n _ (by omega) (by omega) (fun a b ha hb => ?_)))⟩)
    by_cases c : a * 10 + b = s * 11
    · rw [c, pk_us, if_pos (by omega)]
    · rw [pk_un c, hd a b ha hb]
      by_cases c2 : a = b ∧ a < s
      · rw [if_pos c2, if_pos (by omega)]
      · rw [if_neg c2, if_neg (by omega)]
theorem zx_of2 {post : SX → Prop} (h : ∀ di, zf_tab (zx_d di) (fun g => zw_Z g 0 1 0) → post (xFL, xNL, xQL, xN, xFi, xWc, xNs, xNp, xBe, xQc, xEc, xIn, xIf, 0, xLe, xDp, xCa, xPc, xRr, xLn, ki, aa, ab, ac, pa, so, ow, eo, sn, st, wt, ql, qr, qb, el, er, eb, cs, di, ce, vx, rt)) : ∀ (d s n : Nat) (di : Nat → Int32), s + d = 100 → d < n →
    (∀ j, j < s → di j = 1000000000) → wX_openFacts_2 post xFL xNL xQL xN xFi xWc xNs xNp xBe xQc xEc xIn xIf xCt xLe xDp xCa xPc xRr xLn n (nI s) ki aa ab ac pa so ow eo sn st wt ql qr qb el er eb cs di ce vx rt := by
  intro d
  induction d with
  | zero =>
    intro s n di hs hn hd
    obtain ⟨n, rfl⟩ : ∃ c, n = c + 1 := ⟨n - 1, by omega⟩
    rw [wX_openFacts_2]
    refine pk_le 100 s (fun _ => ⟨11, zx_of24 h 10 0 11 di (by omega) (by omega) (fun a b ha hb => ?_)⟩) (fun z => absurd z (by omega))
    rw [hd _ (by omega), if_neg (by omega)]
  | succ d ih =>
    intro s n di hs hn hd
    obtain ⟨n, rfl⟩ : ∃ c, n = c + 1 := ⟨n - 1, by omega⟩
    rw [wX_openFacts_2]
    dsimp only
    rw [nI_clamp (show s < 2 ^ 31 by omega)]
    refine pk_le 100 s (fun z => absurd z (by omega)) (fun _ => ⟨vp_in_nI (by omega) (by decide), nm_e (nm_r (nI_1 s) (ih (s + 1) n _ (by omega) (by omega) (fun j hj => ?_)))⟩)
    by_cases c : j = s
    · rw [c, pk_us]
    · rw [pk_un c]; exact hd j (by omega)
theorem zx_openFacts {post : SX → Prop} (h : ∀ di, zf_tab (zx_d di) (fun g => zw_Z g 0 1 0) → post (xFL, xNL, xQL, xN, xFi, xWc, xNs, xNp, xBe, xQc, xEc, xIn, xIf, 0, xLe, xDp, xCa, xPc, xRr, xLn, ki, aa, ab, ac, pa, so, ow, eo, sn, st, wt, ql, qr, qb, el, er, eb, cs, di, ce, vx, rt)) : wpX_openFacts post (xFL, xNL, xQL, xN, xFi, xWc, xNs, xNp, xBe, xQc, xEc, xIn, xIf, xCt, xLe, xDp, xCa, xPc, xRr, xLn, ki, aa, ab, ac, pa, so, ow, eo, sn, st, wt, ql, qr, qb, el, er, eb, cs, di, ce, vx, rt) :=
  ⟨101, zx_of2 h 100 0 101 di (by omega) (by omega) (fun j hj => absurd hj (Nat.not_lt_zero j))⟩
theorem zx_hn2 {post : Int32 → Prop} (h1 : (∃ s, s < 10 ∧ zx_d di s s < 0) → post 1) (h0 : (∀ s, s < 10 → 0 ≤ zx_d di s s) → post 0) : ∀ (d s n : Nat), s + d = 10 → d < n →
    (∀ j, j < s → 0 ≤ zx_d di j j) → wX_hasNegativeLoop_2 post xFL xNL xQL xN xFi xWc xNs xNp xBe xQc xEc xIn xIf xCt xLe xDp xCa xPc xRr xLn ki aa ab ac pa so ow eo sn st wt ql qr qb el er eb cs di ce vx rt n (nI s) := by
  intro d
  induction d with
  | zero =>
    intro s n hs hn hd
    obtain ⟨n, rfl⟩ : ∃ c, n = c + 1 := ⟨n - 1, by omega⟩
    rw [wX_hasNegativeLoop_2]
    exact pk_le 10 s (fun _ => h0 (fun j hj => hd j (by omega))) (fun z => absurd z (by omega))
  | succ d ih =>
    intro s n hs hn hd
    obtain ⟨n, rfl⟩ : ∃ c, n = c + 1 := ⟨n - 1, by omega⟩
    have e : s * 11 = s * 10 + s := by omega
    rw [wX_hasNegativeLoop_2]
    dsimp only
    rw [za_m11, nI_clamp (show s * 11 < 2 ^ 31 by omega), e]
    refine pk_le 10 s (fun z => absurd z (by omega)) (fun _ => ⟨vp_in_nI (by omega) (by decide), za_le (fun c => nm_r (nI_1 s) (ih (s + 1) n (by omega) (by omega) (fun j hj => ?_))) (fun c => h1 ⟨s, by omega, ?_⟩)⟩)
    · rw [za_i0] at c
      by_cases ej : j = s
      · rw [ej]; exact c
      · exact hd j (by omega)
    · rw [za_i0] at c; exact c
theorem zx_hn {post : Int32 → Prop} (h1 : (∃ s, s < 10 ∧ zx_d di s s < 0) → post 1) (h0 : (∀ s, s < 10 → 0 ≤ zx_d di s s) → post 0) : wpX_hasNegativeLoop post (xFL, xNL, xQL, xN, xFi, xWc, xNs, xNp, xBe, xQc, xEc, xIn, xIf, xCt, xLe, xDp, xCa, xPc, xRr, xLn, ki, aa, ab, ac, pa, so, ow, eo, sn, st, wt, ql, qr, qb, el, er, eb, cs, di, ce, vx, rt) :=
  ⟨11, zx_hn2 h1 h0 10 0 11 (by omega) (by omega) (fun j hj => absurd hj (Nat.not_lt_zero j))⟩
/-- the table while it is relaxed through m: cells below t are done -/
def zx_C (d0 : Nat → Nat → Int) (m t : Nat) (di : Nat → Int32) : Prop := ∀ a b, a < 10 → b < 10 → zx_d di a b = if a * 10 + b < t then zf_rx d0 m a b else d0 a b
theorem zx_C_lo {d0 : Nat → Nat → Int} {m t a b : Nat} (h : zx_C d0 m t di) (ha : a < 10) (hb : b < 10) (c : a * 10 + b < t) : zx_d di a b = zf_rx d0 m a b := by rw [h a b ha hb, if_pos c]
theorem zx_C_hi {d0 : Nat → Nat → Int} {m t a b : Nat} (h : zx_C d0 m t di) (ha : a < 10) (hb : b < 10) (c : ¬ a * 10 + b < t) : zx_d di a b = d0 a b := by rw [h a b ha hb, if_neg c]
theorem zx_C_keep {d0 : Nat → Nat → Int} {m l r t : Nat} (hr : r < 10) (h : zx_C d0 m (l * 10 + r) di) (ht : t ≤ l * 10 + 10) (e : ∀ b, r ≤ b → l * 10 + b < t → b < 10 → zf_rx d0 m l b = d0 l b) (hrt : l * 10 + r ≤ t) : zx_C d0 m t di := by
  intro a b ha hb
  rw [h a b ha hb]
  by_cases c : a * 10 + b < l * 10 + r
  · rw [if_pos c, if_pos (by omega)]
  · rw [if_neg c]
    by_cases c2 : a * 10 + b < t
    · have ea : a = l := by omega
      rw [if_pos c2, ea, e b (by omega) (by omega) hb]
    · rw [if_neg c2]
theorem zx_r23 {post : SX → Prop} {J2 : Int32 → Int32 → Int32 → Int32 → Int32 → Int32 → Int32 → Int32 → Int32 → Int32 → Int32 → Int32 → Int32 → Int32 → Int32 → Int32 → Int32 → Int32 → Int32 → Int32 → Int32 → (Nat → Int32) → (Nat → Int32) → (Nat → Int32) → (Nat → Int32) → (Nat → Int32) → (Nat → Int32) → (Nat → Int32) → (Nat → Int32) → (Nat → Int32) → (Nat → Int32) → (Nat → Int32) → (Nat → Int32) → (Nat → Int32) → (Nat → Int32) → (Nat → Int32) → (Nat → Int32) → (Nat → Int32) → (Nat → Int32) → (Nat → Int32) → (Nat → Int32) → (Nat → Int32) → (Nat → Int32) → Prop} {m l : Nat} {x3 : Int32} {d0 : Nat → Nat → Int} {B : Int} (hm : m < 10) (hl : l < 10) (hB : 0 ≤ B) (hB2 : B < 100000000) (hb : zf_bd d0 B) (h0 : 0 ≤ d0 m m) (hf : x3.toInt = d0 l m)
    (h : ∀ di, zx_C d0 m (l * 10 + 10) di → J2 (nI (l + 1)) xFL xNL xQL xN xFi xWc xNs xNp xBe xQc xEc xIn xIf xCt xLe xDp xCa xPc xRr xLn ki aa ab ac pa so ow eo sn st wt ql qr qb el er eb cs di ce vx rt) : ∀ (d r n : Nat) (di : Nat → Int32), r + d = 10 → d < n → zx_C d0 m (l * 10 + r) di →
    wX_relaxThrough_23 post J2 (nI m) (nI l) x3 n (nI r) xFL xNL xQL xN xFi xWc xNs xNp xBe xQc xEc xIn xIf xCt xLe xDp xCa xPc xRr xLn ki aa ab ac pa so ow eo sn st wt ql qr qb el er eb cs di ce vx rt := by
  intro d
  induction d with
  | zero =>
    intro r n di hr hn hC
    obtain ⟨n, rfl⟩ : ∃ c, n = c + 1 := ⟨n - 1, by omega⟩
    have hr' : r = 10 := hr
    subst hr'
    rw [wX_relaxThrough_23]
    exact pk_le 10 10 (fun _ => nm_r (nI_1 l) (h di hC)) (fun z => absurd z (Nat.lt_irrefl _))
  | succ d ih =>
    intro r n di hr hn hC
    obtain ⟨n, rfl⟩ : ∃ c, n = c + 1 := ⟨n - 1, by omega⟩
    have hr10 : r < 10 := by omega
    have ei : nI m * 10 + nI r = nI (m * 10 + r) := by rw [za_m10, nI_add]
    rw [wX_relaxThrough_23]
    dsimp only
    rw [ei, nI_clamp (show m * 10 + r < 2 ^ 31 by omega)]
    have e2 : (di (m * 10 + r)).toInt = d0 m r := by
      have z := hC m r hm hr10
      unfold zx_d at z
      rw [z]
      split
      · exact zf_rx_r h0
      · rfl
    refine pk_le 10 r (fun z => absurd z (by omega)) (fun _ => za_le (fun c => nm_r (nI_1 l) (h di ?_)) (fun c => ⟨vp_in_nI (by omega) (by decide), nm_e (za_le (fun c2 => nm_r (nI_1 r) (ih (r + 1) n di (by omega) (by omega) ?_)) (fun c2 => ?_))⟩))
    · rw [za_inf, hf] at c
      exact zx_C_keep hr10 hC (Nat.le_refl _) (fun b _ _ _ => zf_rx_i (fun z => by omega)) (by omega)
    · rw [za_inf, e2] at c2
      refine zx_C_keep hr10 hC (by omega) (fun b hb1 hb2 _ => zf_rx_i (fun z => ?_)) (by omega)
      have : b = r := by omega
      rw [this] at z
      omega
    · rw [za_inf, hf] at c
      rw [za_inf, e2] at c2
      have b1 := hb l m hl hm
      have b2 := hb m r hm hr10
      have es : (x3 + di (m * 10 + r)).toInt = d0 l m + d0 m r := by rw [za_ad (by rw [hf, e2]; omega) (by rw [hf, e2]; omega), hf, e2]
      have et : zx_d di l r = d0 l r := zx_C_hi hC hl hr10 (by omega)
      refine zx_addB hl hr10 (fun c3 => nm_r (nI_1 r) (ih (r + 1) n di (by omega) (by omega) ?_)) (fun c3 => nm_r (nI_1 r) (ih (r + 1) n (upd di (l * 10 + r) (x3 + di (m * 10 + r))) (by omega) (by omega) ?_))
      · rw [es, et] at c3
        refine zx_C_keep hr10 hC (by omega) (fun b hb1 hb2 _ => zf_rx_i (fun z => ?_)) (by omega)
        have : b = r := by omega
        rw [this] at z
        omega
      · rw [es, et] at c3
        intro a b ha hb'
        by_cases e : a * 10 + b = l * 10 + r
        · have ea : a = l := by omega
          have eb : b = r := by omega
          subst ea eb
          rw [if_pos (by omega), zf_rx_j c c2 c3]
          unfold zx_d
          rw [pk_us, es]
        · have z := hC a b ha hb'
          unfold zx_d at z ⊢
          rw [pk_un e, z]
          by_cases c4 : a * 10 + b < l * 10 + r
          · rw [if_pos c4, if_pos (by omega)]
          · rw [if_neg c4, if_neg (by omega)]
theorem zx_r2 {post : SX → Prop} {m : Nat} {d0 : Nat → Nat → Int} {B : Int} (hm : m < 10) (hB : 0 ≤ B) (hB2 : B < 100000000) (hb : zf_bd d0 B) (h0 : 0 ≤ d0 m m)
    (h : ∀ di, (∀ a b, a < 10 → b < 10 → zx_d di a b = zf_rx d0 m a b) → post (xFL, xNL, xQL, xN, xFi, xWc, xNs, xNp, xBe, xQc, xEc, xIn, xIf, xCt, xLe, xDp, xCa, xPc, xRr, xLn, ki, aa, ab, ac, pa, so, ow, eo, sn, st, wt, ql, qr, qb, el, er, eb, cs, di, ce, vx, rt)) : ∀ (d l n : Nat) (di : Nat → Int32), l + d = 10 → d < n → zx_C d0 m (l * 10) di →
    wX_relaxThrough_2 post (nI m) n (nI l) xFL xNL xQL xN xFi xWc xNs xNp xBe xQc xEc xIn xIf xCt xLe xDp xCa xPc xRr xLn ki aa ab ac pa so ow eo sn st wt ql qr qb el er eb cs di ce vx rt := by
  intro d
  induction d with
  | zero =>
    intro l n di hl hn hC
    obtain ⟨n, rfl⟩ : ∃ c, n = c + 1 := ⟨n - 1, by omega⟩
    rw [wX_relaxThrough_2]
    exact pk_le 10 l (fun _ => h di (fun a b ha hb' => zx_C_lo hC ha hb' (by omega))) (fun z => absurd z (by omega))
  | succ d ih =>
    intro l n di hl hn hC
    obtain ⟨n, rfl⟩ : ∃ c, n = c + 1 := ⟨n - 1, by omega⟩
    have ei : nI l * 10 + nI m = nI (l * 10 + m) := by rw [za_m10, nI_add]
    rw [wX_relaxThrough_2]
    dsimp only
    rw [ei, nI_clamp (show l * 10 + m < 2 ^ 31 by omega)]
    refine pk_le 10 l (fun z => absurd z (by omega)) (fun _ => ⟨vp_in_nI (by omega) (by decide), nm_e ⟨11, zx_r23 hm (by omega) hB hB2 hb h0 ?_ (fun di hC' => ?_) 10 0 11 di (by omega) (by omega) hC⟩⟩)
    · exact zx_C_hi hC (by omega) hm (by omega)
    · refine ih (l + 1) n di (by omega) (by omega) ?_
      have e : (l + 1) * 10 = l * 10 + 10 := by omega
      rw [e]; exact hC'
theorem zx_relax {post : SX → Prop} {m : Nat} {B : Int} (hm : m < 10) (hB : 0 ≤ B) (hB2 : B < 100000000) (hb : zf_bd (zx_d di) B) (h0 : 0 ≤ zx_d di m m)
    (h : ∀ di', (∀ a b, a < 10 → b < 10 → zx_d di' a b = zf_rx (zx_d di) m a b) → post (xFL, xNL, xQL, xN, xFi, xWc, xNs, xNp, xBe, xQc, xEc, xIn, xIf, xCt, xLe, xDp, xCa, xPc, xRr, xLn, ki, aa, ab, ac, pa, so, ow, eo, sn, st, wt, ql, qr, qb, el, er, eb, cs, di', ce, vx, rt)) : wpX_relaxThrough post (xFL, xNL, xQL, xN, xFi, xWc, xNs, xNp, xBe, xQc, xEc, xIn, xIf, xCt, xLe, xDp, xCa, xPc, xRr, xLn, ki, aa, ab, ac, pa, so, ow, eo, sn, st, wt, ql, qr, qb, el, er, eb, cs, di, ce, vx, rt) (nI m) :=
  ⟨11, zx_r2 hm hB hB2 hb h0 h 10 0 11 di (by omega) (by omega) (fun a b ha hb' => by rw [if_neg (by omega)])⟩
def zf_B : Nat → Int
  | 0 => 1001
  | n + 1 => 2 * zf_B n
theorem zf_B_le : ∀ m, m < 11 → 0 ≤ zf_B m ∧ zf_B m ≤ 1025024 := by decide +kernel
theorem zf_stg_cg {d d' : Nat → Nat → Int} {S : (Nat → Int) → Prop} {m : Nat} {B : Int} (hm : m ≤ 10) (e : ∀ a b, a < 10 → b < 10 → d' a b = d a b) 
    (h : zf_bd d B ∧ (∀ s, s < 10 → d s s ≤ 0) ∧ zf_cl d m ∧ ∀ g, zf_sol d g ↔ S g) : zf_bd d' B ∧ (∀ s, s < 10 → d' s s ≤ 0) ∧ zf_cl d' m ∧ ∀ g, zf_sol d' g ↔ S g := by
  obtain ⟨h1, h2, h3, h4⟩ := h
  refine ⟨fun a b ha hb => by rw [e a b ha hb]; exact h1 a b ha hb, fun s hs => by rw [e s s hs hs]; exact h2 s hs, fun c a b hc ha hb => ?_, fun g => Iff.trans ⟨fun z a b ha hb => ?_, fun z a b ha hb => ?_⟩ (h4 g)⟩
  · rw [e a c ha (by omega), e c b (by omega) hb, e a b ha hb]; exact h3 c a b hc ha hb
  · have y := z a b ha hb; rw [e a b ha hb] at y; exact y
  · rw [e a b ha hb]; exact z a b ha hb
theorem zx_c10 {post : SX → Prop} {S : (Nat → Int) → Prop} (h : ∀ di xCt, zf_ans (zx_d di) xCt S → post (xFL, xNL, xQL, xN, xFi, xWc, xNs, xNp, xBe, xQc, xEc, xIn, xIf, xCt, xLe, xDp, xCa, xPc, xRr, xLn, ki, aa, ab, ac, pa, so, ow, eo, sn, st, wt, ql, qr, qb, el, er, eb, cs, di, ce, vx, rt)) : ∀ (d m n : Nat) (di : Nat → Int32) (xCt : Int32), m + d = 10 → d < n →
    ((xCt = 1 ∧ zf_ans (zx_d di) 1 S) ∨ (xCt = 0 ∧ zf_stg (zx_d di) S m (zf_B m))) → wX_closeFacts_10 post n (nI m) xFL xNL xQL xN xFi xWc xNs xNp xBe xQc xEc xIn xIf xCt xLe xDp xCa xPc xRr xLn ki aa ab ac pa so ow eo sn st wt ql qr qb el er eb cs di ce vx rt := by
  intro d
  induction d with
  | zero =>
    intro m n di xCt hm hn I
    obtain ⟨n, rfl⟩ : ∃ c, n = c + 1 := ⟨n - 1, by omega⟩
    have hm' : m = 10 := hm
    subst hm'
    rw [wX_closeFacts_10]
    refine pk_le 10 10 (fun _ => h di xCt ?_) (fun z => absurd z (Nat.lt_irrefl _))
    obtain ⟨e, I⟩ | ⟨e, I⟩ := I
    · rw [e]; exact I
    · rw [e]; exact zf_fin (zf_B_le 10 (by omega)).1 (by have := (zf_B_le 10 (by omega)).2; omega) I
  | succ d ih =>
    intro m n di xCt hm hn I
    obtain ⟨n, rfl⟩ : ∃ c, n = c + 1 := ⟨n - 1, by omega⟩
    rw [wX_closeFacts_10]
    refine pk_le 10 m (fun z => absurd z (by omega)) (fun _ => ?_)
    obtain ⟨e, I⟩ | ⟨e, I⟩ := I
    · subst e
      exact br_f za_n10 (h di 1 I)
    · subst e
      have bB := zf_B_le m (by omega)
      refine br_t rfl (zx_relax (B := zf_B m) (by omega) bB.1 (by omega) I.1 (by rw [I.2.1 m (by omega)]; exact Int.le_refl _) (fun di' hd => ?_))
      have T := zf_stg_cg (by omega) hd (zf_stg_s (by omega) bB.1 (by omega) I)
      refine zx_hn (fun ⟨s, hs, z⟩ => ⟨rfl, za_fb1, nm_r (nI_1 m) (ih (m + 1) n di' 1 (by omega) (by omega) (Or.inl ⟨rfl, zf_neg hs z T.2.2.2⟩))⟩) (fun z => ⟨rfl, za_fb0, nm_r (nI_1 m) (ih (m + 1) n di' 0 (by omega) (by omega) (Or.inr ⟨rfl, T.1, fun s hs => ?_, T.2.2⟩))⟩)
      have := T.2.1 s hs
      have := z s hs
      omega
theorem zx_closeFacts {post : SX → Prop} {S : (Nat → Int) → Prop} (hT : zf_tab (zx_d di) S) (h : ∀ di xCt, zf_ans (zx_d di) xCt S → post (xFL, xNL, xQL, xN, xFi, xWc, xNs, xNp, xBe, xQc, xEc, xIn, xIf, xCt, xLe, xDp, xCa, xPc, xRr, xLn, ki, aa, ab, ac, pa, so, ow, eo, sn, st, wt, ql, qr, qb, el, er, eb, cs, di, ce, vx, rt)) : wpX_closeFacts post (xFL, xNL, xQL, xN, xFi, xWc, xNs, xNp, xBe, xQc, xEc, xIn, xIf, xCt, xLe, xDp, xCa, xPc, xRr, xLn, ki, aa, ab, ac, pa, so, ow, eo, sn, st, wt, ql, qr, qb, el, er, eb, cs, di, ce, vx, rt) := by
  unfold wpX_closeFacts
  refine zx_hn (fun ⟨s, hs, z⟩ => ⟨rfl, za_fb1, 11, zx_c10 h 10 0 11 di 1 (by omega) (by omega) (Or.inl ⟨rfl, zf_neg hs z hT.2.2⟩)⟩) (fun z => ⟨rfl, za_fb0, 11, zx_c10 h 10 0 11 di 0 (by omega) (by omega) (Or.inr ⟨rfl, zf_stg_0 hT z⟩)⟩)
theorem zx_forced {post : Int32 → Prop} {x y k : Int32} {S : (Nat → Int) → Prop} (hA : zf_ans (zx_d di) xCt S) (hx : vp_in x 10) (hy : vp_in y 10) (hk : k.toInt ≤ 1000)
    (h : post (za_b (zf_ent S x.toNatClampNeg y.toNatClampNeg k.toInt))) : wpX_forced post (xFL, xNL, xQL, xN, xFi, xWc, xNs, xNp, xBe, xQc, xEc, xIn, xIf, xCt, xLe, xDp, xCa, xPc, xRr, xLn, ki, aa, ab, ac, pa, so, ow, eo, sn, st, wt, ql, qr, qb, el, er, eb, cs, di, ce, vx, rt) x y k := by
  obtain ⟨l, hl, rfl⟩ := vp_in_of hx (by decide)
  obtain ⟨r, hr, rfl⟩ := vp_in_of hy (by decide)
  rw [nI_clamp (by omega), nI_clamp (by omega)] at h
  have A := hA l r k.toInt hl hr (by omega)
  unfold wpX_forced
  have ei : nI l * 10 + nI r = nI (l * 10 + r) := by rw [za_m10, nI_add]
  dsimp only
  rw [ei, nI_clamp (show l * 10 + r < 2 ^ 31 by omega)]
  by_cases c : xCt = 0
  · refine br_t c ⟨vp_in_nI (by omega) (by decide), za_lt (fun z => ?_) (fun z => ?_)⟩
    · rw [za_bf (fun q => by
        obtain q | q := A.mpr q
        · exact q c
        · unfold zx_d at q; omega)] at h
      exact h
    · rw [za_bt (A.mp (Or.inr z))] at h; exact h
  · rw [za_bt (A.mp (Or.inl c))] at h
    exact br_f c h
theorem zx_inst {post : Int32 → Prop} {v x y z : Int32} (h : post (zw_pk v x y z)) : wpX_instance post (xFL, xNL, xQL, xN, xFi, xWc, xNs, xNp, xBe, xQc, xEc, xIn, xIf, xCt, xLe, xDp, xCa, xPc, xRr, xLn, ki, aa, ab, ac, pa, so, ow, eo, sn, st, wt, ql, qr, qb, el, er, eb, cs, di, ce, vx, rt) v x y z := by
  unfold wpX_instance
  unfold zw_pk at h
  by_cases h2 : v = 2
  · rw [if_pos h2] at h; exact br_t h2 h
  · rw [if_neg h2] at h
    refine br_f h2 ?_
    by_cases h3 : v = 3
    · rw [if_pos h3] at h; exact br_t h3 h
    · rw [if_neg h3] at h
      refine br_f h3 ?_
      by_cases h4 : v = 4
      · rw [if_pos h4] at h; exact br_t h4 h
      · rw [if_neg h4] at h; exact br_f h4 h
end
end
section
section
variable {xFL xNL xQL xN xFi xWc xNs xNp xBe xQc xEc xIn xIf xCt xLe xDp xCa xPc xRr xLn : Int32} {ki aa ab ac pa so ow eo sn st wt ql qr qb el er eb cs di ce vx rt : Nat → Int32}
theorem zx_ac13 {post : SX → Prop} {x3 x4 x5 : Int32} {a Q : Nat} {S : (Nat → Int) → Prop} (hQ : zw_QV ql qr qb Q) (ha : a < 6) (h3 : vp_in x3 10) (h4 : vp_in x4 10) (h5 : vp_in x5 10)
    (h : ∀ di, zf_tab (zx_d di) (fun g => S g ∧ zw_H ql qr qb cs a x3 x4 x5 Q g) → post (xFL, xNL, xQL, xN, xFi, xWc, xNs, xNp, xBe, nI Q, xEc, xIn, xIf, xCt, xLe, xDp, xCa, xPc, xRr, xLn, ki, aa, ab, ac, pa, so, ow, eo, sn, st, wt, ql, qr, qb, el, er, eb, cs, di, ce, vx, rt)) :
    ∀ (d q n : Nat) (di : Nat → Int32), q + d = Q → d < n → zf_tab (zx_d di) (fun g => S g ∧ zw_H ql qr qb cs a x3 x4 x5 q g) →
    wX_addChosen_13 post x3 x4 x5 (nI (a * 8)) n (nI q) xFL xNL xQL xN xFi xWc xNs xNp xBe (nI Q) xEc xIn xIf xCt xLe xDp xCa xPc xRr xLn ki aa ab ac pa so ow eo sn st wt ql qr qb el er eb cs di ce vx rt := by
  intro d
  induction d with
  | zero =>
    intro q n di hq hn hS
    obtain ⟨n, rfl⟩ : ∃ c, n = c + 1 := ⟨n - 1, by omega⟩
    have hq' : q = Q := hq
    subst hq'
    have := hQ.1
    rw [wX_addChosen_13]
    exact pk_le q q (fun _ => h di hS) (fun z => absurd z (Nat.lt_irrefl q))
  | succ d ih =>
    intro q n di hq hn hS
    obtain ⟨n, rfl⟩ : ∃ c, n = c + 1 := ⟨n - 1, by omega⟩
    have q8 := hQ.1
    obtain ⟨q1, q2, q3, q4⟩ := hQ.2 q (by omega)
    have hq8 : vp_in (nI q) 8 := vp_in_nI (by omega) (by decide)
    rw [wX_addChosen_13]
    dsimp only
    rw [nI_add, nI_clamp (show q < 2 ^ 31 by omega), nI_clamp (show a * 8 + q < 2 ^ 31 by omega)]
    refine pk_le Q q (fun z => absurd z (by omega)) (fun _ => ⟨vp_in_nI (by omega) (by decide), br_c (fun e => ?_) (fun e => ?_)⟩)
    · exact nm_r (nI_1 q) (ih (q + 1) n di (by omega) (by omega) (zf_tab_iff hS (fun g => and_congr_right (fun _ => zw_Hn e))))
    · refine ⟨hq8, zx_inst ⟨hq8, zx_inst ⟨hq8, zx_addBound (zw_pk_in q1 h3 h4 h5) (zw_pk_in q2 h3 h4 h5) (by omega) hS (fun di hS' => nm_r (nI_1 q) (ih (q + 1) n di (by omega) (by omega) (zf_tab_iff hS' (fun g => ?_))))⟩⟩⟩
      rw [and_assoc]
      exact and_congr_right (fun _ => zw_Hs e)
theorem zx_addChosen {post : SX → Prop} {x y z : Int32} {s f Q : Nat} {S : (Nat → Int) → Prop} (hQ : zw_QV ql qr qb Q) (ha : s * 3 + f < 6) (hx : vp_in x 10) (hy : vp_in y 10) (hz : vp_in z 10) (hS : zf_tab (zx_d di) S)
    (h : ∀ di, zf_tab (zx_d di) (fun g => S g ∧ zw_H ql qr qb cs (s * 3 + f) x y z Q g) → post (xFL, xNL, xQL, xN, xFi, xWc, xNs, xNp, xBe, nI Q, xEc, xIn, xIf, xCt, xLe, xDp, xCa, xPc, xRr, xLn, ki, aa, ab, ac, pa, so, ow, eo, sn, st, wt, ql, qr, qb, el, er, eb, cs, di, ce, vx, rt)) : wpX_addChosen post (xFL, xNL, xQL, xN, xFi, xWc, xNs, xNp, xBe, nI Q, xEc, xIn, xIf, xCt, xLe, xDp, xCa, xPc, xRr, xLn, ki, aa, ab, ac, pa, so, ow, eo, sn, st, wt, ql, qr, qb, el, er, eb, cs, di, ce, vx, rt) (nI s) (nI f) x y z := by
  unfold wpX_addChosen
  refine nm_r (e' := nI ((s * 3 + f) * 8)) (by rw [za_m3, nI_add, za_m8]) ⟨Q + 1, ?_⟩
  exact zx_ac13 hQ ha hx hy hz h Q 0 (Q + 1) di (by omega) (by omega) (zf_tab_iff hS (fun g => ⟨fun z => ⟨z, zw_H0⟩, fun z => z.1⟩))
theorem zx_anf {post : SX → Prop} {po : Nat → Int32} {p F Q : Nat} {s : Bool} {S : (Nat → Int) → Prop} (hp : p < 24) (hF : F ≤ 3) (hNV : zw_NV ki aa ab ac F p) (h7 : ki p ≠ 7) (hso : so p = nI (zw_sc ki p)) (hQ : zw_QV ql qr qb Q)
    (hcs : ∀ i, i < 24 → cs (24 + i) = po i) (hS : zf_tab (zx_d di) S)
    (h : ∀ di, zf_tab (zx_d di) (fun g => S g ∧ zw_F ki aa ab ac ql qr qb po Q p s (nI (zw_sc ki p)) g) → post (xFL, xNL, xQL, xN, xFi, xWc, xNs, xNp, xBe, nI Q, xEc, xIn, xIf, xCt, xLe, xDp, xCa, xPc, xRr, xLn, ki, aa, ab, ac, pa, so, ow, eo, sn, st, wt, ql, qr, qb, el, er, eb, cs, di, ce, vx, rt)) : wpX_addNodeFacts post (xFL, xNL, xQL, xN, xFi, xWc, xNs, xNp, xBe, nI Q, xEc, xIn, xIf, xCt, xLe, xDp, xCa, xPc, xRr, xLn, ki, aa, ab, ac, pa, so, ow, eo, sn, st, wt, ql, qr, qb, el, er, eb, cs, di, ce, vx, rt) (nI p) (zw_b s) := by
  obtain ⟨v0, v1, v2, v3, v4, v5, v6⟩ := hNV
  have hp31 : p < 2 ^ 31 := by omega
  have hpp : vp_in (nI p) 24 := vp_in_nI (by omega) (by decide)
  have hd : zw_i (ki p) = 1 → vp_in (nI (zw_sc ki p)) 10 := fun z => vp_in_nI (v6 z) (by decide)
  unfold wpX_addNodeFacts
  refine ⟨hpp, nm_r (za_rd hp31) ⟨hpp, nm_r (za_rd hp31) ⟨hpp, nm_r (za_rd hp31) ⟨hpp, nm_r (e' := nI (zw_sc ki p)) (by rw [nI_clamp hp31]; exact hso) ⟨hpp, nm_r (za_rd hp31) ?_⟩⟩⟩⟩⟩
  obtain k | k | k | k | k | k | k := v0
  · have hd' := hd (by rw [k]; decide)
    have v2 := v2 k
    have ne : (-(ab p)).toInt = -(ab p).toInt := za_ne (by omega)
    refine br_f (by rw [k]; decide) (br_f (by rw [k]; decide) (br_t k (zx_addBound hd' v1 (by omega) hS (fun di hS => zx_addBound v1 hd' (by omega) hS (fun di hS => h di (zf_tab_iff hS (fun g => ?_)))))))
    rw [zw_F1 k, ne, and_assoc]
  · refine br_f (by rw [k]; decide) (br_f (by rw [k]; decide) (br_f (by rw [k]; decide) (br_t k (h di (zf_tab_iff hS (fun g => ?_))))))
    rw [zw_F2 k, and_true]
  · refine br_f (by rw [k]; decide) (br_f (by rw [k]; decide) (br_f (by rw [k]; decide) (br_f (by rw [k]; decide) (br_t k (zx_addBound za_in0 v1 (by rw [za_i0]; omega) hS (fun di hS => zx_addBound v1 za_in1 (by rw [za_im1]; omega) hS (fun di hS => h di (zf_tab_iff hS (fun g => ?_)))))))))
    rw [zw_F3 k, za_i0, za_im1, and_assoc]
  · have hd' := hd (by rw [k]; decide)
    obtain ⟨w1, w2, w3⟩ := v4 k
    obtain ⟨a, ha, ea⟩ := vp_in_of w1 (by omega)
    refine br_f (by rw [k]; decide) (br_f (by rw [k]; decide) (br_f (by rw [k]; decide) (br_f (by rw [k]; decide) (br_f (by rw [k]; decide) (br_t k ?_)))))
    rw [ea]
    refine zx_addChosen (s := 1) hQ (by omega) w2 w3 hd' hS (fun di hS => h di (zf_tab_iff hS (fun g => ?_)))
    rw [zw_F4 k, ea, nI_clamp (by omega)]
    have ec : ∀ q, q < Q → cs ((1 * 3 + a) * 8 + q) = po (a * 8 + q) := fun q hq => by
      have := hQ.1
      rw [← hcs (a * 8 + q) (by omega)]
      exact congrArg cs (by omega)
    exact and_congr_right (fun _ => ⟨fun H q hq hp => H q hq (by rw [ec q hq]; exact hp), fun H q hq hp => H q hq (by rw [ec q hq] at hp; exact hp)⟩)
  · obtain ⟨w1, w2⟩ := v5 (Or.inl k)
    refine br_f (by rw [k]; decide) (br_f (by rw [k]; decide) (br_f (by rw [k]; decide) (br_f (by rw [k]; decide) (br_f (by rw [k]; decide) (br_f (by rw [k]; decide) (br_t k (zx_addBound v1 w1 (by omega) hS (fun di hS => h di (zf_tab_iff hS (fun g => ?_)))))))))) 
    rw [zw_F5 k]
  · obtain ⟨w1, w2⟩ := v5 (Or.inr k)
    refine br_f (by rw [k]; decide) (br_f (by rw [k]; decide) (br_f (by rw [k]; decide) (br_f (by rw [k]; decide) (br_f (by rw [k]; decide) (br_f (by rw [k]; decide) (br_f (by rw [k]; decide) (br_t k ?_)))))))
    unfold wpX_addGuard
    dsimp only
    rw [nI_clamp hp31]
    cases s with
    | false =>
      refine br_t rfl ⟨hpp, hpp, hpp, zx_addBound v1 w1 (by omega) hS (fun di hS => h di (zf_tab_iff hS (fun g => ?_)))⟩
      rw [zw_F6f k]
    | true =>
      have en : (-(ac p) - 1).toInt = -(ac p).toInt - 1 := za_no (by omega) (by omega)
      refine br_f za_n10 ⟨hpp, hpp, hpp, zx_addBound w1 v1 (by omega) hS (fun di hS => h di (zf_tab_iff hS (fun g => ?_)))⟩
      rw [zw_F6t k, en]
  · exact absurd k h7
/-- the class's tree is the replayed one -/
def zr_T (ki pa so ow sn : Nat → Int32) (N : Nat) : Prop := ∀ c, c < N → pa c = zw_hp (zw_w ki c).1 ∧ so c = nI (zw_sc ki c) ∧ ow c = nI (zw_w ki c).2 ∧ sn c = zw_hs (zw_w ki c).1
theorem zx_fa22 {post : SX → Prop} {po : Nat → Int32} {N F Q : Nat} (hN : N ≤ 24) (hF : F ≤ 3) (hT : zr_T ki pa so ow sn N) (hNV : ∀ p, p < N → zw_NV ki aa ab ac F p) (hQ : zw_QV ql qr qb Q)
    (hcs : ∀ i, i < 24 → cs (24 + i) = po i) : ∀ (l : List (Nat × Bool)) (c t n : Nat) (di : Nat → Int32) (S : (Nat → Int) → Prop), (zw_w ki c).1 = l → c < N → l.length < n → t + l.length ≤ 24 → zf_tab (zx_d di) S →
    (∀ di xCt, zf_ans (zx_d di) xCt (fun g => S g ∧ zw_P ki aa ab ac ql qr qb po Q l g) → post (xFL, xNL, xQL, xN, xFi, xWc, xNs, xNp, xBe, nI Q, xEc, xIn, xIf, xCt, xLe, xDp, xCa, xPc, xRr, xLn, ki, aa, ab, ac, pa, so, ow, eo, sn, st, wt, ql, qr, qb, el, er, eb, cs, di, ce, vx, rt)) → wX_factsAt_22 post n (nI c) (nI t) xFL xNL xQL xN xFi xWc xNs xNp xBe (nI Q) xEc xIn xIf xCt xLe xDp xCa xPc xRr xLn ki aa ab ac pa so ow eo sn st wt ql qr qb el er eb cs di ce vx rt := by
  intro l
  induction l with
  | nil =>
    intro c t n di S hl hc hn ht hS h
    obtain ⟨n, rfl⟩ : ∃ c, n = c + 1 := ⟨n - 1, by omega⟩
    have g : wX_factsAt_66 post xFL xNL xQL xN xFi xWc xNs xNp xBe (nI Q) xEc xIn xIf xCt xLe xDp xCa xPc xRr xLn ki aa ab ac pa so ow eo sn st wt ql qr qb el er eb cs di ce vx rt := by
      unfold wX_factsAt_66
      refine zx_closeFacts (zf_tab_iff hS (fun g => ?_)) h
      exact ⟨fun z => ⟨z, trivial⟩, fun z => z.1⟩
    have e : pa c = -1 := by rw [(hT c hc).1, hl]; rfl
    rw [wX_factsAt_22]
    dsimp only
    rw [nI_clamp (show c < 2 ^ 31 by omega), e]
    exact br_c (fun _ => g) (fun _ => ⟨vp_in_nI (by omega) (by decide), br_t (by decide) g⟩)
  | cons a r ih =>
    obtain ⟨p, s⟩ := a
    intro c t n di S hl hc hn ht hS h
    have hn' : r.length + 1 < n := hn
    have ht' : t + (r.length + 1) ≤ 24 := ht
    obtain ⟨n, rfl⟩ : ∃ c, n = c + 1 := ⟨n - 1, by omega⟩
    obtain ⟨h1, h2, h3, h4⟩ := zw_head hl
    have e : pa c = nI p := by rw [(hT c hc).1, hl]; rfl
    have e2 : sn c = zw_b s := by rw [(hT c hc).2.2.2, hl]; rfl
    have esc : zw_sc ki p = 4 + zw_nb ki r := by unfold zw_sc; rw [h2]
    have hcc : vp_in (nI c) 24 := vp_in_nI (by omega) (by decide)
    rw [wX_factsAt_22]
    dsimp only
    rw [nI_clamp (show c < 2 ^ 31 by omega), e, e2]
    refine pk_le 24 t (fun z => absurd z (by omega)) (fun _ => ⟨hcc, br_f (nI_pos (by omega)) ⟨hcc, nm_e ⟨hcc, zx_anf (by omega) hF (hNV p (by omega)) h4 (hT p (by omega)).2.1 hQ hcs hS (fun di hS => nm_r (nI_1 t) ?_)⟩⟩⟩)
    refine ih p (t + 1) n di _ (by rw [h2]) (by omega) (by omega) (by omega) hS (fun di xCt hA => h di xCt ?_)
    have es : (fun g => (S g ∧ zw_F ki aa ab ac ql qr qb po Q p s (nI (zw_sc ki p)) g) ∧ zw_P ki aa ab ac ql qr qb po Q r g) = (fun g => S g ∧ zw_P ki aa ab ac ql qr qb po Q ((p, s) :: r) g) := by
      funext g
      rw [zw_P, esc, and_assoc]
    rw [es] at hA
    exact hA
/-- no chosen entry qualifier speaks of the result -/
def zr_4 (ql qr pr : Nat → Int32) (Q : Nat) : Prop := ∀ f q, f < 3 → q < Q → pr (f * 8 + q) ≠ 0 → ql q ≠ 4 ∧ qr q ≠ 4
theorem zw_pk_23 {v : Int32} (h : v ≠ 4) : zw_pk v 2 3 0 = v := by
  unfold zw_pk
  split
  · rename_i e; exact e.symm
  · split
    · rename_i e; exact e.symm
    · rfl
theorem za_in2 : vp_in (2 : Int32) 10 := vp_in_iff.mpr (by decide)
theorem za_in3 : vp_in (3 : Int32) 10 := vp_in_iff.mpr (by decide)
theorem zx_factsAt {post : SX → Prop} {pr po : Nat → Int32} {N F Q n : Nat} (hN : N ≤ 24) (hF : F ≤ 3) (hT : zr_T ki pa so ow sn N) (hNV : ∀ p, p < N → zw_NV ki aa ab ac F p) (hQ : zw_QV ql qr qb Q)
    (hcp : ∀ i, i < 24 → cs i = pr i) (hcs : ∀ i, i < 24 → cs (24 + i) = po i) (h4 : zr_4 ql qr pr Q) (hn : n < N) (hb : (zw_w ki n).2 < 3)
    (h : ∀ di xCt, zf_ans (zx_d di) xCt (zw_S ki aa ab ac ql qr qb pr po Q n) → post (xFL, xNL, xQL, xN, xFi, xWc, xNs, xNp, xBe, nI Q, xEc, xIn, xIf, xCt, xLe, xDp, xCa, xPc, xRr, xLn, ki, aa, ab, ac, pa, so, ow, eo, sn, st, wt, ql, qr, qb, el, er, eb, cs, di, ce, vx, rt)) : wpX_factsAt post (xFL, xNL, xQL, xN, xFi, xWc, xNs, xNp, xBe, nI Q, xEc, xIn, xIf, xCt, xLe, xDp, xCa, xPc, xRr, xLn, ki, aa, ab, ac, pa, so, ow, eo, sn, st, wt, ql, qr, qb, el, er, eb, cs, di, ce, vx, rt) (nI n) := by
  unfold wpX_factsAt
  have hL := zw_len (ki := ki) n
  have eow : ow (nI n).toNatClampNeg = nI (zw_w ki n).2 := by rw [nI_clamp (by omega)]; exact (hT n hn).2.2.1
  refine zx_openFacts (fun di hS => ⟨vp_in_nI (by omega) (by decide), ?_⟩)
  show wpX_addChosen _ (xFL, xNL, xQL, xN, xFi, xWc, xNs, xNp, xBe, nI Q, xEc, xIn, xIf, 0, xLe, xDp, xCa, xPc, xRr, xLn, ki, aa, ab, ac, pa, so, ow, eo, sn, st, wt, ql, qr, qb, el, er, eb, cs, di, ce, vx, rt) 0 (ow (nI n).toNatClampNeg) 2 3 0
  rw [eow]
  refine zx_addChosen (s := 0) hQ (by omega) za_in2 za_in3 za_in0 hS (fun di hS => ⟨(zw_w ki n).1.length + 1, ?_⟩)
  refine zx_fa22 hN hF hT hNV hQ hcs (zw_w ki n).1 n 0 _ di _ rfl hn (by omega) (by omega) hS (fun di xCt hA => h di xCt ?_)
  have es : (fun g => (zw_Z g 0 1 0 ∧ zw_H ql qr qb cs (0 * 3 + (zw_w ki n).2) 2 3 0 Q g) ∧ zw_P ki aa ab ac ql qr qb po Q (zw_w ki n).1 g) = zw_S ki aa ab ac ql qr qb pr po Q n := by
    funext g
    unfold zw_S zw_B zw_H
    have ec : ∀ q, q < Q → cs ((0 * 3 + (zw_w ki n).2) * 8 + q) = pr ((zw_w ki n).2 * 8 + q) := fun q hq => by
      have := hQ.1
      rw [← hcp ((zw_w ki n).2 * 8 + q) (by omega)]
      exact congrArg cs (by omega)
    refine congrArg (· ∧ _) (congrArg (_ ∧ ·) (propext ⟨fun H q hq hp => ?_, fun H q hq hp => ?_⟩))
    · obtain ⟨z1, z2⟩ := h4 _ q hb hq hp
      have := H q hq (by rw [ec q hq]; exact hp)
      rw [zw_pk_23 z1, zw_pk_23 z2] at this
      exact this
    · rw [ec q hq] at hp
      obtain ⟨z1, z2⟩ := h4 _ q hb hq hp
      rw [zw_pk_23 z1, zw_pk_23 z2]
      exact H q hq hp
  rw [es] at hA
  exact hA
end
end
section
def zr_VR (x : Int32) : Prop := -1000000 ≤ x.toInt ∧ x.toInt ≤ 1000000
/-- the tree -/
def zr_Gt (F NL N : Nat) (ki aa ab ac pa so ow eo sn st wt : Nat → Int32) : Prop :=
  1 ≤ F ∧ F ≤ 3 ∧ NL ≤ 24 ∧ N ≤ NL ∧ zr_T ki pa so ow sn N ∧ (∀ p, p < N → zw_NV ki aa ab ac F p) ∧ (zw_w ki N).2 ≤ F ∧ (∀ n, n < N → (zw_w ki n).2 < F) ∧ (∀ n, n ≤ N → zw_sc ki n ≤ 10) ∧
  zw_Q wt (zw_v ki (zw_w ki N).1) ∧ (∀ m p r, m < N → (zw_w ki m).1 = (p, true) :: r → eo p = nI m) ∧ (∀ n, n < N → (zw_w ki n).1 = [] → st (zw_w ki n).2 = nI n)
/-- qualifiers and entry bounds -/
def zr_Gq (QL Q E : Nat) (ql qr qb el er eb : Nat → Int32) : Prop :=
  QL ≤ 8 ∧ Q ≤ QL ∧ zw_QV ql qr qb Q ∧ E ≤ 4 ∧ ∀ e, e < E → vp_in (el e) 4 ∧ vp_in (er e) 4 ∧ -1000 ≤ (eb e).toInt ∧ (eb e).toInt ≤ 1000
/-- the candidates agree -/
def zr_cc (Q : Nat) (ql qr cs pr po : Nat → Int32) : Prop := (∀ i, i < 24 → cs i = pr i) ∧ (∀ i, i < 24 → cs (24 + i) = po i) ∧ zr_4 ql qr pr Q
def zr_Gc (Q : Nat) (xIn : Int32) (ql qr cs pr po : Nat → Int32) : Prop := xIn = 0 ∨ (xIn = 1 ∧ zr_cc Q ql qr cs pr po)
/-- values of a run -/
def zr_Gv (Le : Nat) (ce vx vy : Nat → Int32) : Prop := Le ≤ 8 ∧ (∀ i, zr_VR (ce i)) ∧ (∀ j, 4 ≤ j → vx j = vy j) ∧ (∀ j, zr_VR (vx j)) ∧ (∀ j, zr_VR (vy j))
def zr_G (F : Nat) (NL : Nat) (QL : Nat) (N : Nat) (Q : Nat) (E : Nat) (Le : Nat) (xIn : Int32) (ki : Nat → Int32) (aa : Nat → Int32) (ab : Nat → Int32) (ac : Nat → Int32) (pa : Nat → Int32) (so : Nat → Int32) (ow : Nat → Int32) (eo : Nat → Int32) (sn : Nat → Int32) (st : Nat → Int32) (wt : Nat → Int32) (ql : Nat → Int32) (qr : Nat → Int32) (qb : Nat → Int32) (el : Nat → Int32) (er : Nat → Int32) (eb : Nat → Int32) (cs : Nat → Int32) (ce : Nat → Int32) (vx : Nat → Int32) (pr : Nat → Int32) (po : Nat → Int32) (vy : Nat → Int32) : Prop :=
  zr_Gt F NL N ki aa ab ac pa so ow eo sn st wt ∧ zr_Gq QL Q E ql qr qb el er eb ∧ zr_Gc Q xIn ql qr cs pr po ∧ zr_Gv Le ce vx vy
/-- the relation -/
def i_Rel (_ : Nat) (u : SX) (v : SY) : Prop := ∃ (F NL QL N Q E Le : Nat) (xIn xIf xCt xDp xCa xPc xRr xLn yPl yBo yFa : Int32) (ki aa ab ac pa so ow eo sn st wt ql qr qb el er eb cs di ce vx rt pr po pth sid fl fr fk gu av vy : Nat → Int32), u = (nI F, nI NL, nI QL, nI N, nI (zw_w ki N).2, nI (zw_v ki (zw_w ki N).1).length, nI (zw_sc ki N), zw_hp (zw_w ki N).1, zw_hs (zw_w ki N).1, nI Q, nI E, xIn, xIf, xCt, nI Le, xDp, xCa, xPc, xRr, xLn, ki, aa, ab, ac, pa, so, ow, eo, sn, st, wt, ql, qr, qb, el, er, eb, cs, di, ce, vx, rt) ∧ v = (nI F, nI NL, nI QL, nI N, nI Q, nI E, nI Le, xRr, xLn, xIn, yPl, yBo, yFa, ki, aa, ab, ac, ql, qr, qb, el, er, eb, ce, pr, po, pth, sid, fl, fr, fk, gu, av, vy) ∧ zr_G F NL QL N Q E Le xIn ki aa ab ac pa so ow eo sn st wt ql qr qb el er eb cs ce vx pr po vy
theorem zr_in {k : Nat} {F NL QL N Q E Le : Nat} {xIn xIf xCt xDp xCa xPc xRr xLn yPl yBo yFa : Int32} {ki aa ab ac pa so ow eo sn st wt ql qr qb el er eb cs di ce vx rt pr po pth sid fl fr fk gu av vy : Nat → Int32} (G : zr_G F NL QL N Q E Le xIn ki aa ab ac pa so ow eo sn st wt ql qr qb el er eb cs ce vx pr po vy) : i_Rel k (nI F, nI NL, nI QL, nI N, nI (zw_w ki N).2, nI (zw_v ki (zw_w ki N).1).length, nI (zw_sc ki N), zw_hp (zw_w ki N).1, zw_hs (zw_w ki N).1, nI Q, nI E, xIn, xIf, xCt, nI Le, xDp, xCa, xPc, xRr, xLn, ki, aa, ab, ac, pa, so, ow, eo, sn, st, wt, ql, qr, qb, el, er, eb, cs, di, ce, vx, rt) (nI F, nI NL, nI QL, nI N, nI Q, nI E, nI Le, xRr, xLn, xIn, yPl, yBo, yFa, ki, aa, ab, ac, ql, qr, qb, el, er, eb, ce, pr, po, pth, sid, fl, fr, fk, gu, av, vy) := ⟨F, NL, QL, N, Q, E, Le, xIn, xIf, xCt, xDp, xCa, xPc, xRr, xLn, yPl, yBo, yFa, ki, aa, ab, ac, pa, so, ow, eo, sn, st, wt, ql, qr, qb, el, er, eb, cs, di, ce, vx, rt, pr, po, pth, sid, fl, fr, fk, gu, av, vy, rfl, rfl, G⟩
theorem zr_el {P : SX → SY → Prop} {k : Nat} {u : SX} {v : SY} (h : ∀ (F NL QL N Q E Le : Nat) (xIn xIf xCt xDp xCa xPc xRr xLn yPl yBo yFa : Int32) (ki aa ab ac pa so ow eo sn st wt ql qr qb el er eb cs di ce vx rt pr po pth sid fl fr fk gu av vy : Nat → Int32), zr_G F NL QL N Q E Le xIn ki aa ab ac pa so ow eo sn st wt ql qr qb el er eb cs ce vx pr po vy → P (nI F, nI NL, nI QL, nI N, nI (zw_w ki N).2, nI (zw_v ki (zw_w ki N).1).length, nI (zw_sc ki N), zw_hp (zw_w ki N).1, zw_hs (zw_w ki N).1, nI Q, nI E, xIn, xIf, xCt, nI Le, xDp, xCa, xPc, xRr, xLn, ki, aa, ab, ac, pa, so, ow, eo, sn, st, wt, ql, qr, qb, el, er, eb, cs, di, ce, vx, rt) (nI F, nI NL, nI QL, nI N, nI Q, nI E, nI Le, xRr, xLn, xIn, yPl, yBo, yFa, ki, aa, ab, ac, ql, qr, qb, el, er, eb, ce, pr, po, pth, sid, fl, fr, fk, gu, av, vy)) (I : i_Rel k u v) : P u v :=
  Exists.elim I fun F I => Exists.elim I fun NL I => Exists.elim I fun QL I => Exists.elim I fun N I => Exists.elim I fun Q I => Exists.elim I fun E I => Exists.elim I fun Le I => Exists.elim I fun xIn I => Exists.elim I fun xIf I => Exists.elim I fun xCt I => Exists.elim I fun xDp I => Exists.elim I fun xCa I => Exists.elim I fun xPc I => Exists.elim I fun xRr I => Exists.elim I fun xLn I => Exists.elim I fun yPl I => Exists.elim I fun yBo I => Exists.elim I fun yFa I => Exists.elim I fun ki I => Exists.elim I fun aa I => Exists.elim I fun ab I => Exists.elim I fun ac I => Exists.elim I fun pa I => Exists.elim I fun so I => Exists.elim I fun ow I => Exists.elim I fun eo I => Exists.elim I fun sn I => Exists.elim I fun st I => Exists.elim I fun wt I => Exists.elim I fun ql I => Exists.elim I fun qr I => Exists.elim I fun qb I => Exists.elim I fun el I => Exists.elim I fun er I => Exists.elim I fun eb I => Exists.elim I fun cs I => Exists.elim I fun di I => Exists.elim I fun ce I => Exists.elim I fun vx I => Exists.elim I fun rt I => Exists.elim I fun pr I => Exists.elim I fun po I => Exists.elim I fun pth I => Exists.elim I fun sid I => Exists.elim I fun fl I => Exists.elim I fun fr I => Exists.elim I fun fk I => Exists.elim I fun gu I => Exists.elim I fun av I => Exists.elim I fun vy I => by
  rw [I.1, I.2.1]
  exact h F NL QL N Q E Le xIn xIf xCt xDp xCa xPc xRr xLn yPl yBo yFa ki aa ab ac pa so ow eo sn st wt ql qr qb el er eb cs di ce vx rt pr po pth sid fl fr fk gu av vy I.2.2
theorem i_up {k : Nat} {u : SX} {v : SY} (h : i_Rel k u v) : i_Rel (k + 5) u v := h
end
section
section
variable {xFL xNL xQL xN xFi xWc xNs xNp xBe xQc xEc xIn xIf xCt xLe xDp xCa xPc xRr xLn yF yMN yMQ yN yQ yE yLe yLv yLn yIn yPl yBo yFa : Int32} {ki aa ab ac pa so ow eo sn st wt ql qr qb el er eb cs di ce vx rt pr po pth sid fl fr fk gu av vy : Nat → Int32}
/-- an array cleared below i -/
def zr_z (i : Nat) (f : Nat → Int32) : Nat → Int32 := fun j => if j < i then 0 else f j
theorem zr_z0 (f : Nat → Int32) : zr_z 0 f = f := by
  funext j
  exact if_neg (Nat.not_lt_zero j)
theorem zr_zs (i : Nat) (f : Nat → Int32) : upd (zr_z i f) i 0 = zr_z (i + 1) f := by
  funext j
  unfold upd zr_z
  by_cases e : j = i
  · rw [if_pos e, if_pos (by omega)]
  · rw [if_neg e]
    by_cases c : j < i
    · rw [if_pos c, if_pos (by omega)]
    · rw [if_neg c, if_neg (by omega)]
theorem zx_cl52 {post : SX → Prop} (h : post (xFL, xNL, xQL, xN, xFi, xWc, xNs, xNp, xBe, xQc, xEc, xIn, xIf, xCt, xLe, xDp, xCa, xPc, 0, (-1), ki, aa, ab, ac, pa, so, ow, eo, sn, st, wt, ql, qr, qb, el, er, eb, cs, di, zr_z 8 ce, vx, rt)) : ∀ (d i n : Nat), i + d = 8 → d < n → wX_clear_52 post xFL xNL xQL xN xFi xWc xNs xNp xBe xQc xEc xIn xIf xCt xLe xDp xCa xPc xRr xLn n (nI i) ki aa ab ac pa so ow eo sn st wt ql qr qb el er eb cs di (zr_z i ce) vx rt := by
  intro d
  induction d with
  | zero =>
    intro i n hi hn
    obtain ⟨n, rfl⟩ : ∃ c, n = c + 1 := ⟨n - 1, by omega⟩
    have hi' : i = 8 := hi
    subst hi'
    rw [wX_clear_52]
    exact pk_le 8 8 (fun _ => h) (fun z => absurd z (Nat.lt_irrefl _))
  | succ d ih =>
    intro i n hi hn
    obtain ⟨n, rfl⟩ : ∃ c, n = c + 1 := ⟨n - 1, by omega⟩
    rw [wX_clear_52]
    dsimp only
    rw [nI_clamp (show i < 2 ^ 31 by omega)]
    exact pk_le 8 i (fun z => absurd z (by omega)) (fun _ => ⟨vp_in_nI (by omega) (by decide), nm_r (zr_zs i ce) (nm_r (nI_1 i) (ih (i + 1) n (by omega) (by omega)))⟩)
theorem zx_clear {post : SX → Prop} (h : post (xFL, xNL, xQL, 0, 0, 0, 4, (-1), 0, 0, 0, 0, xIf, xCt, 0, xDp, xCa, xPc, 0, (-1), ki, aa, ab, ac, pa, so, ow, eo, sn, st, wt, ql, qr, qb, el, er, eb, cs, di, zr_z 8 ce, vx, rt)) : wpX_clear post (xFL, xNL, xQL, xN, xFi, xWc, xNs, xNp, xBe, xQc, xEc, xIn, xIf, xCt, xLe, xDp, xCa, xPc, xRr, xLn, ki, aa, ab, ac, pa, so, ow, eo, sn, st, wt, ql, qr, qb, el, er, eb, cs, di, ce, vx, rt) := by
  unfold wpX_clear
  refine ⟨9, ?_⟩
  have c := zx_cl52 (xRr := xRr) (xLn := xLn) h 8 0 9 (by omega) (by omega)
  rw [zr_z0] at c
  exact c
theorem zy_cl37 {post : SY → Prop} (h : post (yF, yMN, yMQ, yN, yQ, yE, yLe, yLv, yLn, yIn, yPl, yBo, yFa, ki, aa, ab, ac, ql, qr, qb, el, er, eb, zr_z 8 ce, pr, po, pth, sid, fl, fr, fk, gu, av, vy)) : ∀ (d i n : Nat), i + d = 8 → d < n → wY_clear_37 post yF yMN yMQ yN yQ yE yLe yLv yLn yIn yPl yBo yFa n (nI i) ki aa ab ac ql qr qb el er eb (zr_z i ce) pr po pth sid fl fr fk gu av vy := by
  intro d
  induction d with
  | zero =>
    intro i n hi hn
    obtain ⟨n, rfl⟩ : ∃ c, n = c + 1 := ⟨n - 1, by omega⟩
    have hi' : i = 8 := hi
    subst hi'
    rw [wY_clear_37]
    exact pk_le 8 8 (fun _ => h) (fun z => absurd z (Nat.lt_irrefl _))
  | succ d ih =>
    intro i n hi hn
    obtain ⟨n, rfl⟩ : ∃ c, n = c + 1 := ⟨n - 1, by omega⟩
    rw [wY_clear_37]
    dsimp only
    rw [nI_clamp (show i < 2 ^ 31 by omega)]
    exact pk_le 8 i (fun z => absurd z (by omega)) (fun _ => ⟨vp_in_nI (by omega) (by decide), nm_r (zr_zs i ce) (nm_r (nI_1 i) (ih (i + 1) n (by omega) (by omega)))⟩)
theorem zy_clear {post : SY → Prop} (h : post (yF, yMN, yMQ, 0, 0, 0, 0, 0, (-1), 0, yPl, yBo, yFa, ki, aa, ab, ac, ql, qr, qb, el, er, eb, zr_z 8 ce, pr, po, pth, sid, fl, fr, fk, gu, av, vy)) : wpY_clear post (yF, yMN, yMQ, yN, yQ, yE, yLe, yLv, yLn, yIn, yPl, yBo, yFa, ki, aa, ab, ac, ql, qr, qb, el, er, eb, ce, pr, po, pth, sid, fl, fr, fk, gu, av, vy) := by
  unfold wpY_clear
  refine ⟨9, ?_⟩
  have c := zy_cl37 h 8 0 9 (by omega) (by omega)
  rw [zr_z0] at c
  exact c
theorem zr_VR0 : zr_VR 0 := by unfold zr_VR; rw [za_i0]; omega
/-- a cleared object is related to a cleared reference -/
theorem zr_clr {k F NL QL : Nat} (hF : 1 ≤ F) (hF3 : F ≤ 3) (hNL : NL ≤ 24) (hQL : QL ≤ 8) (hc : ∀ i, zr_VR (ce i)) (hv1 : ∀ j, 4 ≤ j → vx j = vy j) (hv2 : ∀ j, zr_VR (vx j)) (hv3 : ∀ j, zr_VR (vy j)) :
    i_Rel k (nI F, nI NL, nI QL, 0, 0, 0, 4, (-1), 0, 0, 0, 0, xIf, xCt, 0, xDp, xCa, xPc, 0, (-1), ki, aa, ab, ac, pa, so, ow, eo, sn, st, wt, ql, qr, qb, el, er, eb, cs, di, zr_z 8 ce, vx, rt) (nI F, nI NL, nI QL, 0, 0, 0, 0, 0, (-1), 0, yPl, yBo, yFa, ki, aa, ab, ac, ql, qr, qb, el, er, eb, zr_z 8 ce, pr, po, pth, sid, fl, fr, fk, gu, av, vy) := by
  refine zr_in (N := 0) (Q := 0) (E := 0) (Le := 0) ⟨⟨hF, hF3, hNL, Nat.zero_le _, fun c hc => absurd hc (Nat.not_lt_zero c), fun c hc => absurd hc (Nat.not_lt_zero c), Nat.zero_le _, fun c hc => absurd hc (Nat.not_lt_zero c), fun n hn => ?_, trivial, fun m p r hm => absurd hm (Nat.not_lt_zero m), fun c hc => absurd hc (Nat.not_lt_zero c)⟩,
    ⟨hQL, Nat.zero_le _, ⟨Nat.zero_le _, fun c hc => absurd hc (Nat.not_lt_zero c)⟩, Nat.zero_le _, fun c hc => absurd hc (Nat.not_lt_zero c)⟩, Or.inl rfl, Nat.zero_le _, fun i => ?_, hv1, hv2, hv3⟩
  · have e : n = 0 := by omega
    subst e
    show 4 + 0 ≤ 10
    omega
  · unfold zr_z
    by_cases c : i < 8
    · rw [if_pos c]; exact zr_VR0
    · rw [if_neg c]; exact hc i
theorem i_vc_clear {k : Nat} {u : SX} {v : SY} (I : i_Rel k u v) (hk : k + 5 ≤ 2563) : wpX_clear (fun u' => wpY_clear (fun v' => i_Rel (k + 5) u' v') v) u := by
  refine zr_el (P := fun u v => wpX_clear (fun u' => wpY_clear (fun v' => i_Rel (k + 5) u' v') v) u) ?_ I
  intro F NL QL N Q E Le xIn xIf xCt xDp xCa xPc xRr xLn yPl yBo yFa ki aa ab ac pa so ow eo sn st wt ql qr qb el er eb cs di ce vx rt pr po pth sid fl fr fk gu av vy G
  obtain ⟨gt, gq, gc, gv⟩ := G
  exact zx_clear (zy_clear (zr_clr gt.1 gt.2.1 gt.2.2.1 gq.1 gv.2.1 gv.2.2.1 gv.2.2.2.1 gv.2.2.2.2))
/-- clamp -/
def zr_cl (p lo hi : Int32) : Int32 := if lo ≤ p then (if p ≤ hi then p else hi) else lo
theorem zr_cl_n (p : Int32) {a b : Nat} (hab : a ≤ b) (hb : b < 2 ^ 31) : ∃ j, a ≤ j ∧ j ≤ b ∧ zr_cl p (nI a) (nI b) = nI j := by
  unfold zr_cl
  by_cases h1 : nI a ≤ p
  · rw [if_pos h1]
    by_cases h2 : p ≤ nI b
    · rw [if_pos h2]
      have h1' := Int32.le_iff_toInt_le.mp h1
      have h2' := Int32.le_iff_toInt_le.mp h2
      rw [nI_toInt (by omega)] at h1' h2'
      have h3 : ¬ p < 0 := fun z => by
        have := Int32.lt_iff_toInt_lt.mp z
        rw [za_i0] at this
        omega
      obtain ⟨j, hj, rfl⟩ := nI_of h3
      rw [nI_toInt hj] at h1' h2'
      exact ⟨j, by omega, by omega, rfl⟩
    · rw [if_neg h2]; exact ⟨b, hab, Nat.le_refl _, rfl⟩
  · rw [if_neg h1]; exact ⟨a, Nat.le_refl _, hab, rfl⟩
theorem zx_clamp {post : Int32 → Prop} {p lo hi : Int32} (h : post (zr_cl p lo hi)) : wpX_clamp post (xFL, xNL, xQL, xN, xFi, xWc, xNs, xNp, xBe, xQc, xEc, xIn, xIf, xCt, xLe, xDp, xCa, xPc, xRr, xLn, ki, aa, ab, ac, pa, so, ow, eo, sn, st, wt, ql, qr, qb, el, er, eb, cs, di, ce, vx, rt) p lo hi := by
  unfold wpX_clamp
  unfold zr_cl at h
  by_cases h1 : lo ≤ p
  · rw [if_pos h1] at h
    refine br_t h1 ?_
    by_cases h2 : p ≤ hi
    · rw [if_pos h2] at h; exact br_t h2 h
    · rw [if_neg h2] at h; exact br_f h2 h
  · rw [if_neg h1] at h; exact br_f h1 h
theorem zy_i220 {post : SY → Prop} {x3 z0 : Int32} (h : wY_init_245 post (zr_cl x3 1 8) yF z0 yMQ yN yQ yE yLe yLv yLn yIn yPl yBo yFa ki aa ab ac ql qr qb el er eb ce pr po pth sid fl fr fk gu av vy) : wY_init_220 post x3 z0 yF yMN yMQ yN yQ yE yLe yLv yLn yIn yPl yBo yFa ki aa ab ac ql qr qb el er eb ce pr po pth sid fl fr fk gu av vy := by
  unfold wY_init_220
  unfold zr_cl at h
  by_cases h1 : 1 ≤ x3
  · rw [if_pos h1] at h
    refine br_t h1 ?_
    by_cases h2 : x3 ≤ 8
    · rw [if_pos h2] at h; exact br_t h2 h
    · rw [if_neg h2] at h; exact br_f h2 h
  · rw [if_neg h1] at h; exact br_f h1 h
theorem zy_i193 {post : SY → Prop} {x2 x3 z0 : Int32} (h : wY_init_220 post x3 (zr_cl x2 8 24) z0 yMN yMQ yN yQ yE yLe yLv yLn yIn yPl yBo yFa ki aa ab ac ql qr qb el er eb ce pr po pth sid fl fr fk gu av vy) : wY_init_193 post x2 x3 z0 yF yMN yMQ yN yQ yE yLe yLv yLn yIn yPl yBo yFa ki aa ab ac ql qr qb el er eb ce pr po pth sid fl fr fk gu av vy := by
  unfold wY_init_193
  unfold zr_cl at h
  by_cases h1 : 8 ≤ x2
  · rw [if_pos h1] at h
    refine br_t h1 ?_
    by_cases h2 : x2 ≤ 24
    · rw [if_pos h2] at h; exact br_t h2 h
    · rw [if_neg h2] at h; exact br_f h2 h
  · rw [if_neg h1] at h; exact br_f h1 h
theorem zy_init {post : SY → Prop} {p0 p1 p2 : Int32} (h : wY_init_193 post p1 p2 (zr_cl p0 1 3) 0 0 0 0 0 0 0 0 0 0 0 0 0 (fun _ => 0) (fun _ => 0) (fun _ => 0) (fun _ => 0) (fun _ => 0) (fun _ => 0) (fun _ => 0) (fun _ => 0) (fun _ => 0) (fun _ => 0) (fun _ => 0) (fun _ => 0) (fun _ => 0) (fun _ => 0) (fun _ => 0) (fun _ => 0) (fun _ => 0) (fun _ => 0) (fun _ => 0) (fun _ => 0) (fun _ => 0)) : wpY_init post p0 p1 p2 := by
  unfold wpY_init
  unfold zr_cl at h
  by_cases h1 : 1 ≤ p0
  · rw [if_pos h1] at h
    refine br_t h1 ?_
    by_cases h2 : p0 ≤ 3
    · rw [if_pos h2] at h; exact br_t h2 h
    · rw [if_neg h2] at h; exact br_f h2 h
  · rw [if_neg h1] at h; exact br_f h1 h
theorem i_vc0 (k0 : Int32) (k1 : Int32) (k2 : Int32) : wpX_init (fun u => wpY_init (fun v => i_Rel 3 u v) k0 k1 k2) k0 k1 k2 := by
  obtain ⟨F, f1, f2, ef⟩ := zr_cl_n k0 (a := 1) (b := 3) (by decide) (by decide)
  obtain ⟨NL, n1, n2, en⟩ := zr_cl_n k1 (a := 8) (b := 24) (by decide) (by decide)
  obtain ⟨QL, q1, q2, eq⟩ := zr_cl_n k2 (a := 1) (b := 8) (by decide) (by decide)
  have ef' : zr_cl k0 1 3 = nI F := ef
  have en' : zr_cl k1 8 24 = nI NL := en
  have eq' : zr_cl k2 1 8 = nI QL := eq
  unfold wpX_init
  refine zx_clamp (zx_clamp (zx_clamp (zx_clear ?_)))
  show wpY_init _ k0 k1 k2
  refine zy_init (zy_i193 (zy_i220 ?_))
  unfold wY_init_245
  refine zy_clear ?_
  rw [ef', en', eq']
  exact zr_clr f1 f2 n2 q2 (fun _ => zr_VR0) (fun _ _ => rfl) (fun _ => zr_VR0) (fun _ => zr_VR0)
theorem zx_isC {post : Int32 → Prop} {c : Int32} (h1 : -1000 ≤ c.toInt ∧ c.toInt ≤ 1000 → post 1) (h0 : ¬ (-1000 ≤ c.toInt ∧ c.toInt ≤ 1000) → post 0) : wpX_isConstant post (xFL, xNL, xQL, xN, xFi, xWc, xNs, xNp, xBe, xQc, xEc, xIn, xIf, xCt, xLe, xDp, xCa, xPc, xRr, xLn, ki, aa, ab, ac, pa, so, ow, eo, sn, st, wt, ql, qr, qb, el, er, eb, cs, di, ce, vx, rt) c := by
  unfold wpX_isConstant
  exact za_lt (fun z => h0 (by rw [za_km] at z; omega)) (fun z => za_lt (fun z2 => h0 (by rw [za_k0] at z2; omega)) (fun z2 => h1 (by rw [za_km] at z; rw [za_k0] at z2; omega)))
theorem zy_isC {post : Int32 → Prop} {c : Int32} (h1 : -1000 ≤ c.toInt ∧ c.toInt ≤ 1000 → post 1) (h0 : ¬ (-1000 ≤ c.toInt ∧ c.toInt ≤ 1000) → post 0) : wpY_constant post (yF, yMN, yMQ, yN, yQ, yE, yLe, yLv, yLn, yIn, yPl, yBo, yFa, ki, aa, ab, ac, ql, qr, qb, el, er, eb, ce, pr, po, pth, sid, fl, fr, fk, gu, av, vy) c := by
  unfold wpY_constant
  exact za_lt (fun z => h0 (by rw [za_km] at z; omega)) (fun z => za_lt (fun z2 => h0 (by rw [za_k0] at z2; omega)) (fun z2 => h1 (by rw [za_km] at z; rw [za_k0] at z2; omega)))
theorem zx_isV {post : Int32 → Prop} {c : Int32} (h1 : zr_VR c → post 1) (h0 : ¬ zr_VR c → post 0) : wpX_isValue post (xFL, xNL, xQL, xN, xFi, xWc, xNs, xNp, xBe, xQc, xEc, xIn, xIf, xCt, xLe, xDp, xCa, xPc, xRr, xLn, ki, aa, ab, ac, pa, so, ow, eo, sn, st, wt, ql, qr, qb, el, er, eb, cs, di, ce, vx, rt) c := by
  unfold wpX_isValue
  unfold zr_VR at h1 h0
  exact za_lt (fun z => h0 (by rw [za_vm] at z; omega)) (fun z => za_lt (fun z2 => h0 (by rw [za_v0] at z2; omega)) (fun z2 => h1 (by rw [za_vm] at z; rw [za_v0] at z2; omega)))
theorem zy_isV {post : Int32 → Prop} {c : Int32} (h1 : zr_VR c → post 1) (h0 : ¬ zr_VR c → post 0) : wpY_inRange post (yF, yMN, yMQ, yN, yQ, yE, yLe, yLv, yLn, yIn, yPl, yBo, yFa, ki, aa, ab, ac, ql, qr, qb, el, er, eb, ce, pr, po, pth, sid, fl, fr, fk, gu, av, vy) c := by
  unfold wpY_inRange
  unfold zr_VR at h1 h0
  exact za_lt (fun z => h0 (by rw [za_vm] at z; omega)) (fun z => za_lt (fun z2 => h0 (by rw [za_v0] at z2; omega)) (fun z2 => h1 (by rw [za_vm] at z; rw [za_v0] at z2; omega)))
theorem za_in5 {x : Int32} (h0 : ¬ x < 0) (h1 : ¬ 4 < x) : vp_in x 5 := by
  obtain ⟨j, hj, rfl⟩ := nI_of2 (M := 4) (n := 4) (by decide) h0 (Int32.not_lt.mp h1)
  exact vp_in_nI (by omega) (by decide)
theorem za_in4 {x : Int32} (h0 : ¬ x < 0) (h1 : ¬ 3 < x) : vp_in x 4 := by
  obtain ⟨j, hj, rfl⟩ := nI_of2 (M := 3) (n := 3) (by decide) h0 (Int32.not_lt.mp h1)
  exact vp_in_nI (by omega) (by decide)
theorem i_vc_qualifier {k : Nat} {u : SX} {v : SY} (I : i_Rel k u v) (hk : k + 5 ≤ 2563) (v1 : Int32) (v2 : Int32) (v3 : Int32) : wpX_qualifier (fun r u' => wpY_qualifier (fun r' v' => r' = r ∧ i_Rel (k + 5) u' v') v v1 v2 v3) u v1 v2 v3 := by
  refine zr_el (P := fun u v => wpX_qualifier (fun r u' => wpY_qualifier (fun r' v' => r' = r ∧ i_Rel (k + 5) u' v') v v1 v2 v3) u v1 v2 v3) ?_ I
  intro F NL QL N Q E Le xIn xIf xCt xDp xCa xPc xRr xLn yPl yBo yFa ki aa ab ac pa so ow eo sn st wt ql qr qb el er eb cs di ce vx rt pr po pth sid fl fr fk gu av vy G
  have G0 := G
  obtain ⟨gt, gq, gc, gv⟩ := G
  obtain ⟨q1, q2, q3, q4, q5⟩ := gq
  unfold wpX_qualifier
  refine br_c (fun c1 => br_t c1 ⟨rfl, zr_in G0⟩) (fun c1 => br_c (fun c2 => br_f c1 (br_t c2 ⟨rfl, zr_in G0⟩)) (fun c2 => br_c (fun c3 => br_f c1 (br_f c2 (br_t c3 ⟨rfl, zr_in G0⟩))) (fun c3 => br_c (fun c4 => br_f c1 (br_f c2 (br_f c3 (br_t c4 ⟨rfl, zr_in G0⟩)))) (fun c4 => ?_))))
  refine zx_isC (fun c5 => ?_) (fun c5 => ?_)
  · refine br_f za_n10 (pk_lt Q QL (fun c6 => ?_) (fun c6 => ?_))
    · rw [nI_clamp (show Q < 2 ^ 31 by omega)]
      have i8 : vp_in (nI Q) 8 := vp_in_nI (by omega) (by decide)
      refine ⟨i8, nm_e ⟨i8, nm_e ⟨i8, nm_e (nm_r (nI_1 Q) ?_)⟩⟩⟩
      refine br_f c1 (br_f c2 (br_f c3 (br_f c4 (zy_isC (fun _ => br_f za_n10 ?_) (fun z => absurd c5 z)))))
      refine pk_eq Q QL (fun z => absurd z (by omega)) (fun _ => ?_)
      rw [nI_clamp (show Q < 2 ^ 31 by omega)]
      refine ⟨i8, nm_e ⟨i8, nm_e ⟨i8, nm_e (nm_r (nI_1 Q) ⟨(nI_pred Q).symm, zr_in ⟨gt, ⟨q1, c6, ⟨by omega, fun q hq => ?_⟩, q4, q5⟩, Or.inl rfl, gv⟩⟩)⟩⟩⟩
      by_cases e : q = Q
      · rw [e, pk_us, pk_us, pk_us]
        exact ⟨za_in5 c1 c2, za_in5 c3 c4, c5⟩
      · rw [pk_un e, pk_un e, pk_un e]
        exact q3.2 q (by omega)
    · exact br_f c1 (br_f c2 (br_f c3 (br_f c4 (zy_isC (fun _ => br_f za_n10 (pk_eq Q QL (fun _ => ⟨rfl, zr_in G0⟩) (fun z => absurd z (by omega)))) (fun z => absurd c5 z)))))
  · exact br_t rfl (br_f c1 (br_f c2 (br_f c3 (br_f c4 (zy_isC (fun z => absurd z c5) (fun _ => br_t rfl ⟨rfl, zr_in G0⟩))))))
theorem i_vc_entry {k : Nat} {u : SX} {v : SY} (I : i_Rel k u v) (hk : k + 5 ≤ 2563) (v1 : Int32) (v2 : Int32) (v3 : Int32) : wpX_entry (fun r u' => wpY_entry (fun r' v' => r' = r ∧ i_Rel (k + 5) u' v') v v1 v2 v3) u v1 v2 v3 := by
  refine zr_el (P := fun u v => wpX_entry (fun r u' => wpY_entry (fun r' v' => r' = r ∧ i_Rel (k + 5) u' v') v v1 v2 v3) u v1 v2 v3) ?_ I
  intro F NL QL N Q E Le xIn xIf xCt xDp xCa xPc xRr xLn yPl yBo yFa ki aa ab ac pa so ow eo sn st wt ql qr qb el er eb cs di ce vx rt pr po pth sid fl fr fk gu av vy G
  have G0 := G
  obtain ⟨gt, gq, gc, gv⟩ := G
  obtain ⟨q1, q2, q3, q4, q5⟩ := gq
  unfold wpX_entry
  refine br_c (fun c1 => br_t c1 ⟨rfl, zr_in G0⟩) (fun c1 => br_c (fun c2 => br_f c1 (br_t c2 ⟨rfl, zr_in G0⟩)) (fun c2 => br_c (fun c3 => br_f c1 (br_f c2 (br_t c3 ⟨rfl, zr_in G0⟩))) (fun c3 => br_c (fun c4 => br_f c1 (br_f c2 (br_f c3 (br_t c4 ⟨rfl, zr_in G0⟩)))) (fun c4 => ?_))))
  refine zx_isC (fun c5 => ?_) (fun c5 => ?_)
  · refine br_f za_n10 (pk_lt E 4 (fun c6 => ?_) (fun c6 => ?_))
    · rw [nI_clamp (show E < 2 ^ 31 by omega)]
      have i8 : vp_in (nI E) 4 := vp_in_nI (by omega) (by decide)
      refine ⟨i8, nm_e ⟨i8, nm_e ⟨i8, nm_e (nm_r (nI_1 E) ?_)⟩⟩⟩
      refine br_f c1 (br_f c2 (br_f c3 (br_f c4 (zy_isC (fun _ => br_f za_n10 ?_) (fun z => absurd c5 z)))))
      refine pk_eq E 4 (fun z => absurd z (by omega)) (fun _ => ?_)
      rw [nI_clamp (show E < 2 ^ 31 by omega)]
      refine ⟨i8, nm_e ⟨i8, nm_e ⟨i8, nm_e (nm_r (nI_1 E) ⟨(nI_pred E).symm, zr_in ⟨gt, ⟨q1, q2, q3, c6, fun q hq => ?_⟩, Or.inl rfl, gv⟩⟩)⟩⟩⟩
      by_cases e : q = E
      · rw [e, pk_us, pk_us, pk_us]
        exact ⟨za_in4 c1 c2, za_in4 c3 c4, c5⟩
      · rw [pk_un e, pk_un e, pk_un e]
        exact q5 q (by omega)
    · exact br_f c1 (br_f c2 (br_f c3 (br_f c4 (zy_isC (fun _ => br_f za_n10 (pk_eq E 4 (fun _ => ⟨rfl, zr_in G0⟩) (fun z => absurd z (by omega)))) (fun z => absurd c5 z)))))
  · exact br_t rfl (br_f c1 (br_f c2 (br_f c3 (br_f c4 (zy_isC (fun z => absurd z c5) (fun _ => br_t rfl ⟨rfl, zr_in G0⟩))))))
theorem i_vc_result {k : Nat} {u : SX} {v : SY} (I : i_Rel k u v) (hk : k + 5 ≤ 2563) : wpX_result (fun r => wpY_result (fun r' => r' = r ∧ i_Rel (k + 5) u v) v) u := by
  refine zr_el (P := fun u v => wpX_result (fun r => wpY_result (fun r' => r' = r ∧ i_Rel (k + 5) u v) v) u) ?_ I
  intro F NL QL N Q E Le xIn xIf xCt xDp xCa xPc xRr xLn yPl yBo yFa ki aa ab ac pa so ow eo sn st wt ql qr qb el er eb cs di ce vx rt pr po pth sid fl fr fk gu av vy G
  exact ⟨rfl, zr_in G⟩
theorem i_vc_where {k : Nat} {u : SX} {v : SY} (I : i_Rel k u v) (hk : k + 5 ≤ 2563) : wpX_where (fun r => wpY_where (fun r' => r' = r ∧ i_Rel (k + 5) u v) v) u := by
  refine zr_el (P := fun u v => wpX_where (fun r => wpY_where (fun r' => r' = r ∧ i_Rel (k + 5) u v) v) u) ?_ I
  intro F NL QL N Q E Le xIn xIf xCt xDp xCa xPc xRr xLn yPl yBo yFa ki aa ab ac pa so ow eo sn st wt ql qr qb el er eb cs di ce vx rt pr po pth sid fl fr fk gu av vy G
  exact ⟨rfl, zr_in G⟩
theorem i_vc_length {k : Nat} {u : SX} {v : SY} (I : i_Rel k u v) (hk : k + 5 ≤ 2563) (v1 : Int32) : wpX_length (fun r u' => wpY_length (fun r' v' => r' = r ∧ i_Rel (k + 5) u' v') v v1) u v1 := by
  refine zr_el (P := fun u v => wpX_length (fun r u' => wpY_length (fun r' v' => r' = r ∧ i_Rel (k + 5) u' v') v v1) u v1) ?_ I
  intro F NL QL N Q E Le xIn xIf xCt xDp xCa xPc xRr xLn yPl yBo yFa ki aa ab ac pa so ow eo sn st wt ql qr qb el er eb cs di ce vx rt pr po pth sid fl fr fk gu av vy G
  have G0 := G
  obtain ⟨gt, gq, gc, gv⟩ := G
  unfold wpX_length
  refine br_c (fun c1 => br_t c1 ⟨rfl, zr_in G0⟩) (fun c1 => br_c (fun c2 => ?_) (fun c2 => br_f c1 (br_f c2 ⟨rfl, zr_in G0⟩)))
  obtain ⟨j, hj, e⟩ := nI_of2 (M := 8) (n := 8) (by decide) c1 c2
  subst e
  exact br_f c1 (br_t c2 ⟨rfl, zr_in ⟨gt, gq, gc, hj, gv.2⟩⟩)
theorem i_vc_cell {k : Nat} {u : SX} {v : SY} (I : i_Rel k u v) (hk : k + 5 ≤ 2563) (v1 : Int32) (v2 : Int32) : wpX_cell (fun r u' => wpY_cell (fun r' v' => r' = r ∧ i_Rel (k + 5) u' v') v v1 v2) u v1 v2 := by
  refine zr_el (P := fun u v => wpX_cell (fun r u' => wpY_cell (fun r' v' => r' = r ∧ i_Rel (k + 5) u' v') v v1 v2) u v1 v2) ?_ I
  intro F NL QL N Q E Le xIn xIf xCt xDp xCa xPc xRr xLn yPl yBo yFa ki aa ab ac pa so ow eo sn st wt ql qr qb el er eb cs di ce vx rt pr po pth sid fl fr fk gu av vy G
  have G0 := G
  obtain ⟨gt, gq, gc, gv⟩ := G
  unfold wpX_cell
  refine br_c (fun c1 => br_t c1 ⟨rfl, zr_in G0⟩) (fun c1 => br_c (fun c2 => br_f c1 (br_t c2 ⟨rfl, zr_in G0⟩)) (fun c2 => zx_isV (fun c3 => ?_) (fun c3 => ?_)))
  · obtain ⟨j, hj, e⟩ := nI_of2 (M := 7) (n := 7) (by decide) c1 (Int32.not_lt.mp c2)
    have i8 : vp_in v1 8 := by rw [e]; exact vp_in_nI (by omega) (by decide)
    refine br_f za_n10 ⟨i8, nm_e (br_f c1 (br_f c2 (zy_isV (fun _ => br_f za_n10 ⟨i8, nm_e ⟨rfl, zr_in ⟨gt, gq, gc, gv.1, fun i => ?_, gv.2.2⟩⟩⟩) (fun z => absurd c3 z))))⟩
    by_cases e : i = v1.toNatClampNeg
    · rw [e, pk_us]; exact c3
    · rw [pk_un e]; exact gv.2.1 i
  · exact br_t rfl (br_f c1 (br_f c2 (zy_isV (fun z => absurd z c3) (fun _ => br_t rfl ⟨rfl, zr_in G0⟩))))
theorem zr_nb {F NL N : Nat} (gt : zr_Gt F NL N ki aa ab ac pa so ow eo sn st wt) : N ≤ 24 := Nat.le_trans gt.2.2.2.1 gt.2.2.1
theorem zx_isCm {post : Int32 → Prop} {b F : Nat} (hb : b ≤ F) (hF : F ≤ 3) (h0 : b ≠ F → post 0) (h1 : b = F → post 1) : wpX_isComplete post (nI F, xNL, xQL, xN, nI b, xWc, xNs, xNp, xBe, xQc, xEc, xIn, xIf, xCt, xLe, xDp, xCa, xPc, xRr, xLn, ki, aa, ab, ac, pa, so, ow, eo, sn, st, wt, ql, qr, qb, el, er, eb, cs, di, ce, vx, rt) := by
  unfold wpX_isComplete
  exact pk_lt b F (fun z => h0 (by omega)) (fun z => h1 (by omega))
theorem i_vc_scope {k : Nat} {u : SX} {v : SY} (I : i_Rel k u v) (hk : k + 5 ≤ 2563) : wpX_scope (fun r => wpY_scope (fun r' v' => r' = r ∧ i_Rel (k + 5) u v') v) u := by
  refine zr_el (P := fun u v => wpX_scope (fun r => wpY_scope (fun r' v' => r' = r ∧ i_Rel (k + 5) u v') v) u) ?_ I
  intro F NL QL N Q E Le xIn xIf xCt xDp xCa xPc xRr xLn yPl yBo yFa ki aa ab ac pa so ow eo sn st wt ql qr qb el er eb cs di ce vx rt pr po pth sid fl fr fk gu av vy G
  have G0 := G
  obtain ⟨gt, gq, gc, gv⟩ := G
  have hb := gt.2.2.2.2.2.2.1
  have hF := gt.2.1
  unfold wpX_scope
  refine zx_isCm hb hF (fun c => br_t rfl ?_) (fun c => br_f za_n10 ?_)
  · unfold wpY_scope
    exact zy_scopeAt (zr_nb gt) (fun pth sid _ => pk_eq (zw_w ki N).2 F (fun z => absurd z c) (fun _ => ⟨rfl, zr_in G0⟩))
  · unfold wpY_scope
    exact zy_scopeAt (zr_nb gt) (fun pth sid _ => pk_eq (zw_w ki N).2 F (fun _ => ⟨rfl, zr_in G0⟩) (fun z => absurd c z))
end
end
section
section
variable {xFL xNL xQL xN xFi xWc xNs xNp xBe xQc xEc xIn xIf xCt xLe xDp xCa xPc xRr xLn yF yMN yMQ yN yQ yE yLe yLv yLn yIn yPl yBo yFa : Int32} {ki aa ab ac pa so ow eo sn st wt ql qr qb el er eb cs di ce vx rt pr po pth sid fl fr fk gu av vy : Nat → Int32}
theorem za_sl {x : Int32} {s : Nat} (hs : s < 2 ^ 31) : vp_in x s ↔ ¬ x < 0 ∧ ¬ nI s ≤ x := by
  rw [vp_in_iff, Int32.lt_iff_toInt_lt, Int32.le_iff_toInt_le, nI_toInt hs, za_i0]
  omega
/-- a slot's test as the class writes it, and as the reference does -/
theorem za_inX {x : Int32} {s : Nat} {A B : Prop} (hs : s < 2 ^ 31) (h1 : vp_in x s → B) (h0 : ¬ vp_in x s → A) : (x < 0 → A) ∧ (¬ x < 0 → ((nI s ≤ x → A) ∧ (¬ nI s ≤ x → B))) :=
  br_c (fun c => h0 (fun z => ((za_sl hs).mp z).1 c)) (fun c => br_c (fun d => h0 (fun z => ((za_sl hs).mp z).2 d)) (fun d => h1 ((za_sl hs).mpr ⟨c, d⟩)))
theorem za_inY {x : Int32} {s : Nat} {A B : Prop} (hs : s < 2 ^ 31) (h1 : vp_in x s → B) (h0 : ¬ vp_in x s → A) : (x < 0 → A) ∧ (¬ x < 0 → ((x < nI s → B) ∧ (¬ x < nI s → A))) :=
  br_c (fun c => h0 (fun z => ((za_sl hs).mp z).1 c)) (fun c => br_c (fun d => h1 ((za_sl hs).mpr ⟨c, Int32.not_le.mpr d⟩)) (fun d => h0 (fun z => d (Int32.not_le.mp ((za_sl hs).mp z).2))))
theorem zx_fa {post : SX → Prop} {F NL N Q n : Nat} (gt : zr_Gt F NL N ki aa ab ac pa so ow eo sn st wt) (hQ : zw_QV ql qr qb Q) (cc : zr_cc Q ql qr cs pr po) (hn : n < N)
    (h : ∀ di xCt, zf_ans (zx_d di) xCt (zw_S ki aa ab ac ql qr qb pr po Q n) → post (xFL, xNL, xQL, xN, xFi, xWc, xNs, xNp, xBe, nI Q, xEc, xIn, xIf, xCt, xLe, xDp, xCa, xPc, xRr, xLn, ki, aa, ab, ac, pa, so, ow, eo, sn, st, wt, ql, qr, qb, el, er, eb, cs, di, ce, vx, rt)) : wpX_factsAt post (xFL, xNL, xQL, xN, xFi, xWc, xNs, xNp, xBe, nI Q, xEc, xIn, xIf, xCt, xLe, xDp, xCa, xPc, xRr, xLn, ki, aa, ab, ac, pa, so, ow, eo, sn, st, wt, ql, qr, qb, el, er, eb, cs, di, ce, vx, rt) (nI n) := by
  obtain ⟨g1, g2, g3, g4, g5, g6, g7, g8, g9⟩ := gt
  have := g8 n hn
  exact zx_factsAt (by omega) g2 g5 g6 hQ cc.1 cc.2.1 cc.2.2 hn (by omega) h
theorem zy_fa {post : SY → Prop} {F NL N Q n : Nat} (gt : zr_Gt F NL N ki aa ab ac pa so ow eo sn st wt) (hQ : zw_QV ql qr qb Q) (hn : n < N)
    (h : ∀ m fl fr fk pth sid, m ≤ 200 → zb_fl m fl fr fk (zw_S ki aa ab ac ql qr qb pr po Q n) → post (yF, yMN, yMQ, yN, nI Q, yE, yLe, yLv, yLn, yIn, nI (zw_w ki n).1.length, nI (zw_w ki n).2, nI m, ki, aa, ab, ac, ql, qr, qb, el, er, eb, ce, pr, po, pth, sid, fl, fr, fk, gu, av, vy)) : wpY_collect post (yF, yMN, yMQ, yN, nI Q, yE, yLe, yLv, yLn, yIn, yPl, yBo, yFa, ki, aa, ab, ac, ql, qr, qb, el, er, eb, ce, pr, po, pth, sid, fl, fr, fk, gu, av, vy) (nI n) := by
  obtain ⟨g1, g2, g3, g4, g5, g6, g7, g8, g9⟩ := gt
  have := g8 n hn
  exact zy_collect (by omega) g2 (by omega) (fun p hp => g6 p (by omega)) hQ h
/-- is node n safe -/
def zr_sf (ki aa ab ac ql qr qb pr po : Nat → Int32) (Q n : Nat) : Prop :=
  (ki n = 3 → zf_ent (zw_S ki aa ab ac ql qr qb pr po Q n) (0 : Int32).toNatClampNeg (aa n).toNatClampNeg (0 : Int32).toInt ∧ zf_ent (zw_S ki aa ab ac ql qr qb pr po Q n) (aa n).toNatClampNeg (1 : Int32).toNatClampNeg (-1 : Int32).toInt) ∧
  (ki n = 5 → zf_ent (zw_S ki aa ab ac ql qr qb pr po Q n) (aa n).toNatClampNeg (ab n).toNatClampNeg (ac n).toInt)
theorem zr_sf3 {Q n : Nat} (h : ki n = 3) : zr_sf ki aa ab ac ql qr qb pr po Q n ↔ (zf_ent (zw_S ki aa ab ac ql qr qb pr po Q n) (0 : Int32).toNatClampNeg (aa n).toNatClampNeg (0 : Int32).toInt ∧ zf_ent (zw_S ki aa ab ac ql qr qb pr po Q n) (aa n).toNatClampNeg (1 : Int32).toNatClampNeg (-1 : Int32).toInt) :=
  ⟨fun z => z.1 h, fun z => ⟨fun _ => z, fun e => absurd (h.symm.trans e) (by decide)⟩⟩
theorem zr_sf5 {Q n : Nat} (h : ki n = 5) : zr_sf ki aa ab ac ql qr qb pr po Q n ↔ zf_ent (zw_S ki aa ab ac ql qr qb pr po Q n) (aa n).toNatClampNeg (ab n).toNatClampNeg (ac n).toInt :=
  ⟨fun z => z.2 h, fun z => ⟨fun e => absurd (h.symm.trans e) (by decide), fun _ => z⟩⟩
theorem zr_sfn {Q n : Nat} (h3 : ¬ ki n = 3) (h5 : ¬ ki n = 5) : zr_sf ki aa ab ac ql qr qb pr po Q n := ⟨fun e => absurd e h3, fun e => absurd e h5⟩
theorem zx_isSafe {post : Int32 → SX → Prop} {F NL N Q n : Nat} (gt : zr_Gt F NL N ki aa ab ac pa so ow eo sn st wt) (hQ : zw_QV ql qr qb Q) (cc : zr_cc Q ql qr cs pr po) (hn : n < N)
    (h : ∀ di xCt, post (za_b (zr_sf ki aa ab ac ql qr qb pr po Q n)) (xFL, xNL, xQL, xN, xFi, xWc, xNs, xNp, xBe, nI Q, xEc, xIn, xIf, xCt, xLe, xDp, xCa, xPc, xRr, xLn, ki, aa, ab, ac, pa, so, ow, eo, sn, st, wt, ql, qr, qb, el, er, eb, cs, di, ce, vx, rt)) : wpX_isSafe post (xFL, xNL, xQL, xN, xFi, xWc, xNs, xNp, xBe, nI Q, xEc, xIn, xIf, xCt, xLe, xDp, xCa, xPc, xRr, xLn, ki, aa, ab, ac, pa, so, ow, eo, sn, st, wt, ql, qr, qb, el, er, eb, cs, di, ce, vx, rt) (nI n) := by
  have hN := zr_nb gt
  have n31 : n < 2 ^ 31 := by omega
  have hi : vp_in (nI n) 24 := vp_in_nI (by omega) (by decide)
  obtain ⟨v0, v1, v2, v3, v4, v5, v6⟩ := gt.2.2.2.2.2.1 n hn
  unfold wpX_isSafe
  dsimp only
  rw [nI_clamp n31]
  refine ⟨hi, nm_e ⟨hi, br_c (fun k => ?_) (fun k => ⟨hi, br_c (fun k5 => ?_) (fun k5 => ?_)⟩)⟩⟩
  · refine zx_fa gt hQ cc hn (fun di xCt hA => ?_)
    refine zx_forced hA za_in0 v1 (by rw [za_i0]; omega) (za_ble (fun e1 => ?_) (fun e1 => ?_))
    · refine zx_forced hA v1 za_in1 (by rw [za_im1]; omega) (za_ble (fun e2 => ?_) (fun e2 => ?_))
      · have H := h di xCt
        rw [za_bt ((zr_sf3 k).mpr ⟨e1, e2⟩)] at H
        exact H
      · have H := h di xCt
        rw [za_bf (fun z => e2 ((zr_sf3 k).mp z).2)] at H
        exact H
    · have H := h di xCt
      rw [za_bf (fun z => e1 ((zr_sf3 k).mp z).1)] at H
      exact H
  · obtain ⟨w1, w2⟩ := v5 (Or.inl k5)
    refine zx_fa gt hQ cc hn (fun di xCt hA => ?_)
    refine ⟨hi, hi, ?_⟩
    show wpX_forced _ (xFL, xNL, xQL, xN, xFi, xWc, xNs, xNp, xBe, nI Q, xEc, xIn, xIf, xCt, xLe, xDp, xCa, xPc, xRr, xLn, ki, aa, ab, ac, pa, so, ow, eo, sn, st, wt, ql, qr, qb, el, er, eb, cs, di, ce, vx, rt) (aa n) (ab n) (ac n)
    refine zx_forced hA v1 w1 (by omega) ⟨za_nar _, ?_⟩
    have H := h di xCt
    rw [za_bb (zr_sf5 k5)] at H
    exact H
  · have H := h di xCt
    rw [za_bt (zr_sfn k k5)] at H
    exact H
theorem zy_safe {post : Int32 → SY → Prop} {F NL N Q n : Nat} (gt : zr_Gt F NL N ki aa ab ac pa so ow eo sn st wt) (hQ : zw_QV ql qr qb Q) (hn : n < N)
    (h : ∀ yPl yBo yFa pth sid fl fr fk gu, post (za_b (zr_sf ki aa ab ac ql qr qb pr po Q n)) (yF, yMN, yMQ, nI N, nI Q, yE, yLe, yLv, yLn, 1, yPl, yBo, yFa, ki, aa, ab, ac, ql, qr, qb, el, er, eb, ce, pr, po, pth, sid, fl, fr, fk, gu, av, vy)) : wpY_safe post (yF, yMN, yMQ, nI N, nI Q, yE, yLe, yLv, yLn, 1, yPl, yBo, yFa, ki, aa, ab, ac, ql, qr, qb, el, er, eb, ce, pr, po, pth, sid, fl, fr, fk, gu, av, vy) (nI n) := by
  have hN := zr_nb gt
  have n31 : n < 2 ^ 31 := by omega
  have hi : vp_in (nI n) 24 := vp_in_nI (by omega) (by decide)
  obtain ⟨v0, v1, v2, v3, v4, v5, v6⟩ := gt.2.2.2.2.2.1 n hn
  unfold wpY_safe
  refine br_f za_n10 (br_f (nI_pos n31) (pk_lt n N (fun _ => zy_fa gt hQ hn (fun m fl fr fk pth sid hm hS => ?_)) (fun z => absurd z (by omega))))
  dsimp only
  rw [nI_clamp n31]
  refine ⟨hi, br_c (fun k => ⟨hi, ?_⟩) (fun k => ⟨hi, br_c (fun k5 => ⟨hi, hi, hi, ?_⟩) (fun k5 => ?_)⟩)⟩
  · refine zy_forces (by omega) hS za_in0 v1 (by rw [za_i0]; omega) (fun fl fr fk gu hS => za_ble (fun e1 => ⟨hi, ?_⟩) (fun e1 => ?_))
    · refine zy_forces (by omega) hS v1 za_in1 (by rw [za_im1]; omega) (fun fl fr fk gu hS => za_ble (fun e2 => ?_) (fun e2 => ?_))
      · have H := h (nI (zw_w ki n).1.length) (nI (zw_w ki n).2) (nI m) pth sid fl fr fk gu
        rw [za_bt ((zr_sf3 k).mpr ⟨e1, e2⟩)] at H
        exact H
      · have H := h (nI (zw_w ki n).1.length) (nI (zw_w ki n).2) (nI m) pth sid fl fr fk gu
        rw [za_bf (fun z => e2 ((zr_sf3 k).mp z).2)] at H
        exact H
    · have H := h (nI (zw_w ki n).1.length) (nI (zw_w ki n).2) (nI m) pth sid fl fr fk gu
      rw [za_bf (fun z => e1 ((zr_sf3 k).mp z).1)] at H
      exact H
  · obtain ⟨w1, w2⟩ := v5 (Or.inl k5)
    refine zy_forces (by omega) hS v1 w1 w2 (fun fl fr fk gu hS => za_ble (fun e1 => ?_) (fun e1 => ?_))
    · have H := h (nI (zw_w ki n).1.length) (nI (zw_w ki n).2) (nI m) pth sid fl fr fk gu
      rw [za_bt ((zr_sf5 k5).mpr e1)] at H
      exact H
    · have H := h (nI (zw_w ki n).1.length) (nI (zw_w ki n).2) (nI m) pth sid fl fr fk gu
      rw [za_bf (fun z => e1 ((zr_sf5 k5).mp z))] at H
      exact H
  · have H := h (nI (zw_w ki n).1.length) (nI (zw_w ki n).2) (nI m) pth sid fl fr fk gu
    rw [za_bt (zr_sfn k k5)] at H
    exact H
theorem i_vc_safe {k : Nat} {u : SX} {v : SY} (I : i_Rel k u v) (hk : k + 5 ≤ 2563) (v1 : Int32) : wpX_safe (fun r u' => wpY_safe (fun r' v' => r' = r ∧ i_Rel (k + 5) u' v') v v1) u v1 := by
  refine zr_el (P := fun u v => wpX_safe (fun r u' => wpY_safe (fun r' v' => r' = r ∧ i_Rel (k + 5) u' v') v v1) u v1) ?_ I
  intro F NL QL N Q E Le xIn xIf xCt xDp xCa xPc xRr xLn yPl yBo yFa ki aa ab ac pa so ow eo sn st wt ql qr qb el er eb cs di ce vx rt pr po pth sid fl fr fk gu av vy G
  have G0 := G
  obtain ⟨gt, gq, gc, gv⟩ := G
  have hN := zr_nb gt
  unfold wpX_safe
  refine br_c (fun c => br_t c ⟨rfl, zr_in G0⟩) (fun c => ?_)
  obtain e | ⟨e, cc⟩ := gc
  · exact absurd e c
  subst e
  refine br_c (fun c1 => br_f c (br_t c1 ⟨rfl, zr_in G0⟩)) (fun c1 => ?_)
  obtain ⟨n, hn, e⟩ := nI_of c1
  subst e
  refine pk_lt n N (fun c2 => ?_) (fun c2 => br_f c (br_f c1 (pk_lt n N (fun z => absurd z (by omega)) (fun _ => ⟨rfl, zr_in G0⟩))))
  refine zx_isSafe gt gq.2.2.1 cc c2 (fun di xCt => ?_)
  have fin : wpY_safe (fun r' v' => r' = za_b (zr_sf ki aa ab ac ql qr qb pr po Q n) ∧ i_Rel (k + 5) (nI F, nI NL, nI QL, nI N, nI (zw_w ki N).2, nI (zw_v ki (zw_w ki N).1).length, nI (zw_sc ki N), zw_hp (zw_w ki N).1, zw_hs (zw_w ki N).1, nI Q, nI E, 1, xIf, xCt, nI Le, xDp, xCa, xPc, xRr, xLn, ki, aa, ab, ac, pa, so, ow, eo, sn, st, wt, ql, qr, qb, el, er, eb, cs, di, ce, vx, rt) v') (nI F, nI NL, nI QL, nI N, nI Q, nI E, nI Le, xRr, xLn, 1, yPl, yBo, yFa, ki, aa, ab, ac, ql, qr, qb, el, er, eb, ce, pr, po, pth, sid, fl, fr, fk, gu, av, vy) (nI n) :=
    zy_safe gt gq.2.2.1 c2 (fun yPl yBo yFa pth sid fl fr fk gu => ⟨rfl, zr_in (G0)⟩)
  refine za_ble (fun e1 => ?_) (fun e1 => ?_)
  · rw [za_bt e1] at fin; exact fin
  · rw [za_bf e1] at fin; exact fin
theorem zx_known {post : Int32 → SX → Prop} {F NL N Q n : Nat} {v2 v3 v4 : Int32} (gt : zr_Gt F NL N ki aa ab ac pa so ow eo sn st wt) (hQ : zw_QV ql qr qb Q) (cc : zr_cc Q ql qr cs pr po) (hn : n < N)
    (hB : ¬ (vp_in v2 (zw_sc ki n) ∧ vp_in v3 (zw_sc ki n) ∧ (-1000 ≤ v4.toInt ∧ v4.toInt ≤ 1000)) → post (-2) (xFL, xNL, xQL, nI N, xFi, xWc, xNs, xNp, xBe, nI Q, xEc, 1, xIf, xCt, xLe, xDp, xCa, xPc, xRr, xLn, ki, aa, ab, ac, pa, so, ow, eo, sn, st, wt, ql, qr, qb, el, er, eb, cs, di, ce, vx, rt))
    (hO : vp_in v2 (zw_sc ki n) ∧ vp_in v3 (zw_sc ki n) ∧ (-1000 ≤ v4.toInt ∧ v4.toInt ≤ 1000) → ∀ di xCt, post (za_b (zf_ent (zw_S ki aa ab ac ql qr qb pr po Q n) v2.toNatClampNeg v3.toNatClampNeg v4.toInt)) (xFL, xNL, xQL, nI N, xFi, xWc, xNs, xNp, xBe, nI Q, xEc, 1, xIf, xCt, xLe, xDp, xCa, xPc, xRr, xLn, ki, aa, ab, ac, pa, so, ow, eo, sn, st, wt, ql, qr, qb, el, er, eb, cs, di, ce, vx, rt)) :
    wpX_known post (xFL, xNL, xQL, nI N, xFi, xWc, xNs, xNp, xBe, nI Q, xEc, 1, xIf, xCt, xLe, xDp, xCa, xPc, xRr, xLn, ki, aa, ab, ac, pa, so, ow, eo, sn, st, wt, ql, qr, qb, el, er, eb, cs, di, ce, vx, rt) (nI n) v2 v3 v4 := by
  have hN := zr_nb gt
  have n31 : n < 2 ^ 31 := by omega
  have hsc : zw_sc ki n ≤ 10 := gt.2.2.2.2.2.2.2.2.1 n (by omega)
  have ten : ∀ x, vp_in x (zw_sc ki n) → vp_in x 10 := fun x hx => by rw [vp_in_iff] at hx ⊢; omega
  unfold wpX_known
  refine br_f za_n10 (br_f (nI_pos n31) (pk_lt n N (fun _ => ⟨vp_in_nI (by omega) (by decide), nm_r (e' := nI (zw_sc ki n)) (by rw [nI_clamp n31]; exact (gt.2.2.2.2.1 n hn).2.1) ?_⟩) (fun z => absurd z (by omega))))
  refine za_inX (by omega) (fun c1 => za_inX (by omega) (fun c2 => zx_isC (fun c3 => br_f za_n10 ?_) (fun c3 => br_t rfl (hB (fun z => c3 z.2.2)))) (fun c2 => hB (fun z => c2 z.2.1))) (fun c1 => hB (fun z => c1 z.1))
  refine zx_fa gt hQ cc hn (fun di xCt hA => zx_forced hA (ten _ c1) (ten _ c2) c3.2 (za_ble (fun e => ?_) (fun e => ?_)))
  · have H := hO ⟨c1, c2, c3⟩ di xCt
    rw [za_bt e] at H
    exact H
  · have H := hO ⟨c1, c2, c3⟩ di xCt
    rw [za_bf e] at H
    exact H
theorem zy_known {post : Int32 → SY → Prop} {F NL N Q n : Nat} {v2 v3 v4 : Int32} (gt : zr_Gt F NL N ki aa ab ac pa so ow eo sn st wt) (hQ : zw_QV ql qr qb Q) (hn : n < N)
    (hB : ¬ (vp_in v2 (zw_sc ki n) ∧ vp_in v3 (zw_sc ki n) ∧ (-1000 ≤ v4.toInt ∧ v4.toInt ≤ 1000)) → ∀ yPl yBo pth sid, post (-2) (yF, yMN, yMQ, nI N, nI Q, yE, yLe, yLv, yLn, 1, yPl, yBo, yFa, ki, aa, ab, ac, ql, qr, qb, el, er, eb, ce, pr, po, pth, sid, fl, fr, fk, gu, av, vy))
    (hO : vp_in v2 (zw_sc ki n) ∧ vp_in v3 (zw_sc ki n) ∧ (-1000 ≤ v4.toInt ∧ v4.toInt ≤ 1000) → ∀ yPl yBo yFa pth sid fl fr fk gu, post (za_b (zf_ent (zw_S ki aa ab ac ql qr qb pr po Q n) v2.toNatClampNeg v3.toNatClampNeg v4.toInt)) (yF, yMN, yMQ, nI N, nI Q, yE, yLe, yLv, yLn, 1, yPl, yBo, yFa, ki, aa, ab, ac, ql, qr, qb, el, er, eb, ce, pr, po, pth, sid, fl, fr, fk, gu, av, vy)) :
    wpY_known post (yF, yMN, yMQ, nI N, nI Q, yE, yLe, yLv, yLn, 1, yPl, yBo, yFa, ki, aa, ab, ac, ql, qr, qb, el, er, eb, ce, pr, po, pth, sid, fl, fr, fk, gu, av, vy) (nI n) v2 v3 v4 := by
  have hN := zr_nb gt
  have n31 : n < 2 ^ 31 := by omega
  have hsc : zw_sc ki n ≤ 10 := gt.2.2.2.2.2.2.2.2.1 n (by omega)
  have ten : ∀ x, vp_in x (zw_sc ki n) → vp_in x 10 := fun x hx => by rw [vp_in_iff] at hx ⊢; omega
  unfold wpY_known
  refine br_f za_n10 (br_f (nI_pos n31) (pk_lt n N (fun _ => zy_scopeAt (by omega) (fun pth sid _ => ?_)) (fun z => absurd z (by omega))))
  refine za_inX (by omega) (fun c1 => za_inX (by omega) (fun c2 => zy_isC (fun c3 => br_f za_n10 ?_) (fun c3 => br_t rfl (hB (fun z => c3 z.2.2) _ _ pth sid))) (fun c2 => hB (fun z => c2 z.2.1) _ _ pth sid)) (fun c1 => hB (fun z => c1 z.1) _ _ pth sid)
  refine zy_fa gt hQ hn (fun m fl fr fk pth sid hm hS => zy_forces (by omega) hS (ten _ c1) (ten _ c2) c3 (fun fl fr fk gu hS => za_ble (fun e => ?_) (fun e => ?_)))
  · have H := hO ⟨c1, c2, c3⟩ (nI (zw_w ki n).1.length) (nI (zw_w ki n).2) (nI m) pth sid fl fr fk gu
    rw [za_bt e] at H
    exact H
  · have H := hO ⟨c1, c2, c3⟩ (nI (zw_w ki n).1.length) (nI (zw_w ki n).2) (nI m) pth sid fl fr fk gu
    rw [za_bf e] at H
    exact H
theorem i_vc_known {k : Nat} {u : SX} {v : SY} (I : i_Rel k u v) (hk : k + 5 ≤ 2563) (v1 : Int32) (v2 : Int32) (v3 : Int32) (v4 : Int32) : wpX_known (fun r u' => wpY_known (fun r' v' => r' = r ∧ i_Rel (k + 5) u' v') v v1 v2 v3 v4) u v1 v2 v3 v4 := by
  refine zr_el (P := fun u v => wpX_known (fun r u' => wpY_known (fun r' v' => r' = r ∧ i_Rel (k + 5) u' v') v v1 v2 v3 v4) u v1 v2 v3 v4) ?_ I
  intro F NL QL N Q E Le xIn xIf xCt xDp xCa xPc xRr xLn yPl yBo yFa ki aa ab ac pa so ow eo sn st wt ql qr qb el er eb cs di ce vx rt pr po pth sid fl fr fk gu av vy G
  have G0 := G
  obtain ⟨gt, gq, gc, gv⟩ := G
  have hN := zr_nb gt
  by_cases c : xIn = 0
  · unfold wpX_known wpY_known
    exact br_t c (br_t c ⟨rfl, zr_in G0⟩)
  obtain e | ⟨e, cc⟩ := gc
  · exact absurd e c
  subst e
  by_cases c1 : v1 < 0
  · unfold wpX_known wpY_known
    exact br_f c (br_t c1 (br_f c (br_t c1 ⟨rfl, zr_in G0⟩)))
  obtain ⟨n, hn, e⟩ := nI_of c1
  subst e
  by_cases c2 : n < N
  · refine zx_known gt gq.2.2.1 cc c2 (fun z => zy_known gt gq.2.2.1 c2 (fun _ yPl yBo pth sid => ⟨rfl, zr_in G0⟩) (fun z2 => absurd z2 z)) (fun z di xCt => zy_known gt gq.2.2.1 c2 (fun z2 => absurd z z2) (fun _ yPl yBo yFa pth sid fl fr fk gu => ⟨rfl, zr_in G0⟩))
  · unfold wpX_known wpY_known
    exact br_f c (br_f c1 (pk_lt n N (fun z => absurd z c2) (fun _ => br_f c (br_f c1 (pk_lt n N (fun z => absurd z c2) (fun _ => ⟨rfl, zr_in G0⟩))))))
end
end
section
section
variable {xFL xNL xQL xN xFi xWc xNs xNp xBe xQc xEc xIn xIf xCt xLe xDp xCa xPc xRr xLn yF yMN yMQ yN yQ yE yLe yLv yLn yIn yPl yBo yFa : Int32} {ki aa ab ac pa so ow eo sn st wt ql qr qb el er eb cs di ce vx rt pr po pth sid fl fr fk gu av vy : Nat → Int32}
theorem i_vc_kept {k : Nat} {u : SX} {v : SY} (I : i_Rel k u v) (hk : k + 5 ≤ 2563) (v1 : Int32) (v2 : Int32) (v3 : Int32) : wpX_kept (fun r => wpY_kept (fun r' => r' = r ∧ i_Rel (k + 5) u v) v v1 v2 v3) u v1 v2 v3 := by
  refine zr_el (P := fun u v => wpX_kept (fun r => wpY_kept (fun r' => r' = r ∧ i_Rel (k + 5) u v) v v1 v2 v3) u v1 v2 v3) ?_ I
  intro F NL QL N Q E Le xIn xIf xCt xDp xCa xPc xRr xLn yPl yBo yFa ki aa ab ac pa so ow eo sn st wt ql qr qb el er eb cs di ce vx rt pr po pth sid fl fr fk gu av vy G
  have G0 := G
  obtain ⟨gt, gq, gc, gv⟩ := G
  obtain ⟨g1, g2, g3⟩ := gt
  obtain ⟨q1, q2, q3⟩ := gq
  unfold wpX_kept
  refine br_c (fun c => br_t c ⟨rfl, zr_in G0⟩) (fun c => br_c (fun c1 => br_f c (br_t c1 ⟨rfl, zr_in G0⟩)) (fun c1 => br_c (fun c2 => br_f c (br_f c1 (br_t c2 ⟨rfl, zr_in G0⟩))) (fun c2 => ?_)))
  obtain e | ⟨e, cc⟩ := gc
  · exact absurd e c
  subst e
  obtain ⟨f, hf, e⟩ := za_of c1 c2 (by omega)
  subst e
  have fin : ∀ (s : Nat) (x : Int32), s < 2 → v2 = nI s → (∀ (post : Int32 → Prop), wY_kept_30 post (nI f) v2 v3 (nI F) (nI NL) (nI QL) (nI N) (nI Q) (nI E) (nI Le) xRr xLn 1 yPl yBo yFa ki aa ab ac ql qr qb el er eb ce pr po pth sid fl fr fk gu av vy → wpY_kept post (nI F, nI NL, nI QL, nI N, nI Q, nI E, nI Le, xRr, xLn, 1, yPl, yBo, yFa, ki, aa, ab, ac, ql, qr, qb, el, er, eb, ce, pr, po, pth, sid, fl, fr, fk, gu, av, vy) (nI f) v2 v3) →
      (∀ q, q < Q → cs ((s * 3 + f) * 8 + q) = (if s = 0 then pr (f * 8 + q) else po (f * 8 + q))) →
      wX_kept_30 (fun r => wpY_kept (fun r' => r' = r ∧ i_Rel (k + 5) (nI F, nI NL, nI QL, nI N, nI (zw_w ki N).2, nI (zw_v ki (zw_w ki N).1).length, nI (zw_sc ki N), zw_hp (zw_w ki N).1, zw_hs (zw_w ki N).1, nI Q, nI E, 1, xIf, xCt, nI Le, xDp, xCa, xPc, xRr, xLn, ki, aa, ab, ac, pa, so, ow, eo, sn, st, wt, ql, qr, qb, el, er, eb, cs, di, ce, vx, rt) (nI F, nI NL, nI QL, nI N, nI Q, nI E, nI Le, xRr, xLn, 1, yPl, yBo, yFa, ki, aa, ab, ac, ql, qr, qb, el, er, eb, ce, pr, po, pth, sid, fl, fr, fk, gu, av, vy)) (nI F, nI NL, nI QL, nI N, nI Q, nI E, nI Le, xRr, xLn, 1, yPl, yBo, yFa, ki, aa, ab, ac, ql, qr, qb, el, er, eb, ce, pr, po, pth, sid, fl, fr, fk, gu, av, vy) (nI f) v2 v3) (nI f) v2 v3 (nI F) (nI NL) (nI QL) (nI N) (nI (zw_w ki N).2) (nI (zw_v ki (zw_w ki N).1).length) (nI (zw_sc ki N)) (zw_hp (zw_w ki N).1) (zw_hs (zw_w ki N).1) (nI Q) (nI E) 1 xIf xCt (nI Le) xDp xCa xPc xRr xLn ki aa ab ac pa so ow eo sn st wt ql qr qb el er eb cs di ce vx rt := fun s x hs e Y hc => by
    unfold wX_kept_30
    refine br_c (fun d1 => Y _ ?_) (fun d1 => ?_)
    · unfold wY_kept_30
      exact br_t d1 ⟨rfl, zr_in G0⟩
    · obtain ⟨q, hq, e3⟩ := nI_of d1
      subst e3
      have ei : (v2 * 3 + nI f) * 8 + nI q = nI ((s * 3 + f) * 8 + q) := by rw [e, za_m3, nI_add, za_m8, nI_add]
      have ej : nI f * 8 + nI q = nI (f * 8 + q) := by rw [za_m8, nI_add]
      refine pk_lt q Q (fun d2 => ?_) (fun d2 => Y _ ?_)
      · rw [ei, nI_clamp (by omega), hc q d2]
        have y : ∀ (post : Int32 → Prop), ((if s = 0 then pr (f * 8 + q) else po (f * 8 + q)) = 0 → post 0) → (¬ (if s = 0 then pr (f * 8 + q) else po (f * 8 + q)) = 0 → post 1) → wpY_kept post (nI F, nI NL, nI QL, nI N, nI Q, nI E, nI Le, xRr, xLn, 1, yPl, yBo, yFa, ki, aa, ab, ac, ql, qr, qb, el, er, eb, ce, pr, po, pth, sid, fl, fr, fk, gu, av, vy) (nI f) v2 (nI q) := fun post h0 h1 => by
          refine Y _ ?_
          unfold wY_kept_30
          rw [ej, nI_clamp (by omega)]
          refine br_f d1 (pk_lt q Q (fun _ => ?_) (fun z => absurd z (by omega)))
          have i24 : vp_in (nI (f * 8 + q)) 24 := vp_in_nI (by omega) (by decide)
          by_cases s0 : s = 0
          · rw [if_pos s0] at h0 h1
            refine br_t (by rw [e, s0]; rfl) ⟨i24, ?_⟩
            unfold wY_kept_74
            exact br_c h0 h1
          · rw [if_neg s0] at h0 h1
            have s1 : s = 1 := by omega
            refine br_f (by rw [e, s1]; decide) ⟨i24, ?_⟩
            unfold wY_kept_74
            exact br_c h0 h1
        refine ⟨vp_in_nI (by omega) (by decide), br_c (fun z => y _ (fun _ => ⟨rfl, zr_in G0⟩) (fun z2 => absurd z z2)) (fun z => y _ (fun z2 => absurd z2 z) (fun _ => ⟨rfl, zr_in G0⟩))⟩
      · unfold wY_kept_30
        exact br_f d1 (pk_lt q Q (fun z => absurd z (by omega)) (fun _ => ⟨rfl, zr_in G0⟩))
  refine br_c (fun c3 => ?_) (fun c3 => br_c (fun c4 => ?_) (fun c4 => ?_))
  · refine fin 0 0 (by omega) c3 (fun post h => ?_) (fun q hq => ?_)
    · unfold wpY_kept
      exact br_f c (br_f c1 (br_f c2 (br_t c3 h)))
    · rw [if_pos rfl, ← cc.1 (f * 8 + q) (by omega)]
      exact congrArg cs (by omega)
  · refine fin 1 0 (by omega) c4 (fun post h => ?_) (fun q hq => ?_)
    · unfold wpY_kept
      exact br_f c (br_f c1 (br_f c2 (br_f c3 (br_t c4 h))))
    · rw [if_neg (by decide), ← cc.2.1 (f * 8 + q) (by omega)]
      exact congrArg cs (by omega)
  · unfold wpY_kept
    exact br_f c (br_f c1 (br_f c2 (br_f c3 (br_f c4 ⟨rfl, zr_in G0⟩))))
/-- what the last node says of the head of the path -/
theorem zw_last {N p : Nat} {s : Bool} {r : List (Nat × Bool)} (h : (zw_w ki N).1 = (p, s) :: r) : 0 < N ∧ (ki (N - 1) = 7 ↔ s = true) := by
  cases N with
  | zero => exact absurd h.symm (List.cons_ne_nil _ _)
  | succ M =>
    refine ⟨Nat.succ_pos M, ?_⟩
    show ki M = 7 ↔ s = true
    by_cases h7 : ki M = 7
    · by_cases e : zw_pop ki (zw_w ki M).1 = []
      · rw [zw_7e h7 e] at h; exact absurd h.symm (List.cons_ne_nil _ _)
      · rw [zw_7n h7 e] at h
        obtain ⟨_, q⟩ | ⟨p', ws, r', _, q, _⟩ := zw_pop_q (ki := ki) (zw_w ki M).1
        · exact absurd q e
        · have h' : zw_pop ki (zw_w ki M).1 = (p, s) :: r := h
          rw [q] at h'
          injection h' with h1 h2
          injection h1 with h1 h3
          exact ⟨fun _ => h3.symm, fun _ => h7⟩
    · rw [zw_n h7] at h
      injection h with h1 h2
      injection h1 with h1 h3
      exact ⟨fun z => absurd z h7, fun z => by rw [← h3] at z; exact (Bool.noConfusion z)⟩
theorem zy_p12 {post : Int32 → SY → Prop} {l : List (Nat × Bool)} {b N : Nat} (hR : zw_R pth sid l) (hl : (zw_w ki N).1 = l) (hb : (zw_w ki N).2 = b) (hN : N ≤ 24)
    (h : post (nI (100 * b + (zw_v ki l).length)) (yF, yMN, yMQ, nI N, yQ, yE, yLe, yLv, yLn, yIn, nI l.length, nI b, yFa, ki, aa, ab, ac, ql, qr, qb, el, er, eb, ce, pr, po, pth, sid, fl, fr, fk, gu, av, vy)) : ∀ (d i n : Nat), i + d = l.length → d < n →
    wY_position_12 post yF yMN yMQ (nI N) yQ yE yLe yLv yLn yIn (nI l.length) (nI b) yFa ki aa ab ac ql qr qb el er eb ce pr po pth sid fl fr fk gu av vy n (nI (zw_q ki (zw_t l i)).length) (nI i) := by
  have hC : zw_C ki b l N := by
    have := zw_chain ki N
    rw [hl, hb] at this
    exact this
  have hL : l.length ≤ N := by rw [← hl]; exact zw_len N
  have hb2 : b ≤ N := by rw [← hb]; exact zw_b2_le N
  have e100 : ∀ w : Nat, (100 : Int32) * nI b + nI w = nI (100 * b + w) := fun w => by
    have e : (100 : Int32) * nI b = nI (100 * b) := pk_mul 100 b
    rw [e, nI_add]
  intro d
  induction d with
  | zero =>
    intro i n hi hn
    obtain ⟨n, rfl⟩ : ∃ c, n = c + 1 := ⟨n - 1, by omega⟩
    have hi' : i = l.length := hi
    subst hi'
    rw [wY_position_12]
    refine pk_le l.length l.length (fun _ => ?_) (fun z => absurd z (Nat.lt_irrefl _))
    rw [zw_t_all]
    cases l with
    | nil =>
      refine pk_le 0 0 (fun _ => ?_) (fun z => absurd z (Nat.lt_irrefl 0))
      rw [e100]; exact h
    | cons a r =>
      obtain ⟨p, s⟩ := a
      obtain ⟨z1, z2⟩ := zw_last hl
      have hL' : r.length + 1 ≤ N := hL
      rw [za_s1 z1, nI_clamp (by omega)]
      refine pk_le (r.length + 1) 0 (fun z => absurd z (by omega)) (fun _ => ⟨vp_in_nI (by omega) (by decide), ?_⟩)
      cases s with
      | true =>
        have e : zw_q ki ((p, true) :: r) = zw_q ki r := zw_q_f (fun z => (Bool.noConfusion z.2))
        rw [e]
        refine br_t (z2.mpr rfl) (nm_r (nI_1 _) ?_)
        rw [e100]; exact h
      | false =>
        refine br_f (fun z => (Bool.noConfusion (z2.mp z))) ?_
        rw [e100]; exact h
  | succ d ih =>
    intro i n hi hn
    obtain ⟨n, rfl⟩ : ∃ c, n = c + 1 := ⟨n - 1, by omega⟩
    obtain ⟨p, s, h1, h2, h3, h4, h5, h6, h7⟩ := zw_t_s l N i hR hC (by omega)
    rw [wY_position_12]
    dsimp only
    rw [nI_clamp (show i < 2 ^ 31 by omega), h1, nI_clamp (show p < 2 ^ 31 by omega), h2]
    have i25 : vp_in (nI i) 25 := vp_in_nI (by omega) (by decide)
    have i' := ih (i + 1) n (by omega) (by omega)
    rw [h7] at i'
    refine pk_le l.length i (fun z => absurd z (by omega)) (fun _ => ⟨i25, vp_in_nI (by omega) (by decide), br_c (fun k6 => ⟨i25, br_c (fun s0 => ?_) (fun s0 => ?_)⟩) (fun k6 => ?_)⟩)
    · rw [zw_q_t ⟨k6, zw_b_0.mp s0⟩] at i'
      exact nm_r (nI_1 _) (nm_r (nI_1 i) i')
    · rw [zw_q_f (fun z => s0 (zw_b_0.mpr z.2))] at i'
      exact nm_r (nI_1 i) i'
    · rw [zw_q_f (fun z => k6 z.1)] at i'
      exact nm_r (nI_1 i) i'
theorem zy_position {post : Int32 → SY → Prop} {N : Nat} (hN : N ≤ 24) (h : ∀ yPl yBo pth sid, post (nI (100 * (zw_w ki N).2 + (zw_v ki (zw_w ki N).1).length)) (yF, yMN, yMQ, nI N, yQ, yE, yLe, yLv, yLn, yIn, yPl, yBo, yFa, ki, aa, ab, ac, ql, qr, qb, el, er, eb, ce, pr, po, pth, sid, fl, fr, fk, gu, av, vy)) : wpY_position post (yF, yMN, yMQ, nI N, yQ, yE, yLe, yLv, yLn, yIn, yPl, yBo, yFa, ki, aa, ab, ac, ql, qr, qb, el, er, eb, ce, pr, po, pth, sid, fl, fr, fk, gu, av, vy) := by
  unfold wpY_position
  refine zy_walk hN (fun pth sid hR => ⟨(zw_w ki N).1.length + 1, ?_⟩)
  have c := zy_p12 (post := post) hR rfl rfl hN (h (nI (zw_w ki N).1.length) (nI (zw_w ki N).2) pth sid) (zw_w ki N).1.length 0 ((zw_w ki N).1.length + 1) (by omega) (by omega)
  rw [zw_t_0] at c
  exact c
theorem i_vc_position {k : Nat} {u : SX} {v : SY} (I : i_Rel k u v) (hk : k + 5 ≤ 2563) : wpX_position (fun r => wpY_position (fun r' v' => r' = r ∧ i_Rel (k + 5) u v') v) u := by
  refine zr_el (P := fun u v => wpX_position (fun r => wpY_position (fun r' v' => r' = r ∧ i_Rel (k + 5) u v') v) u) ?_ I
  intro F NL QL N Q E Le xIn xIf xCt xDp xCa xPc xRr xLn yPl yBo yFa ki aa ab ac pa so ow eo sn st wt ql qr qb el er eb cs di ce vx rt pr po pth sid fl fr fk gu av vy G
  have e : nI (100 * (zw_w ki N).2 + (zw_v ki (zw_w ki N).1).length) = (100 : Int32) * nI (zw_w ki N).2 + nI (zw_v ki (zw_w ki N).1).length := by
    have e : (100 : Int32) * nI (zw_w ki N).2 = nI (100 * (zw_w ki N).2) := pk_mul 100 _
    rw [e, nI_add]
  unfold wpX_position
  exact zy_position (zr_nb G.1) (fun yPl yBo pth sid => ⟨e, zr_in G⟩)
/-- the value of an entry slot -/
def zr_ev (le x y s : Int32) : Int32 := if s = 1 then le else if s = 2 then x else if s = 3 then y else 0
theorem zx_ev {post : Int32 → Prop} {s x y : Int32} (h : post (zr_ev xLe x y s)) : wpX_entryValue post (xFL, xNL, xQL, xN, xFi, xWc, xNs, xNp, xBe, xQc, xEc, xIn, xIf, xCt, xLe, xDp, xCa, xPc, xRr, xLn, ki, aa, ab, ac, pa, so, ow, eo, sn, st, wt, ql, qr, qb, el, er, eb, cs, di, ce, vx, rt) s x y := by
  unfold wpX_entryValue
  unfold zr_ev at h
  by_cases h1 : s = 1
  · rw [if_pos h1] at h; exact br_t h1 h
  · rw [if_neg h1] at h
    refine br_f h1 ?_
    by_cases h2 : s = 2
    · rw [if_pos h2] at h; exact br_t h2 h
    · rw [if_neg h2] at h
      refine br_f h2 ?_
      by_cases h3 : s = 3
      · rw [if_pos h3] at h; exact br_t h3 h
      · rw [if_neg h3] at h; exact br_f h3 h
/-- the entry bounds are met -/
def zr_mt (el er eb : Nat → Int32) (le x y : Int32) (E : Nat) : Prop := ∀ e, e < E → zr_ev le x y (el e) - zr_ev le x y (er e) ≤ eb e
theorem zx_m21 {post : Int32 → Prop} {x y : Int32} {E : Nat} (hE : E ≤ 4) (h : post (za_b (zr_mt el er eb xLe x y E))) : ∀ (d i n : Nat), i + d = E → d < n → zr_mt el er eb xLe x y i →
    wX_meets_21 post x y xFL xNL xQL xN xFi xWc xNs xNp xBe xQc (nI E) xIn xIf xCt xLe xDp xCa xPc xRr xLn ki aa ab ac pa so ow eo sn st wt ql qr qb el er eb cs di ce vx rt n (nI i) := by
  intro d
  induction d with
  | zero =>
    intro i n hi hn H
    obtain ⟨n, rfl⟩ : ∃ c, n = c + 1 := ⟨n - 1, by omega⟩
    have hi' : i = E := hi
    subst hi'
    rw [wX_meets_21]
    rw [za_bt H] at h
    exact pk_le i i (fun _ => h) (fun z => absurd z (Nat.lt_irrefl i))
  | succ d ih =>
    intro i n hi hn H
    obtain ⟨n, rfl⟩ : ∃ c, n = c + 1 := ⟨n - 1, by omega⟩
    have i4 : vp_in (nI i) 4 := vp_in_nI (by omega) (by decide)
    rw [wX_meets_21]
    dsimp only
    rw [nI_clamp (show i < 2 ^ 31 by omega)]
    refine pk_le E i (fun z => absurd z (by omega)) (fun _ => ⟨i4, zx_ev ⟨i4, zx_ev ⟨i4, br_c (fun c => nm_r (nI_1 i) (ih (i + 1) n (by omega) (by omega) (fun e he => ?_))) (fun c => ?_)⟩⟩⟩)
    · by_cases ee : e = i
      · rw [ee]; exact c
      · exact H e (by omega)
    · rw [za_bf (fun z => c (z i (by omega)))] at h
      exact h
theorem zx_meets {post : Int32 → Prop} {x y : Int32} {E : Nat} (hE : E ≤ 4) (hx : zr_VR x) (hy : zr_VR y) (h : post (za_b (zr_mt el er eb xLe x y E))) : wpX_meets post (xFL, xNL, xQL, xN, xFi, xWc, xNs, xNp, xBe, xQc, nI E, xIn, xIf, xCt, xLe, xDp, xCa, xPc, xRr, xLn, ki, aa, ab, ac, pa, so, ow, eo, sn, st, wt, ql, qr, qb, el, er, eb, cs, di, ce, vx, rt) x y := by
  unfold wpX_meets
  exact zx_isV (fun _ => br_f za_n10 (zx_isV (fun _ => br_f za_n10 ⟨E + 1, zx_m21 hE h E 0 (E + 1) (by omega) (by omega) (fun e he => absurd he (Nat.not_lt_zero e))⟩) (fun z => absurd hy z))) (fun z => absurd hx z)
/-- a frame's first four slots -/
def zr_fr (f : Nat → Int32) (b : Nat) (le x y : Int32) : Nat → Int32 := upd (upd (upd (upd f b 0) (b + 1) le) (b + 2) x) (b + 3) y
theorem zr_fr0 {f : Nat → Int32} {b : Nat} {le x y : Int32} : zr_fr f b le x y b = 0 := by
  unfold zr_fr; rw [pk_un (by omega), pk_un (by omega), pk_un (by omega), pk_us]
theorem zr_fr1 {f : Nat → Int32} {b : Nat} {le x y : Int32} : zr_fr f b le x y (b + 1) = le := by
  unfold zr_fr; rw [pk_un (by omega), pk_un (by omega), pk_us]
theorem zr_fr2 {f : Nat → Int32} {b : Nat} {le x y : Int32} : zr_fr f b le x y (b + 2) = x := by
  unfold zr_fr; rw [pk_un (by omega), pk_us]
theorem zr_fr3 {f : Nat → Int32} {b : Nat} {le x y : Int32} : zr_fr f b le x y (b + 3) = y := by
  unfold zr_fr; rw [pk_us]
theorem zr_frn {f : Nat → Int32} {b j : Nat} {le x y : Int32} (h : j < b ∨ b + 4 ≤ j) : zr_fr f b le x y j = f j := by
  unfold zr_fr; rw [pk_un (by omega), pk_un (by omega), pk_un (by omega), pk_un (by omega)]
theorem zr_frV {f : Nat → Int32} {b : Nat} {le x y : Int32} (hf : ∀ j, zr_VR (f j)) (hl : zr_VR le) (hx : zr_VR x) (hy : zr_VR y) (j : Nat) : zr_VR (zr_fr f b le x y j) := by
  by_cases e0 : j = b
  · rw [e0, zr_fr0]; exact zr_VR0
  · by_cases e1 : j = b + 1
    · rw [e1, zr_fr1]; exact hl
    · by_cases e2 : j = b + 2
      · rw [e2, zr_fr2]; exact hx
      · by_cases e3 : j = b + 3
        · rw [e3, zr_fr3]; exact hy
        · rw [zr_frn (by omega)]; exact hf j
theorem zr_frg {f g : Nat → Int32} {b : Nat} {le x y : Int32} (h : ∀ j, (j < b ∨ b + 4 ≤ j) → f j = g j) : zr_fr f b le x y = zr_fr g b le x y := by
  funext j
  by_cases e0 : j = b
  · rw [e0, zr_fr0, zr_fr0]
  · by_cases e1 : j = b + 1
    · rw [e1, zr_fr1, zr_fr1]
    · by_cases e2 : j = b + 2
      · rw [e2, zr_fr2, zr_fr2]
      · by_cases e3 : j = b + 3
        · rw [e3, zr_fr3, zr_fr3]
        · rw [zr_frn (by omega), zr_frn (by omega)]; exact h j (by omega)
theorem zr_VRn {n : Nat} (h : n ≤ 8) : zr_VR (nI n) := by
  unfold zr_VR; rw [nI_toInt (by omega)]; omega
theorem zy_begin {post : SY → Prop} {d : Nat} {p x y : Int32} (hd : d < 31) (h : post (yF, yMN, yMQ, yN, yQ, yE, yLe, yLv, yLn, yIn, yPl, yBo, yFa, ki, aa, ab, ac, ql, qr, qb, el, er, eb, ce, pr, po, pth, sid, fl, fr, fk, gu, upd av d p, zr_fr vy (d * 10) yLe x y)) : wpY_begin post (yF, yMN, yMQ, yN, yQ, yE, yLe, yLv, yLn, yIn, yPl, yBo, yFa, ki, aa, ab, ac, ql, qr, qb, el, er, eb, ce, pr, po, pth, sid, fl, fr, fk, gu, av, vy) (nI d) p x y := by
  unfold wpY_begin
  dsimp only
  have e1 : nI (d * 10) + 1 = nI (d * 10 + 1) := nI_1 _
  have e2 : nI (d * 10) + 2 = nI (d * 10 + 2) := nI_add _ 2
  have e3 : nI (d * 10) + 3 = nI (d * 10 + 3) := nI_add _ 3
  rw [za_m10, e1, e2, e3, nI_clamp (show d < 2 ^ 31 by omega), nI_clamp (show d * 10 < 2 ^ 31 by omega), nI_clamp (show d * 10 + 1 < 2 ^ 31 by omega), nI_clamp (show d * 10 + 2 < 2 ^ 31 by omega), nI_clamp (show d * 10 + 3 < 2 ^ 31 by omega)]
  exact ⟨vp_in_nI hd (by decide), nm_e ⟨vp_in_nI (by omega) (by decide), nm_e ⟨vp_in_nI (by omega) (by decide), nm_e ⟨vp_in_nI (by omega) (by decide), nm_e ⟨vp_in_nI (by omega) (by decide), nm_e h⟩⟩⟩⟩⟩
theorem zr_evf {f : Nat → Int32} {le x y s : Int32} (h : vp_in s 4) : zr_fr f 0 le x y s.toNatClampNeg = zr_ev le x y s := by
  obtain ⟨j, hj, rfl⟩ := vp_in_of h (by decide)
  rw [nI_clamp (by omega)]
  have c : j = 0 ∨ j = 1 ∨ j = 2 ∨ j = 3 := by omega
  obtain e | e | e | e := c
  · subst e; exact zr_fr0
  · subst e; exact zr_fr1
  · subst e; exact zr_fr2
  · subst e; exact zr_fr3
theorem zy_m29 {post : Int32 → SY → Prop} {x y : Int32} {E : Nat} (hE : E ≤ 4) (hel : ∀ e, e < E → vp_in (el e) 4 ∧ vp_in (er e) 4)
    (h : post (za_b (zr_mt el er eb yLe x y E)) (yF, yMN, yMQ, yN, yQ, nI E, yLe, yLv, yLn, yIn, yPl, yBo, yFa, ki, aa, ab, ac, ql, qr, qb, el, er, eb, ce, pr, po, pth, sid, fl, fr, fk, gu, av, zr_fr vy 0 yLe x y)) : ∀ (d i n : Nat), i + d = E → d < n → zr_mt el er eb yLe x y i →
    wY_meets_29 post yF yMN yMQ yN yQ (nI E) yLe yLv yLn yIn yPl yBo yFa ki aa ab ac ql qr qb el er eb ce pr po pth sid fl fr fk gu av (zr_fr vy 0 yLe x y) n (nI i) := by
  intro d
  induction d with
  | zero =>
    intro i n hi hn H
    obtain ⟨n, rfl⟩ : ∃ c, n = c + 1 := ⟨n - 1, by omega⟩
    have hi' : i = E := hi
    subst hi'
    rw [wY_meets_29]
    rw [za_bt H] at h
    exact pk_le i i (fun _ => h) (fun z => absurd z (Nat.lt_irrefl i))
  | succ d ih =>
    intro i n hi hn H
    obtain ⟨n, rfl⟩ : ∃ c, n = c + 1 := ⟨n - 1, by omega⟩
    have i4 : vp_in (nI i) 4 := vp_in_nI (by omega) (by decide)
    obtain ⟨h1, h2⟩ := hel i (by omega)
    have j1 : vp_in (el i) 310 := by rw [vp_in_iff] at h1 ⊢; omega
    have j2 : vp_in (er i) 310 := by rw [vp_in_iff] at h2 ⊢; omega
    rw [wY_meets_29]
    dsimp only
    rw [nI_clamp (show i < 2 ^ 31 by omega), zr_evf h1, zr_evf h2]
    refine pk_le E i (fun z => absurd z (by omega)) (fun _ => ⟨i4, j1, i4, j2, i4, br_c (fun c => nm_r (nI_1 i) (ih (i + 1) n (by omega) (by omega) (fun e he => ?_))) (fun c => ?_)⟩)
    · by_cases ee : e = i
      · rw [ee]; exact c
      · exact H e (by omega)
    · rw [za_bf (fun z => c (z i (by omega)))] at h
      exact h
theorem i_vc_meets {k : Nat} {u : SX} {v : SY} (I : i_Rel k u v) (hk : k + 5 ≤ 2563) (v1 : Int32) (v2 : Int32) : wpX_meets (fun r => wpY_meets (fun r' v' => r' = r ∧ i_Rel (k + 5) u v') v v1 v2) u v1 v2 := by
  refine zr_el (P := fun u v => wpX_meets (fun r => wpY_meets (fun r' v' => r' = r ∧ i_Rel (k + 5) u v') v v1 v2) u v1 v2) ?_ I
  intro F NL QL N Q E Le xIn xIf xCt xDp xCa xPc xRr xLn yPl yBo yFa ki aa ab ac pa so ow eo sn st wt ql qr qb el er eb cs di ce vx rt pr po pth sid fl fr fk gu av vy G
  have G0 := G
  obtain ⟨gt, gq, gc, gv⟩ := G
  obtain ⟨q1, q2, q3, q4, q5⟩ := gq
  by_cases cx : zr_VR v1
  · by_cases cy : zr_VR v2
    · refine zx_meets q4 cx cy ?_
      unfold wpY_meets
      refine zy_isV (fun _ => br_f za_n10 (zy_isV (fun _ => br_f za_n10 (zy_begin (d := 0) (by omega) ⟨E + 1, ?_⟩)) (fun z => absurd cy z))) (fun z => absurd cx z)
      refine zy_m29 q4 (fun e he => ⟨(q5 e he).1, (q5 e he).2.1⟩) ⟨rfl, zr_in ⟨gt, ⟨q1, q2, q3, q4, q5⟩, gc, gv.1, gv.2.1, fun j hj => ?_, gv.2.2.2.1, zr_frV gv.2.2.2.2 (zr_VRn gv.1) cx cy⟩⟩ E 0 (E + 1) (by omega) (by omega) (fun e he => absurd he (Nat.not_lt_zero e))
      rw [zr_frn (by omega)]
      exact gv.2.2.1 j hj
    · unfold wpX_meets
      refine zx_isV (fun _ => br_f za_n10 (zx_isV (fun z => absurd z cy) (fun _ => br_t rfl ?_))) (fun z => absurd cx z)
      unfold wpY_meets
      exact zy_isV (fun _ => br_f za_n10 (zy_isV (fun z => absurd z cy) (fun _ => br_t rfl ⟨rfl, zr_in G0⟩))) (fun z => absurd cx z)
  · unfold wpX_meets
    refine zx_isV (fun z => absurd z cx) (fun _ => br_t rfl ?_)
    unfold wpY_meets
    exact zy_isV (fun z => absurd z cx) (fun _ => br_t rfl ⟨rfl, zr_in G0⟩)
end
end
section
section
variable {xFL xNL xQL xN xFi xWc xNs xNp xBe xQc xEc xIn xIf xCt xLe xDp xCa xPc xRr xLn yF yMN yMQ yN yQ yE yLe yLv yLn yIn yPl yBo yFa : Int32} {ki aa ab ac pa so ow eo sn st wt ql qr qb el er eb cs di ce vx rt pr po pth sid fl fr fk gu av vy : Nat → Int32}
theorem zw_pop_sub {p : Nat} : ∀ (l : List (Nat × Bool)), (p, false) ∈ zw_pop ki l → (p, false) ∈ l := by
  intro l
  induction l with
  | nil => intro h; exact h
  | cons a r ih =>
    obtain ⟨q, s⟩ := a
    intro h
    by_cases c : ki q = 6 ∧ s = false
    · rw [zw_pop_t c] at h
      cases h with
      | tail _ h => exact List.Mem.tail _ h
    · rw [zw_pop_f c] at h
      exact List.Mem.tail _ (ih h)
theorem zw_pop_hd {p : Nat} {r : List (Nat × Bool)} : ∀ (l : List (Nat × Bool)), zw_pop ki l = (p, true) :: r → (p, false) ∈ l := by
  intro l
  induction l with
  | nil => intro h; exact absurd h.symm (List.cons_ne_nil _ _)
  | cons a r' ih =>
    obtain ⟨q, s⟩ := a
    intro h
    by_cases c : ki q = 6 ∧ s = false
    · rw [zw_pop_t c] at h
      injection h with h1 h2
      injection h1 with h1 h3
      rw [← h1, ← c.2]
      exact List.Mem.head _
    · rw [zw_pop_f c] at h
      exact List.Mem.tail _ (ih h)
theorem zw_sec1 {m p : Nat} {r : List (Nat × Bool)} (h : (zw_w ki m).1 = (p, true) :: r) : ∀ n, m ≤ n → ¬ (p, false) ∈ (zw_w ki n).1 := by
  obtain ⟨h1, h2, _, _⟩ := zw_head h
  intro n
  induction n with
  | zero => intro hm _; omega
  | succ n ih =>
    intro hm hin
    by_cases e : m = n + 1
    · rw [← e, h] at hin
      cases hin with
      | tail _ hin =>
        have z := zw_lt (ki := ki) p (p, false) (by rw [h2]; exact hin)
        exact absurd z (Nat.lt_irrefl p)
    · have i := ih (by omega)
      by_cases h7 : ki n = 7
      · by_cases e : zw_pop ki (zw_w ki n).1 = []
        · rw [zw_7e h7 e] at hin; cases hin
        · rw [zw_7n h7 e] at hin
          exact i (zw_pop_sub _ hin)
      · rw [zw_n h7] at hin
        cases hin with
        | head => omega
        | tail _ hin => exact i hin
/-- a second branch begins once -/
theorem zw_sec2 {m n p : Nat} {r r' : List (Nat × Bool)} (h : (zw_w ki m).1 = (p, true) :: r) (hn : m < n) : ¬ (zw_w ki n).1 = (p, true) :: r' := by
  intro h'
  cases n with
  | zero => omega
  | succ n =>
    have i := zw_sec1 h n (by omega)
    by_cases h7 : ki n = 7
    · by_cases e : zw_pop ki (zw_w ki n).1 = []
      · rw [zw_7e h7 e] at h'; exact absurd h'.symm (List.cons_ne_nil _ _)
      · rw [zw_7n h7 e] at h'
        exact i (zw_pop_hd _ h')
    · rw [zw_n h7] at h'
      injection h' with h1 h2
      injection h1 with h1 h3
      exact (Bool.noConfusion h3)
/-- a body begins once -/
theorem zw_beg2 {m n : Nat} (hn : m < n) (h : (zw_w ki n).1 = []) : (zw_w ki m).2 ≠ (zw_w ki n).2 := by
  cases n with
  | zero => omega
  | succ n =>
    have i := zw_b2_mono (ki := ki) m n (by omega)
    obtain ⟨_, z⟩ | ⟨z, _⟩ := zw_b2_s (ki := ki) n
    · exact absurd h z
    · omega
theorem zw_nb_pop : ∀ (l : List (Nat × Bool)), zw_nb ki (zw_pop ki l) ≤ zw_nb ki l := by
  intro l
  induction l with
  | nil => exact Nat.le_refl _
  | cons a r ih =>
    obtain ⟨q, s⟩ := a
    by_cases c : ki q = 6 ∧ s = false
    · rw [zw_pop_t c]; exact Nat.le_refl _
    · rw [zw_pop_f c, zw_nb]; omega
def zr_K (c : Int32) : Prop := -1000 ≤ c.toInt ∧ c.toInt ≤ 1000
/-- the arguments fit the kind -/
def zr_af (F s : Nat) (k a b c : Int32) : Prop :=
  (k ≠ 4 → vp_in a s) ∧ (k = 4 → vp_in a F) ∧ (k = 1 → zr_K b) ∧ (k = 2 ∨ k = 4 ∨ k = 5 ∨ k = 6 → vp_in b s) ∧ (k = 4 → vp_in c s) ∧ (k = 5 ∨ k = 6 → zr_K c)
theorem zr_af1 {F s : Nat} {a b c : Int32} : zr_af F s 1 a b c ↔ vp_in a s ∧ zr_K b :=
  ⟨fun h => ⟨h.1 (by decide), h.2.2.1 rfl⟩, fun h => ⟨fun _ => h.1, fun z => absurd z (by decide), fun _ => h.2, fun z => absurd z (by decide), fun z => absurd z (by decide), fun z => absurd z (by decide)⟩⟩
theorem zr_af2 {F s : Nat} {a b c : Int32} : zr_af F s 2 a b c ↔ vp_in a s ∧ vp_in b s :=
  ⟨fun h => ⟨h.1 (by decide), h.2.2.2.1 (by decide)⟩, fun h => ⟨fun _ => h.1, fun z => absurd z (by decide), fun z => absurd z (by decide), fun _ => h.2, fun z => absurd z (by decide), fun z => absurd z (by decide)⟩⟩
theorem zr_af3 {F s : Nat} {a b c : Int32} : zr_af F s 3 a b c ↔ vp_in a s :=
  ⟨fun h => h.1 (by decide), fun h => ⟨fun _ => h, fun z => absurd z (by decide), fun z => absurd z (by decide), fun z => absurd z (by decide), fun z => absurd z (by decide), fun z => absurd z (by decide)⟩⟩
theorem zr_af4 {F s : Nat} {a b c : Int32} : zr_af F s 4 a b c ↔ vp_in a F ∧ vp_in b s ∧ vp_in c s :=
  ⟨fun h => ⟨h.2.1 rfl, h.2.2.2.1 (by decide), h.2.2.2.2.1 rfl⟩, fun h => ⟨fun z => absurd rfl z, fun _ => h.1, fun z => absurd z (by decide), fun _ => h.2.1, fun _ => h.2.2, fun z => absurd z (by decide)⟩⟩
theorem zr_af5 {F s : Nat} {a b c : Int32} : zr_af F s 5 a b c ↔ vp_in a s ∧ vp_in b s ∧ zr_K c :=
  ⟨fun h => ⟨h.1 (by decide), h.2.2.2.1 (by decide), h.2.2.2.2.2 (by decide)⟩, fun h => ⟨fun _ => h.1, fun z => absurd z (by decide), fun z => absurd z (by decide), fun _ => h.2.1, fun z => absurd z (by decide), fun _ => h.2.2⟩⟩
theorem zr_af6 {F s : Nat} {a b c : Int32} : zr_af F s 6 a b c ↔ vp_in a s ∧ vp_in b s ∧ zr_K c :=
  ⟨fun h => ⟨h.1 (by decide), h.2.2.2.1 (by decide), h.2.2.2.2.2 (by decide)⟩, fun h => ⟨fun _ => h.1, fun z => absurd z (by decide), fun z => absurd z (by decide), fun _ => h.2.1, fun z => absurd z (by decide), fun _ => h.2.2⟩⟩
theorem zr_af7 {F s : Nat} {a b c : Int32} : zr_af F s 7 a b c ↔ vp_in a s :=
  ⟨fun h => h.1 (by decide), fun h => ⟨fun _ => h, fun z => absurd z (by decide), fun z => absurd z (by decide), fun z => absurd z (by decide), fun z => absurd z (by decide), fun z => absurd z (by decide)⟩⟩
theorem zx_isS {post : Int32 → Prop} {x : Int32} {s : Nat} (hs : s ≤ 10) (h1 : vp_in x s → post 1) (h0 : ¬ vp_in x s → post 0) : wpX_isSlot post (xFL, xNL, xQL, xN, xFi, xWc, nI s, xNp, xBe, xQc, xEc, xIn, xIf, xCt, xLe, xDp, xCa, xPc, xRr, xLn, ki, aa, ab, ac, pa, so, ow, eo, sn, st, wt, ql, qr, qb, el, er, eb, cs, di, ce, vx, rt) x := by
  unfold wpX_isSlot
  exact za_inX (by omega) h1 h0
theorem zx_isK {post : Int32 → Prop} {c : Int32} (h1 : zr_K c → post 1) (h0 : ¬ zr_K c → post 0) : wpX_isConstant post (xFL, xNL, xQL, xN, xFi, xWc, xNs, xNp, xBe, xQc, xEc, xIn, xIf, xCt, xLe, xDp, xCa, xPc, xRr, xLn, ki, aa, ab, ac, pa, so, ow, eo, sn, st, wt, ql, qr, qb, el, er, eb, cs, di, ce, vx, rt) c := zx_isC h1 h0
theorem zy_isK {post : Int32 → Prop} {c : Int32} (h1 : zr_K c → post 1) (h0 : ¬ zr_K c → post 0) : wpY_constant post (yF, yMN, yMQ, yN, yQ, yE, yLe, yLv, yLn, yIn, yPl, yBo, yFa, ki, aa, ab, ac, ql, qr, qb, el, er, eb, ce, pr, po, pth, sid, fl, fr, fk, gu, av, vy) c := zy_isC h1 h0
theorem zx_a150 {post : Int32 → Prop} {x : Int32} {s : Nat} (hs : s ≤ 10) (h1 : vp_in x s → post 1) (h0 : ¬ vp_in x s → post 0) : wX_argumentsFit_150 post x xFL xNL xQL xN xFi xWc (nI s) xNp xBe xQc xEc xIn xIf xCt xLe xDp xCa xPc xRr xLn ki aa ab ac pa so ow eo sn st wt ql qr qb el er eb cs di ce vx rt := by
  unfold wX_argumentsFit_150
  exact zx_isS hs (fun z => ⟨narrow_b1, h1 z⟩) (fun z => ⟨narrow_b0, h0 z⟩)
theorem zx_a119 {post : Int32 → Prop} {x y z : Int32} {s : Nat} (hs : s ≤ 10) (h1 : vp_in x s ∧ vp_in y s ∧ zr_K z → post 1) (h0 : ¬ (vp_in x s ∧ vp_in y s ∧ zr_K z) → post 0) : wX_argumentsFit_119 post x y z xFL xNL xQL xN xFi xWc (nI s) xNp xBe xQc xEc xIn xIf xCt xLe xDp xCa xPc xRr xLn ki aa ab ac pa so ow eo sn st wt ql qr qb el er eb cs di ce vx rt := by
  unfold wX_argumentsFit_119
  exact zx_isS hs (fun c1 => br_f za_n10 (zx_isS hs (fun c2 => br_f za_n10 (zx_isK (fun c3 => br_f za_n10 (h1 ⟨c1, c2, c3⟩)) (fun c3 => br_t rfl (h0 (fun q => c3 q.2.2))))) (fun c2 => br_t rfl (h0 (fun q => c2 q.2.1))))) (fun c1 => br_t rfl (h0 (fun q => c1 q.1)))
theorem zx_af {post : Int32 → Prop} {k a b c : Int32} {F s : Nat} (hF : F ≤ 3) (hs : s ≤ 10) (hk : k = 1 ∨ k = 2 ∨ k = 3 ∨ k = 4 ∨ k = 5 ∨ k = 6 ∨ k = 7)
    (h1 : zr_af F s k a b c → post 1) (h0 : ¬ zr_af F s k a b c → post 0) : wpX_argumentsFit post (nI F, xNL, xQL, xN, xFi, xWc, nI s, xNp, xBe, xQc, xEc, xIn, xIf, xCt, xLe, xDp, xCa, xPc, xRr, xLn, ki, aa, ab, ac, pa, so, ow, eo, sn, st, wt, ql, qr, qb, el, er, eb, cs, di, ce, vx, rt) k a b c := by
  unfold wpX_argumentsFit
  obtain e | e | e | e | e | e | e := hk
  · subst e
    rw [zr_af1] at h1 h0
    exact br_f (by decide) (br_f (by decide) (br_t rfl (zx_isS hs (fun c1 => br_f za_n10 (zx_isK (fun c2 => br_f za_n10 (h1 ⟨c1, c2⟩)) (fun c2 => br_t rfl (h0 (fun q => c2 q.2))))) (fun c1 => br_t rfl (h0 (fun q => c1 q.1))))))
  · subst e
    rw [zr_af2] at h1 h0
    exact br_f (by decide) (br_f (by decide) (br_f (by decide) (br_t rfl (zx_isS hs (fun c1 => br_f za_n10 (zx_isS hs (fun c2 => br_f za_n10 (h1 ⟨c1, c2⟩)) (fun c2 => br_t rfl (h0 (fun q => c2 q.2))))) (fun c1 => br_t rfl (h0 (fun q => c1 q.1)))))))
  · subst e
    rw [zr_af3] at h1 h0
    exact br_f (by decide) (br_f (by decide) (br_f (by decide) (br_f (by decide) (br_t rfl (zx_a150 hs h1 h0)))))
  · subst e
    rw [zr_af4] at h1 h0
    exact br_f (by decide) (br_f (by decide) (br_f (by decide) (br_f (by decide) (br_f (by decide) (br_t rfl (za_inX (by omega) (fun c0 => zx_isS hs (fun c1 => br_f za_n10 (zx_isS hs (fun c2 => br_f za_n10 (h1 ⟨c0, c1, c2⟩)) (fun c2 => br_t rfl (h0 (fun q => c2 q.2.2))))) (fun c1 => br_t rfl (h0 (fun q => c1 q.2.1)))) (fun c0 => h0 (fun q => c0 q.1))))))))
  · subst e
    rw [zr_af5] at h1 h0
    exact br_f (by decide) (br_f (by decide) (br_f (by decide) (br_f (by decide) (br_f (by decide) (br_f (by decide) (br_t rfl (zx_a119 hs h1 h0)))))))
  · subst e
    rw [zr_af6] at h1 h0
    exact br_f (by decide) (br_f (by decide) (br_f (by decide) (br_f (by decide) (br_f (by decide) (br_f (by decide) (br_f (by decide) (br_t rfl (zx_a119 hs h1 h0))))))))
  · subst e
    rw [zr_af7] at h1 h0
    exact br_f (by decide) (br_t (by decide) (zx_a150 hs h1 h0))
theorem zy_n180 {post : Int32 → SY → Prop} {k a b c : Int32} {s : Nat} (hs : s ≤ 10) (h1 : (zw_i k = 1 → s < 10) → wY_node_198 post k a b c yF yMN yMQ yN yQ yE yLe yLv yLn yIn yPl yBo yFa ki aa ab ac ql qr qb el er eb ce pr po pth sid fl fr fk gu av vy) (h0 : zw_i k = 1 → s = 10 → post (-5) (yF, yMN, yMQ, yN, yQ, yE, yLe, yLv, yLn, yIn, yPl, yBo, yFa, ki, aa, ab, ac, ql, qr, qb, el, er, eb, ce, pr, po, pth, sid, fl, fr, fk, gu, av, vy)) : wY_node_180 post k a b c (nI s) yF yMN yMQ yN yQ yE yLe yLv yLn yIn yPl yBo yFa ki aa ab ac ql qr qb el er eb ce pr po pth sid fl fr fk gu av vy := by
  unfold wY_node_180
  refine zy_binds (fun e => br_f za_n10 (pk_lt s 10 (fun z => h1 (fun _ => z)) (fun z => h0 e (by omega)))) (fun e => br_t rfl (h1 (fun z => absurd (z.symm.trans e) (by decide))))
theorem zy_n68 {post : Int32 → SY → Prop} {k a b c x6 : Int32} {F s : Nat} (hF : F ≤ 3) (hs : s ≤ 10) (hk : (k = 1 ∧ x6 = 0) ∨ (k = 2 ∧ x6 = 0) ∨ (k = 3 ∧ x6 = 0) ∨ (k = 4 ∧ x6 = 0) ∨ (k = 5 ∧ x6 = 1) ∨ (k = 6 ∧ x6 = 1) ∨ (k = 7 ∧ x6 = 0))
    (h1 : zr_af F s k a b c → wY_node_180 post k a b c (nI s) (nI F) yMN yMQ yN yQ yE yLe yLv yLn yIn yPl yBo yFa ki aa ab ac ql qr qb el er eb ce pr po pth sid fl fr fk gu av vy) (h0 : ¬ zr_af F s k a b c → post (-2) (nI F, yMN, yMQ, yN, yQ, yE, yLe, yLv, yLn, yIn, yPl, yBo, yFa, ki, aa, ab, ac, ql, qr, qb, el, er, eb, ce, pr, po, pth, sid, fl, fr, fk, gu, av, vy)) : wY_node_68 post k a b c (nI s) x6 (nI F) yMN yMQ yN yQ yE yLe yLv yLn yIn yPl yBo yFa ki aa ab ac ql qr qb el er eb ce pr po pth sid fl fr fk gu av vy := by
  unfold wY_node_68 wY_node_84 wY_node_115 wY_node_130 wY_node_143 wY_node_163
  obtain ⟨e, e'⟩ | ⟨e, e'⟩ | ⟨e, e'⟩ | ⟨e, e'⟩ | ⟨e, e'⟩ | ⟨e, e'⟩ | ⟨e, e'⟩ := hk
  · subst e e'
    rw [zr_af1] at h1 h0
    exact br_f (by decide) (za_inY (by omega) (fun c1 => br_t rfl (zy_isK (fun c2 => br_f za_n10 (br_f (by decide) (br_f (by decide) (br_t rfl (br_f (by decide) (br_t rfl (h1 ⟨c1, c2⟩))))))) (fun c2 => br_t rfl (h0 (fun q => c2 q.2))))) (fun c1 => h0 (fun q => c1 q.1)))
  · subst e e'
    rw [zr_af2] at h1 h0
    exact br_f (by decide) (za_inY (by omega) (fun c1 => br_f (by decide) (br_t rfl (za_inY (by omega) (fun c2 => br_f (by decide) (br_t rfl (h1 ⟨c1, c2⟩))) (fun c2 => h0 (fun q => c2 q.2))))) (fun c1 => h0 (fun q => c1 q.1)))
  · subst e e'
    rw [zr_af3] at h1 h0
    exact br_f (by decide) (za_inY (by omega) (fun c1 => br_f (by decide) (br_f (by decide) (br_f (by decide) (br_t rfl (br_f (by decide) (br_t rfl (h1 c1))))))) (fun c1 => h0 c1))
  · subst e e'
    rw [zr_af4] at h1 h0
    exact br_t rfl (za_inY (by omega) (fun c0 => br_f (by decide) (br_f (by decide) (br_t rfl (za_inY (by omega) (fun c1 => br_t rfl (za_inY (by omega) (fun c2 => br_t rfl (h1 ⟨c0, c1, c2⟩)) (fun c2 => h0 (fun q => c2 q.2.2)))) (fun c1 => h0 (fun q => c1 q.2.1)))))) (fun c0 => h0 (fun q => c0 q.1)))
  · subst e e'
    rw [zr_af5] at h1 h0
    exact br_f (by decide) (za_inY (by omega) (fun c0 => br_f (by decide) (br_f (by decide) (br_f (by decide) (br_f (by decide) (za_inY (by omega) (fun c1 => br_f (by decide) (br_f (by decide) (zy_isK (fun c2 => br_f za_n10 (h1 ⟨c0, c1, c2⟩)) (fun c2 => br_t rfl (h0 (fun q => c2 q.2.2)))))) (fun c1 => h0 (fun q => c1 q.2.1))))))) (fun c0 => h0 (fun q => c0 q.1)))
  · subst e e'
    rw [zr_af6] at h1 h0
    exact br_f (by decide) (za_inY (by omega) (fun c0 => br_f (by decide) (br_f (by decide) (br_f (by decide) (br_f (by decide) (za_inY (by omega) (fun c1 => br_f (by decide) (br_f (by decide) (zy_isK (fun c2 => br_f za_n10 (h1 ⟨c0, c1, c2⟩)) (fun c2 => br_t rfl (h0 (fun q => c2 q.2.2)))))) (fun c1 => h0 (fun q => c1 q.2.1))))))) (fun c0 => h0 (fun q => c0 q.1)))
  · subst e e'
    rw [zr_af7] at h1 h0
    exact br_f (by decide) (za_inY (by omega) (fun c1 => br_f (by decide) (br_f (by decide) (br_f (by decide) (br_t rfl (br_f (by decide) (br_t rfl (h1 c1))))))) (fun c1 => h0 c1))
end
end
section
section
variable {xFL xNL xQL xN xFi xWc xNs xNp xBe xQc xEc xIn xIf xCt xLe xDp xCa xPc xRr xLn yF yMN yMQ yN yQ yE yLe yLv yLn yIn yPl yBo yFa : Int32} {ki aa ab ac pa so ow eo sn st wt ql qr qb el er eb cs di ce vx rt pr po pth sid fl fr fk gu av vy : Nat → Int32}
theorem za_bnar (s : Bool) : vp_nar .boolean (zw_b s) = zw_b s := by
  cases s
  · exact za_vb0
  · exact za_vb1
theorem za_hsnar (l : List (Nat × Bool)) : vp_nar .boolean (zw_hs l) = zw_hs l := by
  cases l with
  | nil => exact za_vb0
  | cons a r => exact za_bnar a.2
theorem zx_at64 {post : SX → Prop} {k0 : Nat → Int32} {N : Nat} {l : List (Nat × Bool)} (hl : ∀ x, x ∈ l → x.1 < N) (hN : N < 24)
    (h : ∀ eo', (∀ j, (∀ r, l ≠ (j, true) :: r) → eo' j = eo j) → (∀ p r, l = (p, true) :: r → eo' p = nI N) → post (xFL, xNL, xQL, xN, xFi, nI (zw_q k0 l).length, xNs, zw_hp l, 0, xQc, xEc, xIn, xIf, xCt, xLe, xDp, xCa, xPc, xRr, xLn, ki, aa, ab, ac, pa, so, ow, eo', sn, st, wt, ql, qr, qb, el, er, eb, cs, di, ce, vx, rt)) :
    wX_attach_64 post (nI N) xFL xNL xQL xN xFi (nI (zw_v k0 l).length) xNs (zw_hp l) (zw_hs l) xQc xEc xIn xIf xCt xLe xDp xCa xPc xRr xLn ki aa ab ac pa so ow eo sn st wt ql qr qb el er eb cs di ce vx rt := by
  unfold wX_attach_64
  cases l with
  | nil => exact br_t rfl (h eo (fun _ _ => rfl) (fun p r e => absurd e.symm (List.cons_ne_nil _ _)))
  | cons a r =>
    obtain ⟨p, s⟩ := a
    have hp : p < N := hl (p, s) (List.Mem.head _)
    cases s with
    | false =>
      refine br_t rfl (h eo (fun _ _ => rfl) (fun p r e => ?_))
      injection e with e1 e2
      injection e1 with e1 e3
      exact (Bool.noConfusion e3)
    | true =>
      have eq : zw_q k0 ((p, true) :: r) = zw_q k0 r := zw_q_f (fun z => (Bool.noConfusion z.2))
      rw [eq] at h
      refine br_f za_n10 ⟨vp_in_nI (by omega) (by decide), nm_r (e' := upd eo p (nI N)) (by show upd eo (nI p).toNatClampNeg (nI N) = _; rw [nI_clamp (by omega)]) (nm_r (nI_pred (zw_q k0 r).length) (h _ (fun j hj => pk_un (fun z => hj r (by rw [z]))) (fun p' r' e => ?_)))⟩
      injection e with e1 e2
      injection e1 with e1 e3
      rw [← e1, pk_us]
theorem zx_attach {post : SX → Prop} {k0 : Nat → Int32} {N b s : Nat} {l : List (Nat × Bool)} (hl : ∀ x, x ∈ l → x.1 < N) (hN : N < 24) (hb : b < 3)
    (h : ∀ eo' st', (∀ j, j ≠ N → (∀ r, l ≠ (j, true) :: r) → eo' j = eo j) → (∀ p r, l = (p, true) :: r → eo' p = nI N) → (l = [] → st' b = nI N) → (∀ f, (l = [] → f ≠ b) → st' f = st f) →
      post (xFL, xNL, xQL, xN, nI b, nI (zw_q k0 l).length, nI s, zw_hp l, 0, xQc, xEc, xIn, xIf, xCt, xLe, xDp, xCa, xPc, xRr, xLn, ki, aa, ab, ac, upd pa N (zw_hp l), upd so N (nI s), upd ow N (nI b), eo', upd sn N (zw_hs l), st', wt, ql, qr, qb, el, er, eb, cs, di, ce, vx, rt)) :
    wpX_attach post (xFL, xNL, xQL, xN, nI b, nI (zw_v k0 l).length, nI s, zw_hp l, zw_hs l, xQc, xEc, xIn, xIf, xCt, xLe, xDp, xCa, xPc, xRr, xLn, ki, aa, ab, ac, pa, so, ow, eo, sn, st, wt, ql, qr, qb, el, er, eb, cs, di, ce, vx, rt) (nI N) := by
  unfold wpX_attach
  dsimp only
  rw [nI_clamp (show N < 2 ^ 31 by omega), nI_clamp (show b < 2 ^ 31 by omega), za_hsnar]
  have i24 : vp_in (nI N) 24 := vp_in_nI hN (by decide)
  have keep : ∀ (eo' : Nat → Int32) (j : Nat), j ≠ N → eo' j = upd eo N (-1) j → eo' j = eo j := fun eo' j hj e => by rw [e, pk_un hj]
  refine ⟨i24, nm_e ⟨i24, nm_e ⟨i24, nm_e ⟨i24, nm_e ⟨i24, nm_e (br_c (fun c => ?_) (fun c => ?_))⟩⟩⟩⟩⟩
  · refine zx_at64 hl hN (fun eo' h1 h2 => h eo' st (fun j hj hr => keep eo' j hj (h1 j hr)) h2 (fun e => ?_) (fun _ _ => rfl))
    rw [e] at c
    exact absurd c (by decide)
  · have el : l = [] := by
      cases l with
      | nil => rfl
      | cons a r =>
        have := hl a (List.Mem.head _)
        exact absurd (nI_pos' (n := a.1) (by omega)) c
    refine ⟨vp_in_nI hb (by decide), nm_e (zx_at64 hl hN (fun eo' h1 h2 => h eo' _ (fun j hj hr => keep eo' j hj (h1 j hr)) h2 (fun _ => pk_us) (fun f hf => pk_un (hf el))))⟩
theorem zr_in2 {k : Nat} {F NL QL N Q E Le : Nat} {xIn xIf xCt xDp xCa xPc xRr xLn yPl yBo yFa : Int32} {ki aa ab ac pa so ow eo sn st wt ql qr qb el er eb cs di ce vx rt pr po pth sid fl fr fk gu av vy : Nat → Int32} {xFi xWc xNs xNp xBe : Int32} (e1 : xFi = nI (zw_w ki N).2) (e2 : xWc = nI (zw_v ki (zw_w ki N).1).length) (e3 : xNs = nI (zw_sc ki N)) (e4 : xNp = zw_hp (zw_w ki N).1) (e5 : xBe = zw_hs (zw_w ki N).1)
    (G : zr_G F NL QL N Q E Le xIn ki aa ab ac pa so ow eo sn st wt ql qr qb el er eb cs ce vx pr po vy) : i_Rel k (nI F, nI NL, nI QL, nI N, xFi, xWc, xNs, xNp, xBe, nI Q, nI E, xIn, xIf, xCt, nI Le, xDp, xCa, xPc, xRr, xLn, ki, aa, ab, ac, pa, so, ow, eo, sn, st, wt, ql, qr, qb, el, er, eb, cs, di, ce, vx, rt) (nI F, nI NL, nI QL, nI N, nI Q, nI E, nI Le, xRr, xLn, xIn, yPl, yBo, yFa, ki, aa, ab, ac, ql, qr, qb, el, er, eb, ce, pr, po, pth, sid, fl, fr, fk, gu, av, vy) := by
  subst e1 e2 e3 e4 e5
  exact zr_in G
theorem zr_Gt_s {F NL N : Nat} {kd a b c : Int32} {eo' st' wt' : Nat → Int32} (gt : zr_Gt F NL N ki aa ab ac pa so ow eo sn st wt) (hlt : N < NL) (hb : (zw_w ki N).2 < F)
    (hkd : kd = 1 ∨ kd = 2 ∨ kd = 3 ∨ kd = 4 ∨ kd = 5 ∨ kd = 6 ∨ kd = 7) (af : zr_af F (zw_sc ki N) kd a b c) (hd : zw_i kd = 1 → zw_sc ki N < 10)
    (h1 : ∀ j, j ≠ N → (∀ r, (zw_w ki N).1 ≠ (j, true) :: r) → eo' j = eo j) (h2 : ∀ p r, (zw_w ki N).1 = (p, true) :: r → eo' p = nI N)
    (h3 : (zw_w ki N).1 = [] → st' (zw_w ki N).2 = nI N) (h4 : ∀ f, ((zw_w ki N).1 = [] → f ≠ (zw_w ki N).2) → st' f = st f)
    (h5 : zw_Q wt' (zw_v (upd ki N kd) (zw_w (upd ki N kd) (N + 1)).1)) :
    zr_Gt F NL (N + 1) (upd ki N kd) (upd aa N a) (upd ab N b) (upd ac N c) (upd pa N (zw_hp (zw_w ki N).1)) (upd so N (nI (zw_sc ki N))) (upd ow N (nI (zw_w ki N).2)) eo' (upd sn N (zw_hs (zw_w ki N).1)) st' wt' := by
  obtain ⟨g1, g2, g3, g4, g5, g6, g7, g8, g9, g10, g11, g12⟩ := gt
  have ew : ∀ m, m ≤ N → zw_w (upd ki N kd) m = zw_w ki m := fun m hm => zw_cg m (fun j hj => pk_un (by omega))
  have es : ∀ m, m ≤ N → zw_sc (upd ki N kd) m = zw_sc ki m := fun m hm => by
    unfold zw_sc
    rw [ew m hm]
    exact congrArg (4 + ·) (zw_nb_cg _ (fun x hx => pk_un (by have := zw_lt m x hx; omega)))
  have hs10 := g9 N (Nat.le_refl N)
  have ten : ∀ x, vp_in x (zw_sc ki N) → vp_in x 10 := fun x hx => by rw [vp_in_iff] at hx ⊢; omega
  refine ⟨g1, g2, g3, hlt, fun c hc => ?_, fun p hp => ?_, ?_, fun n hn => ?_, fun n hn => ?_, h5, fun m p r hm e => ?_, fun n hn e => ?_⟩
  · rw [ew c (by omega), es c (by omega)]
    by_cases e : c = N
    · subst e
      rw [pk_us, pk_us, pk_us, pk_us]
      exact ⟨rfl, rfl, rfl, rfl⟩
    · rw [pk_un e, pk_un e, pk_un e, pk_un e]
      exact g5 c (by omega)
  · by_cases e : p = N
    · subst e
      unfold zw_NV
      rw [es p (Nat.le_refl p), pk_us, pk_us, pk_us, pk_us]
      obtain ⟨a1, a2, a3, a4, a5, a6⟩ := af
      refine ⟨hkd, ?_, a3, fun z => ten _ (a4 (Or.inl z)), fun z => ⟨a2 z, ten _ (a4 (Or.inr (Or.inl z))), ten _ (a5 z)⟩, fun z => ⟨ten _ (a4 (Or.inr (Or.inr z))), a6 z⟩, hd⟩
      by_cases z : kd = 4
      · have := a2 z
        rw [vp_in_iff] at this ⊢
        omega
      · exact ten _ (a1 z)
    · have := g6 p (by omega)
      unfold zw_NV at this ⊢
      rw [es p (by omega), pk_un e, pk_un e, pk_un e, pk_un e]
      exact this
  · have z := zw_b2_s (ki := upd ki N kd) N
    rw [ew N (Nat.le_refl N)] at z
    obtain z | z := z
    · omega
    · omega
  · rw [ew n (by omega)]
    by_cases e : n = N
    · rw [e]; exact hb
    · exact g8 n (by omega)
  · by_cases e : n = N + 1
    · subst e
      by_cases h7 : kd = 7
      · have p1 := zw_nb_pop (ki := upd ki N kd) (zw_w (upd ki N kd) N).1
        have p2 := es N (Nat.le_refl N)
        unfold zw_sc at p2 hs10 ⊢
        by_cases ep : zw_pop (upd ki N kd) (zw_w (upd ki N kd) N).1 = []
        · rw [zw_7e (by rw [pk_us]; exact h7) ep]
          show 4 + 0 ≤ 10
          omega
        · rw [zw_7n (by rw [pk_us]; exact h7) ep]
          show 4 + zw_nb (upd ki N kd) (zw_pop (upd ki N kd) (zw_w (upd ki N kd) N).1) ≤ 10
          omega
      · have p2 := es N (Nat.le_refl N)
        unfold zw_sc at p2 hs10 hd ⊢
        rw [zw_n (by rw [pk_us]; exact h7)]
        show 4 + (zw_nb (upd ki N kd) (zw_w (upd ki N kd) N).1 + zw_i (upd ki N kd N)) ≤ 10
        rw [pk_us]
        have : zw_i kd = 0 ∨ zw_i kd = 1 := by unfold zw_i; split <;> omega
        obtain z | z := this
        · omega
        · have := hd z; omega
    · rw [es n (by omega)]; exact g9 n (by omega)
  · rw [ew m (by omega)] at e
    by_cases em : m = N
    · subst em; exact h2 p r e
    · have hp := (zw_head e).1
      rw [h1 p (by omega) (fun r' => zw_sec2 e (by omega))]
      exact g11 m p r (by omega) e
  · rw [ew n (by omega)] at e ⊢
    by_cases en : n = N
    · subst en; exact h3 e
    · rw [h4 _ (fun z => zw_beg2 (by omega) z)]
      exact g12 n (by omega) e
end
end
section
section
variable {xFL xNL xQL xN xFi xWc xNs xNp xBe xQc xEc xIn xIf xCt xLe xDp xCa xPc xRr xLn yF yMN yMQ yN yQ yE yLe yLv yLn yIn yPl yBo yFa : Int32} {ki aa ab ac pa so ow eo sn st wt ql qr qb el er eb cs di ce vx rt pr po pth sid fl fr fk gu av vy : Nat → Int32}
theorem zx_adv7 {post : SX → Prop} {N b : Nat} {q : List Nat} (hN : N < 24) (hk : ki N = 7) (hQ : zw_Q wt q) (hlen : q.length ≤ 24) (hp : ∀ p ws, q = p :: ws → p < 24)
    (h0 : q = [] → post (xFL, xNL, xQL, xN, nI (b + 1), 0, 4, (-1), xBe, xQc, xEc, xIn, xIf, xCt, xLe, xDp, xCa, xPc, xRr, xLn, ki, aa, ab, ac, pa, so, ow, eo, sn, st, wt, ql, qr, qb, el, er, eb, cs, di, ce, vx, rt)) (h1 : ∀ p ws, q = p :: ws → post (xFL, xNL, xQL, xN, nI b, nI (ws.length + 1), so p, nI p, 1, xQc, xEc, xIn, xIf, xCt, xLe, xDp, xCa, xPc, xRr, xLn, ki, aa, ab, ac, pa, so, ow, eo, sn, st, wt, ql, qr, qb, el, er, eb, cs, di, ce, vx, rt)) :
    wpX_advance post (xFL, xNL, xQL, xN, nI b, nI q.length, xNs, xNp, xBe, xQc, xEc, xIn, xIf, xCt, xLe, xDp, xCa, xPc, xRr, xLn, ki, aa, ab, ac, pa, so, ow, eo, sn, st, wt, ql, qr, qb, el, er, eb, cs, di, ce, vx, rt) (nI N) := by
  unfold wpX_advance
  refine ⟨vp_in_nI hN (by decide), nm_r (za_rd (by omega)) (br_t hk ?_)⟩
  unfold wpX_endBranch
  cases q with
  | nil => exact br_t (by decide) (nm_r (nI_1 b) (h0 rfl))
  | cons p ws =>
    have hl : ws.length + 1 ≤ 24 := hlen
    have hp' := hp p ws rfl
    have e : nI (p :: ws).length - 1 = nI ws.length := nI_pred ws.length
    have w : wt ws.length = nI p := hQ.1
    dsimp only
    rw [e, nI_clamp (show ws.length < 2 ^ 31 by omega), w]
    refine pk_le (ws.length + 1) 0 (fun z => absurd z (by omega)) (fun _ => ⟨vp_in_nI (by omega) (by decide), nm_e ⟨vp_in_nI hp' (by decide), nm_r (za_rd (by omega)) (h1 p ws rfl)⟩⟩)
theorem zx_adv6 {post : SX → Prop} {N w : Nat} (hN : N < 24) (hk : ki N = 6) (hw : w < 24) (h : post (xFL, xNL, xQL, xN, xFi, nI (w + 1), xNs, nI N, xBe, xQc, xEc, xIn, xIf, xCt, xLe, xDp, xCa, xPc, xRr, xLn, ki, aa, ab, ac, pa, so, ow, eo, sn, st, upd wt w (nI N), ql, qr, qb, el, er, eb, cs, di, ce, vx, rt)) : wpX_advance post (xFL, xNL, xQL, xN, xFi, nI w, xNs, xNp, xBe, xQc, xEc, xIn, xIf, xCt, xLe, xDp, xCa, xPc, xRr, xLn, ki, aa, ab, ac, pa, so, ow, eo, sn, st, wt, ql, qr, qb, el, er, eb, cs, di, ce, vx, rt) (nI N) := by
  unfold wpX_advance
  refine ⟨vp_in_nI hN (by decide), nm_r (za_rd (by omega)) (br_f (by rw [hk]; decide) (br_t hk ⟨vp_in_nI hw (by decide), nm_r (e' := upd wt w (nI N)) (by rw [nI_clamp (by omega)]) (nm_r (nI_1 w) h)⟩))⟩
theorem zx_adv5 {post : SX → Prop} {N : Nat} (hN : N < 24) (hk : ki N = 5) (h : post (xFL, xNL, xQL, xN, xFi, xWc, xNs, nI N, xBe, xQc, xEc, xIn, xIf, xCt, xLe, xDp, xCa, xPc, xRr, xLn, ki, aa, ab, ac, pa, so, ow, eo, sn, st, wt, ql, qr, qb, el, er, eb, cs, di, ce, vx, rt)) : wpX_advance post (xFL, xNL, xQL, xN, xFi, xWc, xNs, xNp, xBe, xQc, xEc, xIn, xIf, xCt, xLe, xDp, xCa, xPc, xRr, xLn, ki, aa, ab, ac, pa, so, ow, eo, sn, st, wt, ql, qr, qb, el, er, eb, cs, di, ce, vx, rt) (nI N) := by
  unfold wpX_advance
  exact ⟨vp_in_nI hN (by decide), nm_r (za_rd (by omega)) (br_f (by rw [hk]; decide) (br_f (by rw [hk]; decide) (br_t (by rw [hk]; decide) h)))⟩
theorem zx_adv4 {post : SX → Prop} {N s : Nat} (hN : N < 24) (hk : ki N = 1 ∨ ki N = 2 ∨ ki N = 3 ∨ ki N = 4) (h : post (xFL, xNL, xQL, xN, xFi, xWc, nI (s + 1), nI N, xBe, xQc, xEc, xIn, xIf, xCt, xLe, xDp, xCa, xPc, xRr, xLn, ki, aa, ab, ac, pa, so, ow, eo, sn, st, wt, ql, qr, qb, el, er, eb, cs, di, ce, vx, rt)) : wpX_advance post (xFL, xNL, xQL, xN, xFi, xWc, nI s, xNp, xBe, xQc, xEc, xIn, xIf, xCt, xLe, xDp, xCa, xPc, xRr, xLn, ki, aa, ab, ac, pa, so, ow, eo, sn, st, wt, ql, qr, qb, el, er, eb, cs, di, ce, vx, rt) (nI N) := by
  have a7 : ¬ ki N = 7 := by obtain z | z | z | z := hk <;> (rw [z]; decide)
  have a6 : ¬ ki N = 6 := by obtain z | z | z | z := hk <;> (rw [z]; decide)
  have a4 : ¬ 4 < ki N := by obtain z | z | z | z := hk <;> (rw [z]; decide)
  unfold wpX_advance
  exact ⟨vp_in_nI hN (by decide), nm_r (za_rd (by omega)) (br_f a7 (br_f a6 (br_f a4 (nm_r (nI_1 s) h))))⟩
theorem zw_up {N : Nat} {kd : Int32} : zw_w (upd ki N kd) N = zw_w ki N := zw_cg N (fun j hj => pk_un (by omega))
theorem zw_upq {N n : Nat} {kd : Int32} (hn : n ≤ N) : zw_q (upd ki N kd) (zw_w ki n).1 = zw_q ki (zw_w ki n).1 := zw_q_cg _ (fun x hx => pk_un (by have := zw_lt n x hx; omega))
theorem zw_upb {N n : Nat} {kd : Int32} (hn : n ≤ N) : zw_nb (upd ki N kd) (zw_w ki n).1 = zw_nb ki (zw_w ki n).1 := zw_nb_cg _ (fun x hx => pk_un (by have := zw_lt n x hx; omega))
theorem zw_up_n {N : Nat} {kd : Int32} (h7 : kd ≠ 7) : zw_w (upd ki N kd) (N + 1) = ((N, false) :: (zw_w ki N).1, (zw_w ki N).2) := by
  rw [zw_n (by rw [pk_us]; exact h7), zw_up]
theorem zw_up_s {N : Nat} {kd : Int32} (h7 : kd ≠ 7) : zw_sc (upd ki N kd) (N + 1) = zw_sc ki N + zw_i kd := by
  unfold zw_sc
  rw [zw_up_n h7]
  show 4 + (zw_nb (upd ki N kd) (zw_w ki N).1 + zw_i (upd ki N kd N)) = _
  rw [pk_us, zw_upb (Nat.le_refl N)]
  omega
theorem zw_up_v6 {N : Nat} : zw_v (upd ki N 6) (zw_w (upd ki N 6) (N + 1)).1 = N :: zw_q ki (zw_w ki N).1 := by
  rw [zw_up_n (by decide)]
  show zw_q (upd ki N 6) ((N, false) :: (zw_w ki N).1) = _
  rw [zw_q_t ⟨pk_us, rfl⟩, zw_upq (Nat.le_refl N)]
theorem zw_up_vn {N : Nat} {kd : Int32} (h7 : kd ≠ 7) (h6 : kd ≠ 6) : zw_v (upd ki N kd) (zw_w (upd ki N kd) (N + 1)).1 = zw_q ki (zw_w ki N).1 := by
  rw [zw_up_n h7]
  show zw_q (upd ki N kd) ((N, false) :: (zw_w ki N).1) = _
  rw [zw_q_f (fun z => h6 (pk_us.symm.trans z.1)), zw_upq (Nat.le_refl N)]
theorem zw_up_p {N : Nat} {kd : Int32} : zw_pop (upd ki N kd) (zw_w ki N).1 = zw_pop ki (zw_w ki N).1 := zw_pop_cg _ (fun x hx => pk_un (by have := zw_lt N x hx; omega))
theorem zw_up_7e {N : Nat} (h : zw_q ki (zw_w ki N).1 = []) : zw_w (upd ki N 7) (N + 1) = ([], (zw_w ki N).2 + 1) := by
  have e : zw_pop ki (zw_w ki N).1 = [] := by
    obtain ⟨_, z⟩ | ⟨p, ws, r, z, _⟩ := zw_pop_q (ki := ki) (zw_w ki N).1
    · exact z
    · rw [h] at z; exact absurd z.symm (List.cons_ne_nil _ _)
  rw [zw_7e pk_us (by rw [zw_up, zw_up_p]; exact e), zw_up]
theorem zw_up_7n {N p : Nat} {ws : List Nat} (h : zw_q ki (zw_w ki N).1 = p :: ws) : ∃ r, zw_w (upd ki N 7) (N + 1) = ((p, true) :: r, (zw_w ki N).2) ∧ zw_q ki r = ws ∧ zw_w ki p = (r, (zw_w ki N).2) ∧ p < N ∧ ki p = 6 := by
  obtain ⟨z, _⟩ | ⟨p', ws', r, z, e, eq⟩ := zw_pop_q (ki := ki) (zw_w ki N).1
  · rw [h] at z; exact absurd z (List.cons_ne_nil _ _)
  · rw [h] at z
    injection z with z1 z2
    subst z1 z2
    have C := zw_C_pop _ _ (zw_chain ki N)
    rw [e] at C
    refine ⟨r, ?_, eq, C.2.1, C.1, C.2.2.1 rfl⟩
    rw [zw_7n pk_us (by rw [zw_up, zw_up_p, e]; exact List.cons_ne_nil _ _), zw_up, zw_up_p, e]
theorem zw_Q_q : ∀ (l : List (Nat × Bool)), zw_Q wt (zw_v ki l) → zw_Q wt (zw_q ki l) := by
  intro l h
  cases l with
  | nil => exact trivial
  | cons a r =>
    obtain ⟨p, s⟩ := a
    cases s with
    | false => exact h
    | true =>
      rw [zw_q_f (fun z => (Bool.noConfusion z.2))]
      exact h.2
def zr_kok (k : Int32) : Prop := k = 1 ∨ k = 2 ∨ k = 3 ∨ k = 4 ∨ k = 5 ∨ k = 6 ∨ k = 7
theorem zr_kok_of {k : Int32} (h1 : ¬ k < 1) (h2 : ¬ 7 < k) : zr_kok k := by
  have h3 : ¬ k < 0 := fun z => h1 (by
    rw [Int32.lt_iff_toInt_lt] at z ⊢
    rw [za_i0] at z
    rw [za_i1]
    omega)
  obtain ⟨j, hj, rfl⟩ := nI_of2 (M := 7) (n := 7) (by decide) h3 (Int32.not_lt.mp h2)
  have c : j = 0 ∨ j = 1 ∨ j = 2 ∨ j = 3 ∨ j = 4 ∨ j = 5 ∨ j = 6 ∨ j = 7 := by omega
  obtain e | e | e | e | e | e | e | e := c
  · subst e; exact absurd (by decide) h1
  · subst e; exact Or.inl rfl
  · subst e; exact Or.inr (Or.inl rfl)
  · subst e; exact Or.inr (Or.inr (Or.inl rfl))
  · subst e; exact Or.inr (Or.inr (Or.inr (Or.inl rfl)))
  · subst e; exact Or.inr (Or.inr (Or.inr (Or.inr (Or.inl rfl))))
  · subst e; exact Or.inr (Or.inr (Or.inr (Or.inr (Or.inr (Or.inl rfl)))))
  · subst e; exact Or.inr (Or.inr (Or.inr (Or.inr (Or.inr (Or.inr rfl)))))
theorem zr_kok1 {k : Int32} (h : zr_kok k) : ¬ k < 1 := by obtain e | e | e | e | e | e | e := h <;> (subst e; decide)
theorem zr_kok7 {k : Int32} (h : zr_kok k) : ¬ 7 < k := by obtain e | e | e | e | e | e | e := h <;> (subst e; decide)
/-- a refused node's answer -/
def zr_An (F NL N b s : Nat) (k x y z r : Int32) : Prop :=
  (b = F ∧ r = -4) ∨ (b ≠ F ∧ N = NL ∧ r = -3) ∨ (b ≠ F ∧ N ≠ NL ∧ ¬ (zr_kok k ∧ zr_af F s k x y z) ∧ r = -2) ∨ (b ≠ F ∧ N ≠ NL ∧ (zr_kok k ∧ zr_af F s k x y z) ∧ (zw_i k = 1 ∧ s = 10) ∧ r = -5)
def zr_Ok (F NL N b s : Nat) (k x y z : Int32) : Prop := b ≠ F ∧ N ≠ NL ∧ (zr_kok k ∧ zr_af F s k x y z) ∧ (zw_i k = 1 → s < 10)
theorem zr_An_u {F NL N b s : Nat} {k x y z r r' : Int32} (h : zr_An F NL N b s k x y z r) (h' : zr_An F NL N b s k x y z r') : r' = r := by
  obtain ⟨a1, a2⟩ | ⟨a1, a2, a3⟩ | ⟨a1, a2, a3, a4⟩ | ⟨a1, a2, a3, a4, a5⟩ := h
  · obtain ⟨b1, b2⟩ | ⟨b1, b2, b3⟩ | ⟨b1, b2, b3, b4⟩ | ⟨b1, b2, b3, b4, b5⟩ := h'
    · rw [a2, b2]
    · exact absurd a1 b1
    · exact absurd a1 b1
    · exact absurd a1 b1
  · obtain ⟨b1, b2⟩ | ⟨b1, b2, b3⟩ | ⟨b1, b2, b3, b4⟩ | ⟨b1, b2, b3, b4, b5⟩ := h'
    · exact absurd b1 a1
    · rw [a3, b3]
    · exact absurd a2 b2
    · exact absurd a2 b2
  · obtain ⟨b1, b2⟩ | ⟨b1, b2, b3⟩ | ⟨b1, b2, b3, b4⟩ | ⟨b1, b2, b3, b4, b5⟩ := h'
    · exact absurd b1 a1
    · exact absurd b2 a2
    · rw [a4, b4]
    · exact absurd b3 a3
  · obtain ⟨b1, b2⟩ | ⟨b1, b2, b3⟩ | ⟨b1, b2, b3, b4⟩ | ⟨b1, b2, b3, b4, b5⟩ := h'
    · exact absurd b1 a1
    · exact absurd b2 a2
    · exact absurd a3 b3
    · rw [a5, b5]
theorem zr_An_n {F NL N b s : Nat} {k x y z r : Int32} (h : zr_An F NL N b s k x y z r) : ¬ zr_Ok F NL N b s k x y z := by
  intro o
  obtain ⟨o1, o2, o3, o4⟩ := o
  obtain ⟨a1, a2⟩ | ⟨a1, a2, a3⟩ | ⟨a1, a2, a3, a4⟩ | ⟨a1, a2, a3, a4, a5⟩ := h
  · exact o1 a1
  · exact o2 a2
  · exact a3 o3
  · have := o4 a4.1; omega
theorem zw_i_le {k : Int32} (h : zr_kok k) : (4 < k ∧ zw_i k = 0) ∨ (¬ 4 < k ∧ zw_i k = 1) := by
  by_cases c : 4 < k
  · exact Or.inl ⟨c, zw_i0 (Or.inr c)⟩
  · exact Or.inr ⟨c, zw_i1 (zr_kok1 h) c⟩
theorem zx_node {post : Int32 → SX → Prop} {F NL N b s : Nat} {v1 v2 v3 v4 : Int32} (hF : F ≤ 3) (hb : b ≤ F) (hNL : NL ≤ 24) (hN : N ≤ NL) (hs : s ≤ 10)
    (hno : ∀ r, zr_An F NL N b s v1 v2 v3 v4 r → post r (nI F, nI NL, xQL, nI N, nI b, xWc, nI s, xNp, xBe, xQc, xEc, xIn, xIf, xCt, xLe, xDp, xCa, xPc, xRr, xLn, ki, aa, ab, ac, pa, so, ow, eo, sn, st, wt, ql, qr, qb, el, er, eb, cs, di, ce, vx, rt))
    (hok : zr_Ok F NL N b s v1 v2 v3 v4 → wX_node_67 post v1 v2 v3 v4 (nI F) (nI NL) xQL (nI N) (nI b) xWc (nI s) xNp xBe xQc xEc xIn xIf xCt xLe xDp xCa xPc xRr xLn ki aa ab ac pa so ow eo sn st wt ql qr qb el er eb cs di ce vx rt) :
    wpX_node post (nI F, nI NL, xQL, nI N, nI b, xWc, nI s, xNp, xBe, xQc, xEc, xIn, xIf, xCt, xLe, xDp, xCa, xPc, xRr, xLn, ki, aa, ab, ac, pa, so, ow, eo, sn, st, wt, ql, qr, qb, el, er, eb, cs, di, ce, vx, rt) v1 v2 v3 v4 := by
  unfold wpX_node
  refine zx_isCm hb hF (fun c => br_t rfl ?_) (fun c => br_f za_n10 (hno _ (Or.inl ⟨c, rfl⟩)))
  refine pk_lt N NL (fun c2 => ?_) (fun c2 => hno _ (Or.inr (Or.inl ⟨c, by omega, rfl⟩)))
  have c2' : N ≠ NL := by omega
  refine br_c (fun c3 => hno _ (Or.inr (Or.inr (Or.inl ⟨c, c2', fun z => zr_kok1 z.1 c3, rfl⟩)))) (fun c3 => br_c (fun c4 => hno _ (Or.inr (Or.inr (Or.inl ⟨c, c2', fun z => zr_kok7 z.1 c4, rfl⟩)))) (fun c4 => ?_))
  have kk := zr_kok_of c3 c4
  refine zx_af hF hs kk (fun af => br_f za_n10 ?_) (fun af => br_t rfl (hno _ (Or.inr (Or.inr (Or.inl ⟨c, c2', fun z => af z.2, rfl⟩)))))
  obtain ⟨d1, d2⟩ | ⟨d1, d2⟩ := zw_i_le kk
  · exact br_t d1 (hok ⟨c, c2', ⟨kk, af⟩, fun z => absurd (z.symm.trans d2) (by decide)⟩)
  · exact br_f d1 (pk_lt s 10 (fun z => hok ⟨c, c2', ⟨kk, af⟩, fun _ => z⟩) (fun z => hno _ (Or.inr (Or.inr (Or.inr ⟨c, c2', ⟨kk, af⟩, ⟨d2, by omega⟩, rfl⟩)))))
theorem zy_node {post : Int32 → SY → Prop} {F NL N : Nat} {v1 v2 v3 v4 : Int32} (hF : F ≤ 3) (hb : (zw_w ki N).2 ≤ F) (hNL : NL ≤ 24) (hN : N ≤ NL) (hs : zw_sc ki N ≤ 10)
    (hno : ∀ r, zr_An F NL N (zw_w ki N).2 (zw_sc ki N) v1 v2 v3 v4 r → ∀ yPl yBo pth sid, post r (nI F, nI NL, yMQ, nI N, yQ, yE, yLe, yLv, yLn, yIn, yPl, yBo, yFa, ki, aa, ab, ac, ql, qr, qb, el, er, eb, ce, pr, po, pth, sid, fl, fr, fk, gu, av, vy))
    (hok : zr_Ok F NL N (zw_w ki N).2 (zw_sc ki N) v1 v2 v3 v4 → ∀ yPl yBo pth sid, wY_node_198 post v1 v2 v3 v4 (nI F) (nI NL) yMQ (nI N) yQ yE yLe yLv yLn yIn yPl yBo yFa ki aa ab ac ql qr qb el er eb ce pr po pth sid fl fr fk gu av vy) :
    wpY_node post (nI F, nI NL, yMQ, nI N, yQ, yE, yLe, yLv, yLn, yIn, yPl, yBo, yFa, ki, aa, ab, ac, ql, qr, qb, el, er, eb, ce, pr, po, pth, sid, fl, fr, fk, gu, av, vy) v1 v2 v3 v4 := by
  unfold wpY_node
  refine zy_scopeAt (by omega) (fun pth sid _ => ?_)
  refine pk_eq (zw_w ki N).2 F (fun c => hno _ (Or.inl ⟨c, rfl⟩) _ _ pth sid) (fun c => ?_)
  refine pk_eq N NL (fun c2 => hno _ (Or.inr (Or.inl ⟨c, c2, rfl⟩)) _ _ pth sid) (fun c2 => ?_)
  refine br_c (fun c3 => hno _ (Or.inr (Or.inr (Or.inl ⟨c, c2, fun z => zr_kok1 z.1 c3, rfl⟩))) _ _ pth sid) (fun c3 => ?_)
  by_cases c4 : v1 ≤ 7
  · refine br_t c4 ?_
    have kk := zr_kok_of c3 (Int32.not_lt.mpr c4)
    have fin : ∀ x6 : Int32, ((v1 = 1 ∧ x6 = 0) ∨ (v1 = 2 ∧ x6 = 0) ∨ (v1 = 3 ∧ x6 = 0) ∨ (v1 = 4 ∧ x6 = 0) ∨ (v1 = 5 ∧ x6 = 1) ∨ (v1 = 6 ∧ x6 = 1) ∨ (v1 = 7 ∧ x6 = 0)) →
        wY_node_68 post v1 v2 v3 v4 (nI (zw_sc ki N)) x6 (nI F) (nI NL) yMQ (nI N) yQ yE yLe yLv yLn yIn (nI (zw_w ki N).1.length) (nI (zw_w ki N).2) yFa ki aa ab ac ql qr qb el er eb ce pr po pth sid fl fr fk gu av vy := fun x6 hx => by
      refine zy_n68 hF hs hx (fun af => zy_n180 hs (fun d => hok ⟨c, c2, ⟨kk, af⟩, d⟩ _ _ pth sid) (fun d1 d2 => hno _ (Or.inr (Or.inr (Or.inr ⟨c, c2, ⟨kk, af⟩, ⟨d1, d2⟩, rfl⟩))) _ _ pth sid)) (fun af => hno _ (Or.inr (Or.inr (Or.inl ⟨c, c2, fun z => af z.2, rfl⟩))) _ _ pth sid)
    obtain e | e | e | e | e | e | e := kk
    · exact br_f (by rw [e]; decide) (br_f (by rw [e]; decide) (fin 0 (Or.inl ⟨e, rfl⟩)))
    · exact br_f (by rw [e]; decide) (br_f (by rw [e]; decide) (fin 0 (Or.inr (Or.inl ⟨e, rfl⟩))))
    · exact br_f (by rw [e]; decide) (br_f (by rw [e]; decide) (fin 0 (Or.inr (Or.inr (Or.inl ⟨e, rfl⟩)))))
    · exact br_f (by rw [e]; decide) (br_f (by rw [e]; decide) (fin 0 (Or.inr (Or.inr (Or.inr (Or.inl ⟨e, rfl⟩))))))
    · refine br_t e ?_
      unfold wY_node_63
      exact fin 1 (Or.inr (Or.inr (Or.inr (Or.inr (Or.inl ⟨e, rfl⟩)))))
    · refine br_f (by rw [e]; decide) (br_t e ?_)
      unfold wY_node_63
      exact fin 1 (Or.inr (Or.inr (Or.inr (Or.inr (Or.inr (Or.inl ⟨e, rfl⟩))))))
    · exact br_f (by rw [e]; decide) (br_f (by rw [e]; decide) (fin 0 (Or.inr (Or.inr (Or.inr (Or.inr (Or.inr (Or.inr ⟨e, rfl⟩))))))))
  · exact br_f c4 (hno _ (Or.inr (Or.inr (Or.inl ⟨c, c2, fun z => zr_kok7 z.1 (Int32.not_le.mp c4), rfl⟩))) _ _ pth sid)
theorem zy_n198 {post : Int32 → SY → Prop} {N : Nat} {v1 v2 v3 v4 : Int32} (hN : N < 24) (h : post (nI N) (yF, yMN, yMQ, nI (N + 1), yQ, yE, yLe, yLv, yLn, yIn, yPl, yBo, yFa, upd ki N v1, upd aa N v2, upd ab N v3, upd ac N v4, ql, qr, qb, el, er, eb, ce, pr, po, pth, sid, fl, fr, fk, gu, av, vy)) : wY_node_198 post v1 v2 v3 v4 yF yMN yMQ (nI N) yQ yE yLe yLv yLn yIn yPl yBo yFa ki aa ab ac ql qr qb el er eb ce pr po pth sid fl fr fk gu av vy := by
  unfold wY_node_198
  rw [nI_clamp (by omega)]
  have i24 : vp_in (nI N) 24 := vp_in_nI hN (by decide)
  exact ⟨i24, nm_e ⟨i24, nm_e ⟨i24, nm_e ⟨i24, nm_e (nm_r (nI_1 N) h)⟩⟩⟩⟩
theorem i_vc_node {k : Nat} {u : SX} {v : SY} (I : i_Rel k u v) (hk : k + 5 ≤ 2563) (v1 : Int32) (v2 : Int32) (v3 : Int32) (v4 : Int32) : wpX_node (fun r u' => wpY_node (fun r' v' => r' = r ∧ i_Rel (k + 5) u' v') v v1 v2 v3 v4) u v1 v2 v3 v4 := by
  refine zr_el (P := fun u v => wpX_node (fun r u' => wpY_node (fun r' v' => r' = r ∧ i_Rel (k + 5) u' v') v v1 v2 v3 v4) u v1 v2 v3 v4) ?_ I
  intro F NL QL N Q E Le xIn xIf xCt xDp xCa xPc xRr xLn yPl yBo yFa ki aa ab ac pa so ow eo sn st wt ql qr qb el er eb cs di ce vx rt pr po pth sid fl fr fk gu av vy G
  have G0 := G
  obtain ⟨gt, gq, gc, gv⟩ := G
  have gt0 := gt
  obtain ⟨g1, g2, g3, g4, g5, g6, g7, g8, g9, g10, g11, g12⟩ := gt
  have hs10 := g9 N (Nat.le_refl N)
  refine zx_node g2 g7 g3 g4 hs10 (fun r hr => zy_node g2 g7 g3 g4 hs10 (fun r' hr' yPl yBo pth sid => ⟨zr_An_u hr hr', zr_in G0⟩) (fun z => absurd z (zr_An_n hr))) (fun ok => ?_)
  have ok0 := ok
  obtain ⟨o1, o2, ⟨o3, o4⟩, o5⟩ := ok
  have hN : N < 24 := by omega
  have i24 : vp_in (nI N) 24 := vp_in_nI hN (by decide)
  have hlen := zw_len (ki := ki) N
  have hql := zw_q_len (ki := ki) (zw_w ki N).1
  have Y : ∀ (post : Int32 → SY → Prop), (∀ yPl yBo pth sid, post (nI N) (nI F, nI NL, nI QL, nI (N + 1), nI Q, nI E, nI Le, xRr, xLn, xIn, yPl, yBo, yFa, upd ki N v1, upd aa N v2, upd ab N v3, upd ac N v4, ql, qr, qb, el, er, eb, ce, pr, po, pth, sid, fl, fr, fk, gu, av, vy)) → wpY_node post (nI F, nI NL, nI QL, nI N, nI Q, nI E, nI Le, xRr, xLn, xIn, yPl, yBo, yFa, ki, aa, ab, ac, ql, qr, qb, el, er, eb, ce, pr, po, pth, sid, fl, fr, fk, gu, av, vy) v1 v2 v3 v4 := fun post h =>
    zy_node g2 g7 g3 g4 hs10 (fun r' hr' => absurd ok0 (zr_An_n hr')) (fun _ yPl yBo pth sid => zy_n198 hN (h yPl yBo pth sid))
  unfold wX_node_67
  rw [nI_clamp (show N < 2 ^ 31 by omega)]
  refine nm_r (nI_1 N) ⟨i24, nm_e ⟨i24, nm_e ⟨i24, nm_e ⟨i24, nm_e ?_⟩⟩⟩⟩
  refine zx_attach (k0 := ki) (fun x hx => zw_lt N x hx) hN (by omega) (fun eo' st' h1 h2 h3 h4 => ?_)
  have qQ := zw_Q_q _ g10
  have GT := fun wt' => zr_Gt_s (eo' := eo') (st' := st') (wt' := wt') (kd := v1) (a := v2) (b := v3) (c := v4) gt0 (by omega) (by omega) o3 o4 o5 h1 h2 h3 h4
  by_cases k7 : v1 = 7
  · subst k7
    refine zx_adv7 hN pk_us qQ (by omega) (fun p ws e => ?_) (fun e => Y _ (fun yPl yBo pth sid => ⟨rfl, ?_⟩)) (fun p ws e => Y _ (fun yPl yBo pth sid => ⟨rfl, ?_⟩))
    · obtain ⟨r, _, _, _, z, _⟩ := zw_up_7n e
      omega
    · have w := zw_up_7e e
      refine zr_in2 (N := N + 1) (ki := upd ki N 7) (by rw [w]) (by rw [w]; rfl) (by unfold zw_sc; rw [w]; rfl) (by rw [w]; rfl) (by rw [w]; rfl) ⟨GT wt (by rw [w]; exact trivial), gq, gc, gv⟩
    · obtain ⟨r, w, w2, w3, w4, w5⟩ := zw_up_7n e
      have w2' : zw_q (upd ki N 7) r = ws := by
        have := zw_upq (ki := ki) (kd := 7) (Nat.le_of_lt w4)
        rw [w3] at this
        rw [this]; exact w2
      have wv : zw_v (upd ki N 7) ((p, true) :: r) = p :: ws := by
        show p :: zw_q (upd ki N 7) r = p :: ws
        rw [w2']
      have ws' : zw_sc (upd ki N 7) (N + 1) = zw_sc ki p := by
        unfold zw_sc
        rw [w, w3]
        have := zw_upb (ki := ki) (kd := 7) (Nat.le_of_lt w4)
        rw [w3] at this
        show 4 + (zw_nb (upd ki N 7) r + zw_i (upd ki N 7 p)) = 4 + zw_nb ki r
        rw [this, pk_un (by omega), w5]
        rfl
      refine zr_in2 (N := N + 1) (ki := upd ki N 7) (by rw [w]) (by rw [w, wv]; rfl) (by rw [ws', pk_un (by omega)]; exact (g5 p w4).2.1) (by rw [w]; rfl) (by rw [w]; rfl) ⟨GT wt (by rw [w, wv, ← e]; exact qQ), gq, gc, gv⟩
  · have w := zw_up_n (ki := ki) (N := N) k7
    have ws := zw_up_s (ki := ki) (N := N) k7
    by_cases k6 : v1 = 6
    · subst k6
      refine zx_adv6 hN pk_us (by omega) (Y _ (fun yPl yBo pth sid => ⟨rfl, ?_⟩))
      exact zr_in2 (N := N + 1) (ki := upd ki N 6) (by rw [w]) (by rw [zw_up_v6]; rfl) (by rw [ws]; rfl) (by rw [w]; rfl) (by rw [w]; rfl) ⟨GT _ (by rw [zw_up_v6]; exact ⟨pk_us, zw_Q_upd _ (Nat.le_refl _) qQ⟩), gq, gc, gv⟩
    · have wv := zw_up_vn (ki := ki) (N := N) k7 k6
      by_cases k5 : v1 = 5
      · subst k5
        refine zx_adv5 hN pk_us (Y _ (fun yPl yBo pth sid => ⟨rfl, ?_⟩))
        exact zr_in2 (N := N + 1) (ki := upd ki N 5) (by rw [w]) (by rw [wv]) (by rw [ws]; rfl) (by rw [w]; rfl) (by rw [w]; rfl) ⟨GT wt (by rw [wv]; exact qQ), gq, gc, gv⟩
      · have kk : v1 = 1 ∨ v1 = 2 ∨ v1 = 3 ∨ v1 = 4 := by
          obtain e | e | e | e | e | e | e := o3
          · exact Or.inl e
          · exact Or.inr (Or.inl e)
          · exact Or.inr (Or.inr (Or.inl e))
          · exact Or.inr (Or.inr (Or.inr e))
          · exact absurd e k5
          · exact absurd e k6
          · exact absurd e k7
        have wi : zw_i v1 = 1 := by obtain e | e | e | e := kk <;> (rw [e]; decide)
        rw [wi] at ws
        refine zx_adv4 hN (by rw [pk_us]; exact kk) (Y _ (fun yPl yBo pth sid => ⟨rfl, ?_⟩))
        exact zr_in2 (N := N + 1) (ki := upd ki N v1) (by rw [w]) (by rw [wv]) (by rw [ws]) (by rw [w]; rfl) (by rw [w]; rfl) ⟨GT wt (by rw [wv]; exact qQ), gq, gc, gv⟩
end
end
section
section
variable {xFL xNL xQL xN xFi xWc xNs xNp xBe xQc xEc xIn xIf xCt xLe xDp xCa xPc xRr xLn : Int32} {ki aa ab ac pa so ow eo sn st wt ql qr qb el er eb cs di ce vx rt : Nat → Int32}
/-- what weakening leaves of the candidates at base, base + 1 .. -/
noncomputable def zi_dr (Q base : Nat) (P : Nat → Prop) (f : Nat → Int32) : Nat → Int32 := fun i => @ite Int32 (base ≤ i ∧ i < base + Q ∧ ¬ P (i - base)) (Classical.propDecidable _) 0 (f i)
def zi_ch (Q base : Nat) (P : Nat → Prop) (f : Nat → Int32) : Prop := ∃ q, q < Q ∧ f (base + q) ≠ 0 ∧ ¬ P q
theorem zi_dr_y {Q base i : Nat} {P : Nat → Prop} {f : Nat → Int32} (h : base ≤ i ∧ i < base + Q ∧ ¬ P (i - base)) : zi_dr Q base P f i = 0 := by unfold zi_dr; exact if_pos h
theorem zi_dr_k {Q base i : Nat} {P : Nat → Prop} {f : Nat → Int32} (h : ¬ (base ≤ i ∧ i < base + Q ∧ ¬ P (i - base))) : zi_dr Q base P f i = f i := by unfold zi_dr; exact if_neg h
theorem zi_dr_ne {Q base i : Nat} {P : Nat → Prop} {f : Nat → Int32} (h : zi_dr Q base P f i ≠ 0) : f i ≠ 0 := by
  by_cases c : base ≤ i ∧ i < base + Q ∧ ¬ P (i - base)
  · exact absurd (zi_dr_y c) h
  · rw [zi_dr_k c] at h; exact h
theorem zi_dr_0 {base : Nat} {P : Nat → Prop} {f : Nat → Int32} : zi_dr 0 base P f = f := by
  funext i
  exact zi_dr_k (fun z => by omega)
theorem zi_dr_p {q base : Nat} {P : Nat → Prop} {f : Nat → Int32} (h : P q) : zi_dr (q + 1) base P f = zi_dr q base P f := by
  funext i
  by_cases c : base ≤ i ∧ i < base + q ∧ ¬ P (i - base)
  · rw [zi_dr_y c, zi_dr_y ⟨c.1, by omega, c.2.2⟩]
  · rw [zi_dr_k c, zi_dr_k (fun z => by
      by_cases e : i = base + q
      · exact z.2.2 (by rw [e, Nat.add_sub_cancel_left]; exact h)
      · exact c ⟨z.1, by omega, z.2.2⟩)]
theorem zi_dr_n {q base : Nat} {P : Nat → Prop} {f : Nat → Int32} (h : ¬ P q) : zi_dr (q + 1) base P f = upd (zi_dr q base P f) (base + q) 0 := by
  funext i
  by_cases e : i = base + q
  · rw [e, pk_us, zi_dr_y ⟨by omega, by omega, by rw [Nat.add_sub_cancel_left]; exact h⟩]
  · rw [pk_un e]
    by_cases c : base ≤ i ∧ i < base + q ∧ ¬ P (i - base)
    · rw [zi_dr_y c, zi_dr_y ⟨c.1, by omega, c.2.2⟩]
    · rw [zi_dr_k c, zi_dr_k (fun z => c ⟨z.1, by omega, z.2.2⟩)]
theorem zi_dr_z {q base : Nat} {P : Nat → Prop} {f : Nat → Int32} (h : f (base + q) = 0) : zi_dr (q + 1) base P f = zi_dr q base P f := by
  by_cases c : P q
  · exact zi_dr_p c
  · rw [zi_dr_n c]
    funext i
    by_cases e : i = base + q
    · rw [e, pk_us, zi_dr_k (fun z => by omega), h]
    · rw [pk_un e]
theorem zi_dr_at {q base : Nat} {P : Nat → Prop} {f : Nat → Int32} : zi_dr q base P f (base + q) = f (base + q) := zi_dr_k (fun z => by omega)
theorem zi_ch_0 {base : Nat} {P : Nat → Prop} {f : Nat → Int32} : ¬ zi_ch 0 base P f := fun ⟨q, hq, _⟩ => absurd hq (Nat.not_lt_zero q)
theorem zi_ch_n {q base : Nat} {P : Nat → Prop} {f : Nat → Int32} (h : f (base + q) = 0 ∨ P q) : zi_ch (q + 1) base P f ↔ zi_ch q base P f := by
  constructor
  · intro ⟨j, h1, h2, h3⟩
    by_cases e : j = q
    · subst e
      obtain z | z := h
      · exact absurd z h2
      · exact absurd z h3
    · exact ⟨j, by omega, h2, h3⟩
  · intro ⟨j, h1, h2, h3⟩
    exact ⟨j, by omega, h2, h3⟩
theorem zi_ch_y {q base : Nat} {P : Nat → Prop} {f : Nat → Int32} (h1 : f (base + q) ≠ 0) (h2 : ¬ P q) : zi_ch (q + 1) base P f := ⟨q, by omega, h1, h2⟩
theorem zx_w16 {post : Int32 → SX → Prop} {x3 x4 x5 : Int32} {a Q : Nat} {S : (Nat → Int) → Prop} (hA : zf_ans (zx_d di) xCt S) (hQ : zw_QV ql qr qb Q) (ha : a < 6) (h3 : vp_in x3 10) (h4 : vp_in x4 10) (h5 : vp_in x5 10)
    (h : post (za_b (zi_ch Q (a * 8) (fun q => zw_en ql qr qb S q x3 x4 x5) cs)) (xFL, xNL, xQL, xN, xFi, xWc, xNs, xNp, xBe, nI Q, xEc, xIn, xIf, xCt, xLe, xDp, xCa, xPc, xRr, xLn, ki, aa, ab, ac, pa, so, ow, eo, sn, st, wt, ql, qr, qb, el, er, eb, zi_dr Q (a * 8) (fun q => zw_en ql qr qb S q x3 x4 x5) cs, di, ce, vx, rt)) :
    ∀ (d q n : Nat), q + d = Q → d < n →
    wX_weaken_16 post x3 x4 x5 (nI (a * 8)) xFL xNL xQL xN xFi xWc xNs xNp xBe (nI Q) xEc xIn xIf xCt xLe xDp xCa xPc xRr xLn n (za_b (zi_ch q (a * 8) (fun q => zw_en ql qr qb S q x3 x4 x5) cs)) (nI q) ki aa ab ac pa so ow eo sn st wt ql qr qb el er eb (zi_dr q (a * 8) (fun q => zw_en ql qr qb S q x3 x4 x5) cs) di ce vx rt := by
  intro d
  induction d with
  | zero =>
    intro q n hq hn
    obtain ⟨n, rfl⟩ : ∃ c, n = c + 1 := ⟨n - 1, by omega⟩
    have hq' : q = Q := hq
    subst hq'
    have := hQ.1
    rw [wX_weaken_16]
    exact pk_le q q (fun _ => ⟨za_nar _, h⟩) (fun z => absurd z (Nat.lt_irrefl q))
  | succ d ih =>
    intro q n hq hn
    obtain ⟨n, rfl⟩ : ∃ c, n = c + 1 := ⟨n - 1, by omega⟩
    have q8 := hQ.1
    obtain ⟨q1, q2, q3, q4⟩ := hQ.2 q (by omega)
    have hq8 : vp_in (nI q) 8 := vp_in_nI (by omega) (by decide)
    have ei : nI (a * 8) + nI q = nI (a * 8 + q) := nI_add _ _
    have i48 : vp_in (nI (a * 8 + q)) 48 := vp_in_nI (by omega) (by decide)
    have i' := ih (q + 1) n (by omega) (by omega)
    rw [wX_weaken_16]
    dsimp only
    rw [ei, nI_clamp (show q < 2 ^ 31 by omega), nI_clamp (show a * 8 + q < 2 ^ 31 by omega), zi_dr_at]
    refine pk_le Q q (fun z => absurd z (by omega)) (fun _ => ⟨i48, br_c (fun e => ?_) (fun e => ⟨hq8, zx_inst ⟨hq8, zx_inst ⟨hq8, zx_forced hA (zw_pk_in q1 h3 h4 h5) (zw_pk_in q2 h3 h4 h5) (by omega) (za_ble (fun e2 => ?_) (fun e2 => ⟨i48, ?_⟩))⟩⟩⟩)⟩)
    · rw [zi_dr_z e, za_bb (zi_ch_n (Or.inl e))] at i'
      exact nm_r (nI_1 q) i'
    · rw [zi_dr_p (P := fun q => zw_en ql qr qb S q x3 x4 x5) e2, za_bb (zi_ch_n (P := fun q => zw_en ql qr qb S q x3 x4 x5) (Or.inr e2))] at i'
      exact nm_r (nI_1 q) i'
    · rw [zi_dr_n (P := fun q => zw_en ql qr qb S q x3 x4 x5) e2, za_bt (zi_ch_y (P := fun q => zw_en ql qr qb S q x3 x4 x5) e e2)] at i'
      rw [za_vb0]
      exact nm_e (nm_r (nI_1 q) i')
theorem zx_weaken {post : Int32 → SX → Prop} {x y z : Int32} {s f Q : Nat} {S : (Nat → Int) → Prop} (hA : zf_ans (zx_d di) xCt S) (hQ : zw_QV ql qr qb Q) (ha : s * 3 + f < 6) (hx : vp_in x 10) (hy : vp_in y 10) (hz : vp_in z 10)
    (h : post (za_b (zi_ch Q ((s * 3 + f) * 8) (fun q => zw_en ql qr qb S q x y z) cs)) (xFL, xNL, xQL, xN, xFi, xWc, xNs, xNp, xBe, nI Q, xEc, xIn, xIf, xCt, xLe, xDp, xCa, xPc, xRr, xLn, ki, aa, ab, ac, pa, so, ow, eo, sn, st, wt, ql, qr, qb, el, er, eb, zi_dr Q ((s * 3 + f) * 8) (fun q => zw_en ql qr qb S q x y z) cs, di, ce, vx, rt)) :
    wpX_weaken post (xFL, xNL, xQL, xN, xFi, xWc, xNs, xNp, xBe, nI Q, xEc, xIn, xIf, xCt, xLe, xDp, xCa, xPc, xRr, xLn, ki, aa, ab, ac, pa, so, ow, eo, sn, st, wt, ql, qr, qb, el, er, eb, cs, di, ce, vx, rt) (nI s) (nI f) x y z := by
  unfold wpX_weaken
  refine nm_r (e' := nI ((s * 3 + f) * 8)) (by rw [za_m3, nI_add, za_m8]) ⟨Q + 1, ?_⟩
  have c := zx_w16 hA hQ ha hx hy hz h Q 0 (Q + 1) (by omega) (by omega)
  rw [zi_dr_0, za_bf zi_ch_0] at c
  exact c
/-- one node's weakening of the candidates -/
noncomputable def zi_st (ki aa ab ac ql qr qb : Nat → Int32) (Q n : Nat) (c : (Nat → Int32) × (Nat → Int32)) : (Nat → Int32) × (Nat → Int32) :=
  if ki n = 4 then (zi_dr Q ((aa n).toNatClampNeg * 8) (fun q => zw_en ql qr qb (zw_S ki aa ab ac ql qr qb c.1 c.2 Q n) q (ab n) (ac n) 0) c.1, c.2)
  else if ki n = 7 then (c.1, zi_dr Q ((zw_w ki n).2 * 8) (fun q => zw_en ql qr qb (zw_S ki aa ab ac ql qr qb c.1 c.2 Q n) q 2 3 (aa n)) c.2)
  else c
def zi_sc (ki aa ab ac ql qr qb : Nat → Int32) (Q n : Nat) (c : (Nat → Int32) × (Nat → Int32)) : Prop :=
  (ki n = 4 ∧ zi_ch Q ((aa n).toNatClampNeg * 8) (fun q => zw_en ql qr qb (zw_S ki aa ab ac ql qr qb c.1 c.2 Q n) q (ab n) (ac n) 0) c.1) ∨
  (ki n = 7 ∧ zi_ch Q ((zw_w ki n).2 * 8) (fun q => zw_en ql qr qb (zw_S ki aa ab ac ql qr qb c.1 c.2 Q n) q 2 3 (aa n)) c.2)
theorem zi_st4 {Q n : Nat} {c : (Nat → Int32) × (Nat → Int32)} (h : ki n = 4) : zi_st ki aa ab ac ql qr qb Q n c = (zi_dr Q ((aa n).toNatClampNeg * 8) (fun q => zw_en ql qr qb (zw_S ki aa ab ac ql qr qb c.1 c.2 Q n) q (ab n) (ac n) 0) c.1, c.2) := by
  unfold zi_st; rw [if_pos h]
theorem zi_st7 {Q n : Nat} {c : (Nat → Int32) × (Nat → Int32)} (h : ki n = 7) : zi_st ki aa ab ac ql qr qb Q n c = (c.1, zi_dr Q ((zw_w ki n).2 * 8) (fun q => zw_en ql qr qb (zw_S ki aa ab ac ql qr qb c.1 c.2 Q n) q 2 3 (aa n)) c.2) := by
  unfold zi_st; rw [if_neg (by rw [h]; decide), if_pos h]
theorem zi_stn {Q n : Nat} {c : (Nat → Int32) × (Nat → Int32)} (h4 : ¬ ki n = 4) (h7 : ¬ ki n = 7) : zi_st ki aa ab ac ql qr qb Q n c = c := by
  unfold zi_st; rw [if_neg h4, if_neg h7]
theorem zi_sc4 {Q n : Nat} {c : (Nat → Int32) × (Nat → Int32)} (h : ki n = 4) : zi_sc ki aa ab ac ql qr qb Q n c ↔ zi_ch Q ((aa n).toNatClampNeg * 8) (fun q => zw_en ql qr qb (zw_S ki aa ab ac ql qr qb c.1 c.2 Q n) q (ab n) (ac n) 0) c.1 :=
  ⟨fun z => by
    obtain z | z := z
    · exact z.2
    · exact absurd (h.symm.trans z.1) (by decide), fun z => Or.inl ⟨h, z⟩⟩
theorem zi_sc7 {Q n : Nat} {c : (Nat → Int32) × (Nat → Int32)} (h : ki n = 7) : zi_sc ki aa ab ac ql qr qb Q n c ↔ zi_ch Q ((zw_w ki n).2 * 8) (fun q => zw_en ql qr qb (zw_S ki aa ab ac ql qr qb c.1 c.2 Q n) q 2 3 (aa n)) c.2 :=
  ⟨fun z => by
    obtain z | z := z
    · exact absurd (h.symm.trans z.1) (by decide)
    · exact z.2, fun z => Or.inr ⟨h, z⟩⟩
theorem zi_scn {Q n : Nat} {c : (Nat → Int32) × (Nat → Int32)} (h4 : ¬ ki n = 4) (h7 : ¬ ki n = 7) : ¬ zi_sc ki aa ab ac ql qr qb Q n c := fun z => by
  obtain z | z := z
  · exact h4 z.1
  · exact h7 z.1
/-- the class's candidates stay those of the reference -/
theorem zi_cc_pre {Q f : Nat} {P : Nat → Prop} {pr po : Nat → Int32} (hQ : Q ≤ 8) (hf : f < 3) (cc : zr_cc Q ql qr cs pr po) : zr_cc Q ql qr (zi_dr Q ((0 * 3 + f) * 8) P cs) (zi_dr Q (f * 8) P pr) po := by
  have e : (0 * 3 + f) * 8 = f * 8 := by omega
  rw [e]
  refine ⟨fun i hi => ?_, fun i hi => ?_, fun g q hg hq h => cc.2.2 g q hg hq (zi_dr_ne h)⟩
  · by_cases c : f * 8 ≤ i ∧ i < f * 8 + Q ∧ ¬ P (i - f * 8)
    · rw [zi_dr_y c, zi_dr_y c]
    · rw [zi_dr_k c, zi_dr_k c]; exact cc.1 i hi
  · rw [zi_dr_k (fun z => by omega)]; exact cc.2.1 i hi
theorem zi_cc_post {Q f : Nat} {P : Nat → Prop} {pr po : Nat → Int32} (hQ : Q ≤ 8) (hf : f < 3) (cc : zr_cc Q ql qr cs pr po) : zr_cc Q ql qr (zi_dr Q ((1 * 3 + f) * 8) P cs) pr (zi_dr Q (f * 8) P po) := by
  have e : (1 * 3 + f) * 8 = 24 + f * 8 := by omega
  rw [e]
  refine ⟨fun i hi => ?_, fun i hi => ?_, cc.2.2⟩
  · rw [zi_dr_k (fun z => by omega)]; exact cc.1 i hi
  · have e2 : 24 + i - (24 + f * 8) = i - f * 8 := by omega
    by_cases c : f * 8 ≤ i ∧ i < f * 8 + Q ∧ ¬ P (i - f * 8)
    · rw [zi_dr_y c, zi_dr_y ⟨by omega, by omega, by rw [e2]; exact c.2.2⟩]
    · rw [zi_dr_k c, zi_dr_k (fun z => c ⟨by omega, by omega, by rw [← e2]; exact z.2.2⟩)]; exact cc.2.1 i hi
theorem zi_ch_pre {Q f : Nat} {P : Nat → Prop} {pr po : Nat → Int32} (hQ : Q ≤ 8) (hf : f < 3) (cc : zr_cc Q ql qr cs pr po) : zi_ch Q ((0 * 3 + f) * 8) P cs ↔ zi_ch Q (f * 8) P pr := by
  have e : ∀ q, q < Q → cs ((0 * 3 + f) * 8 + q) = pr (f * 8 + q) := fun q hq => by
    rw [← cc.1 _ (by omega)]; exact congrArg cs (by omega)
  exact ⟨fun ⟨q, h1, h2, h3⟩ => ⟨q, h1, by rw [← e q h1]; exact h2, h3⟩, fun ⟨q, h1, h2, h3⟩ => ⟨q, h1, by rw [e q h1]; exact h2, h3⟩⟩
theorem zi_ch_post {Q f : Nat} {P : Nat → Prop} {pr po : Nat → Int32} (hQ : Q ≤ 8) (hf : f < 3) (cc : zr_cc Q ql qr cs pr po) : zi_ch Q ((1 * 3 + f) * 8) P cs ↔ zi_ch Q (f * 8) P po := by
  have e : ∀ q, q < Q → cs ((1 * 3 + f) * 8 + q) = po (f * 8 + q) := fun q hq => by
    rw [← cc.2.1 _ (by omega)]; exact congrArg cs (by omega)
  exact ⟨fun ⟨q, h1, h2, h3⟩ => ⟨q, h1, by rw [← e q h1]; exact h2, h3⟩, fun ⟨q, h1, h2, h3⟩ => ⟨q, h1, by rw [e q h1]; exact h2, h3⟩⟩
theorem zx_wAt {post : Int32 → SX → Prop} {F NL N Q n : Nat} {c : (Nat → Int32) × (Nat → Int32)} (gt : zr_Gt F NL N ki aa ab ac pa so ow eo sn st wt) (hQ : zw_QV ql qr qb Q) (cc : zr_cc Q ql qr cs c.1 c.2) (hn : n < N)
    (h : ∀ cs di xCt, zr_cc Q ql qr cs (zi_st ki aa ab ac ql qr qb Q n c).1 (zi_st ki aa ab ac ql qr qb Q n c).2 → post (za_b (zi_sc ki aa ab ac ql qr qb Q n c)) (xFL, xNL, xQL, xN, xFi, xWc, xNs, xNp, xBe, nI Q, xEc, xIn, xIf, xCt, xLe, xDp, xCa, xPc, xRr, xLn, ki, aa, ab, ac, pa, so, ow, eo, sn, st, wt, ql, qr, qb, el, er, eb, cs, di, ce, vx, rt)) : wpX_weakenAt post (xFL, xNL, xQL, xN, xFi, xWc, xNs, xNp, xBe, nI Q, xEc, xIn, xIf, xCt, xLe, xDp, xCa, xPc, xRr, xLn, ki, aa, ab, ac, pa, so, ow, eo, sn, st, wt, ql, qr, qb, el, er, eb, cs, di, ce, vx, rt) (nI n) := by
  have hN := zr_nb gt
  have n31 : n < 2 ^ 31 := by omega
  have hi : vp_in (nI n) 24 := vp_in_nI (by omega) (by decide)
  obtain ⟨v0, v1, v2, v3, v4, v5, v6⟩ := gt.2.2.2.2.2.1 n hn
  have hF := gt.2.1
  have hb := gt.2.2.2.2.2.2.2.1 n hn
  unfold wpX_weakenAt
  dsimp only
  rw [nI_clamp n31]
  refine ⟨hi, br_c (fun k => ?_) (fun k => ⟨hi, br_c (fun k7 => ?_) (fun k7 => ?_)⟩)⟩
  · obtain ⟨w1, w2, w3⟩ := v4 k
    obtain ⟨a, ha, ea⟩ := vp_in_of w1 (by omega)
    refine zx_fa gt hQ cc hn (fun di xCt hA => ⟨hi, hi, hi, ?_⟩)
    show wpX_weaken _ (xFL, xNL, xQL, xN, xFi, xWc, xNs, xNp, xBe, nI Q, xEc, xIn, xIf, xCt, xLe, xDp, xCa, xPc, xRr, xLn, ki, aa, ab, ac, pa, so, ow, eo, sn, st, wt, ql, qr, qb, el, er, eb, cs, di, ce, vx, rt) 0 (aa n) (ab n) (ac n) 0
    rw [ea]
    have H := h (zi_dr Q ((0 * 3 + a) * 8) (fun q => zw_en ql qr qb (zw_S ki aa ab ac ql qr qb c.1 c.2 Q n) q (ab n) (ac n) 0) cs) di xCt (by
      rw [zi_st4 k, ea, nI_clamp (by omega)]
      exact zi_cc_pre hQ.1 (by omega) cc)
    rw [za_bb (zi_sc4 k), ea, nI_clamp (by omega), ← za_bb (zi_ch_pre hQ.1 (by omega) cc)] at H
    exact zx_weaken (s := 0) hA hQ (by omega) w2 w3 za_in0 ⟨za_nar _, H⟩
  · have eo' : ow n = nI (zw_w ki n).2 := (gt.2.2.2.2.1 n hn).2.2.1
    refine zx_fa gt hQ cc hn (fun di xCt hA => ⟨hi, hi, ?_⟩)
    show wpX_weaken _ (xFL, xNL, xQL, xN, xFi, xWc, xNs, xNp, xBe, nI Q, xEc, xIn, xIf, xCt, xLe, xDp, xCa, xPc, xRr, xLn, ki, aa, ab, ac, pa, so, ow, eo, sn, st, wt, ql, qr, qb, el, er, eb, cs, di, ce, vx, rt) 1 (ow n) 2 3 (aa n)
    rw [eo']
    have H := h (zi_dr Q ((1 * 3 + (zw_w ki n).2) * 8) (fun q => zw_en ql qr qb (zw_S ki aa ab ac ql qr qb c.1 c.2 Q n) q 2 3 (aa n)) cs) di xCt (by
      rw [zi_st7 k7]
      exact zi_cc_post hQ.1 (by omega) cc)
    rw [za_bb (zi_sc7 k7), ← za_bb (zi_ch_post hQ.1 (by omega) cc)] at H
    exact zx_weaken (s := 1) hA hQ (by omega) za_in2 za_in3 v1 ⟨za_nar _, H⟩
  · have H := h cs di xCt (by rw [zi_stn k k7]; exact cc)
    rw [za_bf (zi_scn k k7)] at H
    exact H
/-- the nodes below k -/
noncomputable def zi_fo (ki aa ab ac ql qr qb : Nat → Int32) (Q : Nat) (c : (Nat → Int32) × (Nat → Int32)) : Nat → (Nat → Int32) × (Nat → Int32)
  | 0 => c
  | n + 1 => zi_st ki aa ab ac ql qr qb Q n (zi_fo ki aa ab ac ql qr qb Q c n)
def zi_fc (ki aa ab ac ql qr qb : Nat → Int32) (Q : Nat) (c : (Nat → Int32) × (Nat → Int32)) (k : Nat) : Prop := ∃ n, n < k ∧ zi_sc ki aa ab ac ql qr qb Q n (zi_fo ki aa ab ac ql qr qb Q c n)
theorem zi_fc_0 {Q : Nat} {c : (Nat → Int32) × (Nat → Int32)} : ¬ zi_fc ki aa ab ac ql qr qb Q c 0 := fun ⟨n, hn, _⟩ => absurd hn (Nat.not_lt_zero n)
theorem zi_fc_s {Q k : Nat} {c : (Nat → Int32) × (Nat → Int32)} : zi_fc ki aa ab ac ql qr qb Q c (k + 1) ↔ (zi_fc ki aa ab ac ql qr qb Q c k ∨ zi_sc ki aa ab ac ql qr qb Q k (zi_fo ki aa ab ac ql qr qb Q c k)) := by
  constructor
  · intro ⟨n, hn, h⟩
    by_cases e : n = k
    · rw [e] at h; exact Or.inr h
    · exact Or.inl ⟨n, by omega, h⟩
  · intro h
    obtain ⟨n, hn, h⟩ | h := h
    · exact ⟨n, by omega, h⟩
    · exact ⟨k, by omega, h⟩
theorem zx_wN4 {post : Int32 → SX → Prop} {F NL N Q : Nat} {c : (Nat → Int32) × (Nat → Int32)} (gt : zr_Gt F NL N ki aa ab ac pa so ow eo sn st wt) (hQ : zw_QV ql qr qb Q)
    (h : ∀ cs di xCt, zr_cc Q ql qr cs (zi_fo ki aa ab ac ql qr qb Q c N).1 (zi_fo ki aa ab ac ql qr qb Q c N).2 → post (za_b (zi_fc ki aa ab ac ql qr qb Q c N)) (xFL, xNL, xQL, nI N, xFi, xWc, xNs, xNp, xBe, nI Q, xEc, xIn, xIf, xCt, xLe, xDp, xCa, xPc, xRr, xLn, ki, aa, ab, ac, pa, so, ow, eo, sn, st, wt, ql, qr, qb, el, er, eb, cs, di, ce, vx, rt)) :
    ∀ (d k n : Nat) (cs di : Nat → Int32) (xCt : Int32), k + d = N → d < n → zr_cc Q ql qr cs (zi_fo ki aa ab ac ql qr qb Q c k).1 (zi_fo ki aa ab ac ql qr qb Q c k).2 →
    wX_weakenNodes_4 post n (za_b (zi_fc ki aa ab ac ql qr qb Q c k)) (nI k) xFL xNL xQL (nI N) xFi xWc xNs xNp xBe (nI Q) xEc xIn xIf xCt xLe xDp xCa xPc xRr xLn ki aa ab ac pa so ow eo sn st wt ql qr qb el er eb cs di ce vx rt := by
  have hN := zr_nb gt
  intro d
  induction d with
  | zero =>
    intro k n cs di xCt hk hn cc
    obtain ⟨n, rfl⟩ : ∃ c, n = c + 1 := ⟨n - 1, by omega⟩
    have hk' : k = N := hk
    subst hk'
    rw [wX_weakenNodes_4]
    exact pk_le k k (fun _ => ⟨za_nar _, h cs di xCt cc⟩) (fun z => absurd z (Nat.lt_irrefl k))
  | succ d ih =>
    intro k n cs di xCt hk hn cc
    obtain ⟨n, rfl⟩ : ∃ c, n = c + 1 := ⟨n - 1, by omega⟩
    rw [wX_weakenNodes_4]
    refine pk_le N k (fun z => absurd z (by omega)) (fun _ => zx_wAt gt hQ cc (by omega) (fun cs di xCt cc' => za_ble (fun e => ?_) (fun e => ?_)))
    · have i' := ih (k + 1) n cs di xCt (by omega) (by omega) cc'
      rw [za_bt (zi_fc_s.mpr (Or.inr e))] at i'
      exact nm_r (nI_1 k) i'
    · have i' := ih (k + 1) n cs di xCt (by omega) (by omega) cc'
      rw [za_bb (zi_fc_s.trans ⟨fun z => z.resolve_right e, Or.inl⟩)] at i'
      exact nm_r (nI_1 k) i'
theorem zx_wN {post : Int32 → SX → Prop} {F NL N Q : Nat} {c : (Nat → Int32) × (Nat → Int32)} (gt : zr_Gt F NL N ki aa ab ac pa so ow eo sn st wt) (hQ : zw_QV ql qr qb Q) (cc : zr_cc Q ql qr cs c.1 c.2)
    (h : ∀ cs di xCt, zr_cc Q ql qr cs (zi_fo ki aa ab ac ql qr qb Q c N).1 (zi_fo ki aa ab ac ql qr qb Q c N).2 → post (za_b (zi_fc ki aa ab ac ql qr qb Q c N)) (xFL, xNL, xQL, nI N, xFi, xWc, xNs, xNp, xBe, nI Q, xEc, xIn, xIf, xCt, xLe, xDp, xCa, xPc, xRr, xLn, ki, aa, ab, ac, pa, so, ow, eo, sn, st, wt, ql, qr, qb, el, er, eb, cs, di, ce, vx, rt)) : wpX_weakenNodes post (xFL, xNL, xQL, nI N, xFi, xWc, xNs, xNp, xBe, nI Q, xEc, xIn, xIf, xCt, xLe, xDp, xCa, xPc, xRr, xLn, ki, aa, ab, ac, pa, so, ow, eo, sn, st, wt, ql, qr, qb, el, er, eb, cs, di, ce, vx, rt) := by
  unfold wpX_weakenNodes
  refine ⟨N + 1, ?_⟩
  have i := zx_wN4 gt hQ h N 0 (N + 1) cs di xCt (by omega) (by omega) cc
  rw [za_bf zi_fc_0] at i
  exact i
/-- k rounds more -/
noncomputable def zi_it (ki aa ab ac ql qr qb : Nat → Int32) (Q N : Nat) : Nat → Prop → (Nat → Int32) × (Nat → Int32) → (Nat → Int32) × (Nat → Int32)
  | 0, _, c => c
  | k + 1, b, c => @ite _ b (Classical.propDecidable b) (zi_it ki aa ab ac ql qr qb Q N k (zi_fc ki aa ab ac ql qr qb Q c N) (zi_fo ki aa ab ac ql qr qb Q c N)) c
theorem zi_it_t {Q N k : Nat} {b : Prop} {c : (Nat → Int32) × (Nat → Int32)} (h : b) : zi_it ki aa ab ac ql qr qb Q N (k + 1) b c = zi_it ki aa ab ac ql qr qb Q N k (zi_fc ki aa ab ac ql qr qb Q c N) (zi_fo ki aa ab ac ql qr qb Q c N) := by
  rw [zi_it]; exact if_pos h
theorem zi_it_f {Q N k : Nat} {b : Prop} {c : (Nat → Int32) × (Nat → Int32)} (h : ¬ b) : zi_it ki aa ab ac ql qr qb Q N k b c = c := by
  cases k with
  | zero => rfl
  | succ k => rw [zi_it]; exact if_neg h
theorem zx_i21 {post : Int32 → SX → Prop} {F NL N Q : Nat} {cE : (Nat → Int32) × (Nat → Int32)} (gt : zr_Gt F NL N ki aa ab ac pa so ow eo sn st wt) (hQ : zw_QV ql qr qb Q)
    (h : ∀ cs di xCt, zr_cc Q ql qr cs cE.1 cE.2 → wX_infer_42 post xFL xNL xQL (nI N) xFi xWc xNs xNp xBe (nI Q) xEc xIn xIf xCt xLe xDp xCa xPc xRr xLn ki aa ab ac pa so ow eo sn st wt ql qr qb el er eb cs di ce vx rt) :
    ∀ (k r n : Nat) (b : Prop) (c : (Nat → Int32) × (Nat → Int32)) (cs di : Nat → Int32) (xCt : Int32), r + k = 50 → k < n → zr_cc Q ql qr cs c.1 c.2 → zi_it ki aa ab ac ql qr qb Q N k b c = cE →
    wX_infer_21 post n (za_b b) (nI r) xFL xNL xQL (nI N) xFi xWc xNs xNp xBe (nI Q) xEc xIn xIf xCt xLe xDp xCa xPc xRr xLn ki aa ab ac pa so ow eo sn st wt ql qr qb el er eb cs di ce vx rt := by
  intro k
  induction k with
  | zero =>
    intro r n b c cs di xCt hr hn cc e
    obtain ⟨n, rfl⟩ : ∃ c, n = c + 1 := ⟨n - 1, by omega⟩
    have e' : c = cE := e
    subst e'
    rw [wX_infer_21]
    exact pk_le 50 r (fun _ => h cs di xCt cc) (fun z => absurd z (by omega))
  | succ k ih =>
    intro r n b c cs di xCt hr hn cc e
    obtain ⟨n, rfl⟩ : ∃ c, n = c + 1 := ⟨n - 1, by omega⟩
    rw [wX_infer_21]
    refine pk_le 50 r (fun z => absurd z (by omega)) (fun _ => za_ble (fun hb => ?_) (fun hb => ?_))
    · rw [zi_it_t hb] at e
      exact zx_wN gt hQ cc (fun cs di xCt cc' => nm_r (nI_1 r) (ih (r + 1) n _ _ cs di xCt (by omega) (by omega) cc' e))
    · rw [zi_it_f hb] at e
      subst e
      exact h cs di xCt cc
theorem zx_aS2 {post : Int32 → SX → Prop} {F NL N Q : Nat} {pr po : Nat → Int32} (gt : zr_Gt F NL N ki aa ab ac pa so ow eo sn st wt) (hQ : zw_QV ql qr qb Q) (cc : zr_cc Q ql qr cs pr po)
    (h : ∀ di xCt, post (za_b (∀ n, n < N → zr_sf ki aa ab ac ql qr qb pr po Q n)) (xFL, xNL, xQL, nI N, xFi, xWc, xNs, xNp, xBe, nI Q, xEc, xIn, xIf, xCt, xLe, xDp, xCa, xPc, xRr, xLn, ki, aa, ab, ac, pa, so, ow, eo, sn, st, wt, ql, qr, qb, el, er, eb, cs, di, ce, vx, rt)) :
    ∀ (d k n : Nat) (di : Nat → Int32) (xCt : Int32), k + d = N → d < n → (∀ n, n < k → zr_sf ki aa ab ac ql qr qb pr po Q n) →
    wX_allSafe_2 post n (nI k) xFL xNL xQL (nI N) xFi xWc xNs xNp xBe (nI Q) xEc xIn xIf xCt xLe xDp xCa xPc xRr xLn ki aa ab ac pa so ow eo sn st wt ql qr qb el er eb cs di ce vx rt := by
  have hN := zr_nb gt
  intro d
  induction d with
  | zero =>
    intro k n di xCt hk hn H
    obtain ⟨n, rfl⟩ : ∃ c, n = c + 1 := ⟨n - 1, by omega⟩
    have hk' : k = N := hk
    subst hk'
    have h' := h di xCt
    rw [za_bt H] at h'
    rw [wX_allSafe_2]
    exact pk_le k k (fun _ => h') (fun z => absurd z (Nat.lt_irrefl k))
  | succ d ih =>
    intro k n di xCt hk hn H
    obtain ⟨n, rfl⟩ : ∃ c, n = c + 1 := ⟨n - 1, by omega⟩
    rw [wX_allSafe_2]
    refine pk_le N k (fun z => absurd z (by omega)) (fun _ => zx_isSafe gt hQ cc (by omega) (fun di xCt => za_ble (fun e => ?_) (fun e => ?_)))
    · refine nm_r (nI_1 k) (ih (k + 1) n di xCt (by omega) (by omega) (fun m hm => ?_))
      by_cases em : m = k
      · rw [em]; exact e
      · exact H m (by omega)
    · have h' := h di xCt
      rw [za_bf (fun z => e (z k (by omega)))] at h'
      exact h'
theorem zx_i42 {post : Int32 → SX → Prop} {F NL N Q : Nat} {pr po : Nat → Int32} (gt : zr_Gt F NL N ki aa ab ac pa so ow eo sn st wt) (hQ : zw_QV ql qr qb Q) (cc : zr_cc Q ql qr cs pr po)
    (h : ∀ di xCt, post (za_b (∀ n, n < N → zr_sf ki aa ab ac ql qr qb pr po Q n)) (xFL, xNL, xQL, nI N, xFi, xWc, xNs, xNp, xBe, nI Q, xEc, 1, xIf, xCt, xLe, xDp, xCa, xPc, xRr, xLn, ki, aa, ab, ac, pa, so, ow, eo, sn, st, wt, ql, qr, qb, el, er, eb, cs, di, ce, vx, rt)) : wX_infer_42 post xFL xNL xQL (nI N) xFi xWc xNs xNp xBe (nI Q) xEc xIn xIf xCt xLe xDp xCa xPc xRr xLn ki aa ab ac pa so ow eo sn st wt ql qr qb el er eb cs di ce vx rt := by
  unfold wX_infer_42 wpX_allSafe
  refine ⟨N + 1, zx_aS2 gt hQ cc (fun di xCt => za_ble (fun e => ?_) (fun e => ?_)) N 0 (N + 1) di xCt (by omega) (by omega) (fun n hn => absurd hn (Nat.not_lt_zero n))⟩
  · have h' := h di xCt
    rw [za_bt e] at h'
    exact h'
  · have h' := h di xCt
    rw [za_bf e] at h'
    exact h'
end
end
section
section
variable {xFL xNL xQL xN xFi xWc xNs xNp xBe xQc xEc xIn xIf xCt xLe xDp xCa xPc xRr xLn : Int32} {ki aa ab ac pa so ow eo sn st wt ql qr qb el er eb cs di ce vx rt : Nat → Int32}
def zi_q0 (Q q : Nat) : Int32 := if q < Q then 1 else 0
def zi_p0 (ql qr : Nat → Int32) (Q q : Nat) : Int32 := if q < Q ∧ ql q ≠ 4 ∧ qr q ≠ 4 then 1 else 0
theorem zi_q0n (Q q : Nat) : vp_nar .boolean (zi_q0 Q q) = zi_q0 Q q := by
  unfold zi_q0
  split
  · exact za_vb1
  · exact za_vb0
theorem zi_p0n (Q q : Nat) : vp_nar .boolean (zi_p0 ql qr Q q) = zi_p0 ql qr Q q := by
  unfold zi_p0
  split
  · exact za_vb1
  · exact za_vb0
theorem zx_ca68 {post : SX → Prop} {J2 J9 : Int32 → (Nat → Int32) → (Nat → Int32) → (Nat → Int32) → (Nat → Int32) → (Nat → Int32) → (Nat → Int32) → (Nat → Int32) → (Nat → Int32) → (Nat → Int32) → (Nat → Int32) → (Nat → Int32) → (Nat → Int32) → (Nat → Int32) → (Nat → Int32) → (Nat → Int32) → (Nat → Int32) → (Nat → Int32) → (Nat → Int32) → (Nat → Int32) → (Nat → Int32) → (Nat → Int32) → (Nat → Int32) → Prop} {f q : Nat} {x3 z0 z1 : Int32} (hf : f < 3) (hq : q < 8) (h0 : vp_nar .boolean z0 = z0) (h3 : vp_nar .boolean x3 = x3) (h1 : z1 = nI (f * 8 + q))
    (h : J9 (nI (q + 1)) ki aa ab ac pa so ow eo sn st wt ql qr qb el er eb (upd (upd cs (f * 8 + q) z0) (24 + (f * 8 + q)) x3) di ce vx rt) : wX_chooseAll_68 post J2 J9 (nI f) (nI q) x3 z0 z1 xFL xNL xQL xN xFi xWc xNs xNp xBe xQc xEc xIn xIf xCt xLe xDp xCa xPc xRr xLn ki aa ab ac pa so ow eo sn st wt ql qr qb el er eb cs di ce vx rt := by
  unfold wX_chooseAll_68
  have e : ((3 : Int32) + nI f) * 8 + nI q = nI (24 + (f * 8 + q)) := by
    have e3 : (3 : Int32) + nI f = nI (3 + f) := nI_add 3 f
    rw [e3, za_m8, nI_add]
    exact congrArg nI (by omega)
  rw [h1, e, nI_clamp (show f * 8 + q < 2 ^ 31 by omega), nI_clamp (show 24 + (f * 8 + q) < 2 ^ 31 by omega), h0, h3]
  exact ⟨vp_in_nI (by omega) (by decide), nm_e ⟨vp_in_nI (by omega) (by decide), nm_e (nm_r (nI_1 q) h)⟩⟩
theorem zx_ca28 {post : SX → Prop} {J2 J9 : Int32 → (Nat → Int32) → (Nat → Int32) → (Nat → Int32) → (Nat → Int32) → (Nat → Int32) → (Nat → Int32) → (Nat → Int32) → (Nat → Int32) → (Nat → Int32) → (Nat → Int32) → (Nat → Int32) → (Nat → Int32) → (Nat → Int32) → (Nat → Int32) → (Nat → Int32) → (Nat → Int32) → (Nat → Int32) → (Nat → Int32) → (Nat → Int32) → (Nat → Int32) → (Nat → Int32) → (Nat → Int32) → Prop} {f q Q : Nat} (hf : f < 3) (hq : q < 8)
    (h : J9 (nI (q + 1)) ki aa ab ac pa so ow eo sn st wt ql qr qb el er eb (upd (upd cs (f * 8 + q) (zi_p0 ql qr Q q)) (24 + (f * 8 + q)) (zi_q0 Q q)) di ce vx rt) : wX_chooseAll_28 post J2 J9 (nI f) (nI q) (zi_q0 Q q) xFL xNL xQL xN xFi xWc xNs xNp xBe xQc xEc xIn xIf xCt xLe xDp xCa xPc xRr xLn ki aa ab ac pa so ow eo sn st wt ql qr qb el er eb cs di ce vx rt := by
  unfold wX_chooseAll_28 wX_chooseAll_67
  have e : nI f * 8 + nI q = nI (f * 8 + q) := by rw [za_m8, nI_add]
  have i8 : vp_in (nI q) 8 := vp_in_nI hq (by decide)
  have fin : ∀ z0, zi_p0 ql qr Q q = z0 → wX_chooseAll_68 post J2 J9 (nI f) (nI q) (zi_q0 Q q) z0 (nI f * 8 + nI q) xFL xNL xQL xN xFi xWc xNs xNp xBe xQc xEc xIn xIf xCt xLe xDp xCa xPc xRr xLn ki aa ab ac pa so ow eo sn st wt ql qr qb el er eb cs di ce vx rt := fun z0 ez => by
    rw [ez] at h
    exact zx_ca68 hf hq (by rw [← ez]; exact zi_p0n Q q) (zi_q0n Q q) e h
  rw [nI_clamp (show q < 2 ^ 31 by omega)]
  by_cases c : q < Q
  · have eq : zi_q0 Q q = 1 := if_pos c
    refine br_f (by rw [eq]; exact za_n10) ⟨i8, br_c (fun c1 => fin 0 ?_) (fun c1 => ⟨i8, br_c (fun c2 => fin 0 ?_) (fun c2 => fin 1 ?_)⟩)⟩
    · exact if_neg (fun z => z.2.1 c1)
    · exact if_neg (fun z => z.2.2 c2)
    · exact if_pos ⟨c, c1, c2⟩
  · have eq : zi_q0 Q q = 0 := if_neg c
    exact br_t eq (fin 0 (if_neg (fun z => c z.1)))
/-- the candidates below t are as at the beginning -/
def zi_I (ql qr : Nat → Int32) (Q t : Nat) (cs : Nat → Int32) : Prop := ∀ i, i < t → cs i = zi_p0 ql qr Q (i % 8) ∧ cs (24 + i) = zi_q0 Q (i % 8)
theorem zi_I_s {Q t q : Nat} (ht : t < 24) (hq : t % 8 = q) (h : zi_I ql qr Q t cs) : zi_I ql qr Q (t + 1) (upd (upd cs t (zi_p0 ql qr Q q)) (24 + t) (zi_q0 Q q)) := by
  intro i hi
  by_cases e : i = t
  · subst e
    rw [pk_un (by omega), pk_us, pk_us, hq]
    exact ⟨rfl, rfl⟩
  · rw [pk_un (by omega), pk_un e, pk_un (by omega), pk_un (by omega)]
    exact h i (by omega)
theorem zx_ca9 {post : SX → Prop} {J2 : Int32 → (Nat → Int32) → (Nat → Int32) → (Nat → Int32) → (Nat → Int32) → (Nat → Int32) → (Nat → Int32) → (Nat → Int32) → (Nat → Int32) → (Nat → Int32) → (Nat → Int32) → (Nat → Int32) → (Nat → Int32) → (Nat → Int32) → (Nat → Int32) → (Nat → Int32) → (Nat → Int32) → (Nat → Int32) → (Nat → Int32) → (Nat → Int32) → (Nat → Int32) → (Nat → Int32) → (Nat → Int32) → Prop} {f Q : Nat} (hf : f < 3) (hQ : Q ≤ 8) (h : ∀ cs, zi_I ql qr Q (f * 8 + 8) cs → J2 (nI (f + 1)) ki aa ab ac pa so ow eo sn st wt ql qr qb el er eb cs di ce vx rt) : ∀ (d q n : Nat) (cs : Nat → Int32), q + d = 8 → d < n → zi_I ql qr Q (f * 8 + q) cs →
    wX_chooseAll_9 post J2 (nI f) xFL xNL xQL xN xFi xWc xNs xNp xBe (nI Q) xEc xIn xIf xCt xLe xDp xCa xPc xRr xLn n (nI q) ki aa ab ac pa so ow eo sn st wt ql qr qb el er eb cs di ce vx rt := by
  intro d
  induction d with
  | zero =>
    intro q n cs hq hn I
    obtain ⟨n, rfl⟩ : ∃ c, n = c + 1 := ⟨n - 1, by omega⟩
    have hq' : q = 8 := hq
    subst hq'
    rw [wX_chooseAll_9]
    exact pk_le 8 8 (fun _ => nm_r (nI_1 f) (h cs I)) (fun z => absurd z (Nat.lt_irrefl _))
  | succ d ih =>
    intro q n cs hq hn I
    obtain ⟨n, rfl⟩ : ∃ c, n = c + 1 := ⟨n - 1, by omega⟩
    have g : wX_chooseAll_28 post J2 (wX_chooseAll_9 post J2 (nI f) xFL xNL xQL xN xFi xWc xNs xNp xBe (nI Q) xEc xIn xIf xCt xLe xDp xCa xPc xRr xLn n) (nI f) (nI q) (zi_q0 Q q) xFL xNL xQL xN xFi xWc xNs xNp xBe (nI Q) xEc xIn xIf xCt xLe xDp xCa xPc xRr xLn ki aa ab ac pa so ow eo sn st wt ql qr qb el er eb cs di ce vx rt :=
      zx_ca28 hf (by omega) (ih (q + 1) n _ (by omega) (by omega) (zi_I_s (t := f * 8 + q) (q := q) (show f * 8 + q < 24 by omega) (show (f * 8 + q) % 8 = q by omega) I))
    rw [wX_chooseAll_9]
    refine pk_le 8 q (fun z => absurd z (by omega)) (fun _ => pk_le Q q (fun z => ?_) (fun z => ?_))
    · have eq : zi_q0 Q q = 0 := if_neg (by omega)
      rw [eq] at g; exact g
    · have eq : zi_q0 Q q = 1 := if_pos z
      rw [eq] at g; exact g
theorem zx_ca2 {post : SX → Prop} {Q : Nat} (hQ : Q ≤ 8) (h : ∀ cs, zi_I ql qr Q 24 cs → post (xFL, xNL, xQL, xN, xFi, xWc, xNs, xNp, xBe, nI Q, xEc, xIn, xIf, xCt, xLe, xDp, xCa, xPc, xRr, xLn, ki, aa, ab, ac, pa, so, ow, eo, sn, st, wt, ql, qr, qb, el, er, eb, cs, di, ce, vx, rt)) : ∀ (d f n : Nat) (cs : Nat → Int32), f + d = 3 → d < n → zi_I ql qr Q (f * 8) cs →
    wX_chooseAll_2 post xFL xNL xQL xN xFi xWc xNs xNp xBe (nI Q) xEc xIn xIf xCt xLe xDp xCa xPc xRr xLn n (nI f) ki aa ab ac pa so ow eo sn st wt ql qr qb el er eb cs di ce vx rt := by
  intro d
  induction d with
  | zero =>
    intro f n cs hf hn I
    obtain ⟨n, rfl⟩ : ∃ c, n = c + 1 := ⟨n - 1, by omega⟩
    have hf' : f = 3 := hf
    subst hf'
    rw [wX_chooseAll_2]
    exact pk_le 3 3 (fun _ => h cs I) (fun z => absurd z (Nat.lt_irrefl _))
  | succ d ih =>
    intro f n cs hf hn I
    obtain ⟨n, rfl⟩ : ∃ c, n = c + 1 := ⟨n - 1, by omega⟩
    rw [wX_chooseAll_2]
    refine pk_le 3 f (fun z => absurd z (by omega)) (fun _ => ⟨9, zx_ca9 (by omega) hQ (fun cs I' => ih (f + 1) n cs (by omega) (by omega) ?_) 8 0 9 cs (by omega) (by omega) I⟩)
    have e : (f + 1) * 8 = f * 8 + 8 := by omega
    rw [e]; exact I'
theorem zx_ca {post : SX → Prop} {Q : Nat} (hQ : Q ≤ 8) (h : ∀ cs, zi_I ql qr Q 24 cs → post (xFL, xNL, xQL, xN, xFi, xWc, xNs, xNp, xBe, nI Q, xEc, xIn, xIf, xCt, xLe, xDp, xCa, xPc, xRr, xLn, ki, aa, ab, ac, pa, so, ow, eo, sn, st, wt, ql, qr, qb, el, er, eb, cs, di, ce, vx, rt)) : wpX_chooseAll post (xFL, xNL, xQL, xN, xFi, xWc, xNs, xNp, xBe, nI Q, xEc, xIn, xIf, xCt, xLe, xDp, xCa, xPc, xRr, xLn, ki, aa, ab, ac, pa, so, ow, eo, sn, st, wt, ql, qr, qb, el, er, eb, cs, di, ce, vx, rt) := by
  unfold wpX_chooseAll
  exact ⟨4, zx_ca2 hQ h 3 0 4 cs (by omega) (by omega) (fun i hi => by omega)⟩
/-- the entry's facts -/
def zi_SE (el er eb : Nat → Int32) (E : Nat) (g : Nat → Int) : Prop := zw_Z g 0 1 0 ∧ ∀ e, e < E → zw_Z g (el e) (er e) (eb e).toInt
theorem zi_SE_s {E : Nat} {g : Nat → Int} : (zi_SE el er eb E g ∧ zw_Z g (el E) (er E) (eb E).toInt) ↔ zi_SE el er eb (E + 1) g := by
  constructor
  · intro h
    refine ⟨h.1.1, fun e he => ?_⟩
    by_cases c : e = E
    · rw [c]; exact h.2
    · exact h.1.2 e (by omega)
  · intro h
    exact ⟨⟨h.1, fun e he => h.2 e (by omega)⟩, h.2 E (by omega)⟩
def zi_EV (el er eb : Nat → Int32) (E : Nat) : Prop := E ≤ 4 ∧ ∀ e, e < E → vp_in (el e) 4 ∧ vp_in (er e) 4 ∧ -1000 ≤ (eb e).toInt ∧ (eb e).toInt ≤ 1000
theorem zx_we6 {post : SX → Prop} {E Q : Nat} (hE : zi_EV el er eb E) (hQ : zw_QV ql qr qb Q)
    (h : ∀ di xCt, post (xFL, xNL, xQL, xN, xFi, xWc, xNs, xNp, xBe, nI Q, nI E, xIn, xIf, xCt, xLe, xDp, xCa, xPc, xRr, xLn, ki, aa, ab, ac, pa, so, ow, eo, sn, st, wt, ql, qr, qb, el, er, eb, zi_dr Q ((0 * 3 + 0) * 8) (fun q => zw_en ql qr qb (zi_SE el er eb E) q 2 3 0) cs, di, ce, vx, rt)) :
    ∀ (d e n : Nat) (di : Nat → Int32) (xCt : Int32), e + d = E → d < n → zf_tab (zx_d di) (zi_SE el er eb e) → wX_weakenEntry_6 post n (nI e) xFL xNL xQL xN xFi xWc xNs xNp xBe (nI Q) (nI E) xIn xIf xCt xLe xDp xCa xPc xRr xLn ki aa ab ac pa so ow eo sn st wt ql qr qb el er eb cs di ce vx rt := by
  intro d
  induction d with
  | zero =>
    intro e n di xCt he hn hS
    obtain ⟨n, rfl⟩ : ∃ c, n = c + 1 := ⟨n - 1, by omega⟩
    have he' : e = E := he
    subst he'
    have := hE.1
    rw [wX_weakenEntry_6]
    exact pk_le e e (fun _ => zx_closeFacts hS (fun di xCt hA => zx_weaken (s := 0) (f := 0) hA hQ (by omega) za_in2 za_in3 za_in0 (h di xCt))) (fun z => absurd z (Nat.lt_irrefl _))
  | succ d ih =>
    intro e n di xCt he hn hS
    obtain ⟨n, rfl⟩ : ∃ c, n = c + 1 := ⟨n - 1, by omega⟩
    have h4 := hE.1
    obtain ⟨e1, e2, e3, e4⟩ := hE.2 e (by omega)
    have i4 : vp_in (nI e) 4 := vp_in_nI (by omega) (by decide)
    have j1 : vp_in (el e) 10 := by rw [vp_in_iff] at e1 ⊢; omega
    have j2 : vp_in (er e) 10 := by rw [vp_in_iff] at e2 ⊢; omega
    rw [wX_weakenEntry_6]
    dsimp only
    rw [nI_clamp (show e < 2 ^ 31 by omega)]
    exact pk_le E e (fun z => absurd z (by omega)) (fun _ => ⟨i4, i4, i4, zx_addBound j1 j2 (by omega) hS (fun di hS' => nm_r (nI_1 e) (ih (e + 1) n di xCt (by omega) (by omega) (zf_tab_iff hS' (fun g => zi_SE_s))))⟩)
theorem zx_we {post : SX → Prop} {E Q : Nat} (hE : zi_EV el er eb E) (hQ : zw_QV ql qr qb Q)
    (h : ∀ di xCt, post (xFL, xNL, xQL, xN, xFi, xWc, xNs, xNp, xBe, nI Q, nI E, xIn, xIf, xCt, xLe, xDp, xCa, xPc, xRr, xLn, ki, aa, ab, ac, pa, so, ow, eo, sn, st, wt, ql, qr, qb, el, er, eb, zi_dr Q ((0 * 3 + 0) * 8) (fun q => zw_en ql qr qb (zi_SE el er eb E) q 2 3 0) cs, di, ce, vx, rt)) : wpX_weakenEntry post (xFL, xNL, xQL, xN, xFi, xWc, xNs, xNp, xBe, nI Q, nI E, xIn, xIf, xCt, xLe, xDp, xCa, xPc, xRr, xLn, ki, aa, ab, ac, pa, so, ow, eo, sn, st, wt, ql, qr, qb, el, er, eb, cs, di, ce, vx, rt) := by
  unfold wpX_weakenEntry
  exact zx_openFacts (fun di hS => ⟨E + 1, zx_we6 hE hQ h E 0 (E + 1) di 0 (by omega) (by omega) (zf_tab_iff hS (fun g => ⟨fun z => ⟨z, fun e he => absurd he (Nat.not_lt_zero e)⟩, fun z => z.1⟩))⟩)
/-- the first candidates, as the reference writes them over its arrays -/
def zi_pf (ql qr : Nat → Int32) (Q t : Nat) (pr : Nat → Int32) : Nat → Int32 := fun i => if i < t then zi_p0 ql qr Q (i % 8) else pr i
def zi_qf (Q t : Nat) (po : Nat → Int32) : Nat → Int32 := fun i => if i < t then zi_q0 Q (i % 8) else po i
theorem zi_I_cc {Q : Nat} {pr po : Nat → Int32} (hQ : Q ≤ 8) (h : zi_I ql qr Q 24 cs) : zr_cc Q ql qr cs (zi_pf ql qr Q 24 pr) (zi_qf Q 24 po) := by
  refine ⟨fun i hi => ?_, fun i hi => ?_, fun f q hf hq hp => ?_⟩
  · rw [(h i hi).1]; exact (if_pos hi).symm
  · rw [(h i hi).2]; exact (if_pos hi).symm
  · have e : zi_pf ql qr Q 24 pr (f * 8 + q) = zi_p0 ql qr Q q := by
      have e2 : (f * 8 + q) % 8 = q := by omega
      unfold zi_pf
      rw [if_pos (by omega), e2]
    rw [e] at hp
    unfold zi_p0 at hp
    by_cases c : q < Q ∧ ql q ≠ 4 ∧ qr q ≠ 4
    · exact c.2
    · rw [if_neg c] at hp; exact absurd rfl hp
/-- the candidates behind the entry -/
noncomputable def zi_cS (ql qr qb el er eb pr po : Nat → Int32) (Q E : Nat) : (Nat → Int32) × (Nat → Int32) :=
  (zi_dr Q 0 (fun q => zw_en ql qr qb (zi_SE el er eb E) q 2 3 0) (zi_pf ql qr Q 24 pr), zi_qf Q 24 po)
theorem zx_inf {post : Int32 → SX → Prop} {F NL N Q E : Nat} {pr po : Nat → Int32} {cE : (Nat → Int32) × (Nat → Int32)} (gt : zr_Gt F NL N ki aa ab ac pa so ow eo sn st wt) (hE : zi_EV el er eb E) (hQ : zw_QV ql qr qb Q) (hc : (zw_w ki N).2 = F)
    (hcE : zi_it ki aa ab ac ql qr qb Q N 50 True (zi_cS ql qr qb el er eb pr po Q E) = cE)
    (h : ∀ cs di xCt, zr_cc Q ql qr cs cE.1 cE.2 → post (za_b (∀ n, n < N → zr_sf ki aa ab ac ql qr qb cE.1 cE.2 Q n)) (nI F, xNL, xQL, nI N, nI (zw_w ki N).2, xWc, xNs, xNp, xBe, nI Q, nI E, 1, xIf, xCt, xLe, xDp, xCa, xPc, xRr, xLn, ki, aa, ab, ac, pa, so, ow, eo, sn, st, wt, ql, qr, qb, el, er, eb, cs, di, ce, vx, rt)) :
    wpX_infer post (nI F, xNL, xQL, nI N, nI (zw_w ki N).2, xWc, xNs, xNp, xBe, nI Q, nI E, xIn, xIf, xCt, xLe, xDp, xCa, xPc, xRr, xLn, ki, aa, ab, ac, pa, so, ow, eo, sn, st, wt, ql, qr, qb, el, er, eb, cs, di, ce, vx, rt) := by
  unfold wpX_infer
  refine zx_isCm (Nat.le_of_eq hc) gt.2.1 (fun z => absurd hc z) (fun _ => br_f za_n10 ?_)
  refine zx_ca hQ.1 (fun cs I => zx_we hE hQ (fun di xCt => ⟨51, ?_⟩))
  have cc := zi_cc_pre (f := 0) (P := fun q => zw_en ql qr qb (zi_SE el er eb E) q 2 3 0) hQ.1 (by omega) (zi_I_cc (pr := pr) (po := po) hQ.1 I)
  have i := zx_i21 (post := post) (cE := cE) (xIn := xIn) gt hQ (fun cs di xCt cc => zx_i42 gt hQ cc (fun di xCt => h cs di xCt cc)) 50 0 51 True (zi_cS ql qr qb el er eb pr po Q E) _ di xCt (by omega) (by omega) cc hcE
  rw [za_bt trivial] at i
  exact i
end
end
section
section
variable {yF yMN yMQ yN yQ yE yLe yLv yLn yIn yPl yBo yFa : Int32} {ki aa ab ac ql qr qb el er eb ce pr po pth sid fl fr fk gu av vy : Nat → Int32}
theorem zy_215c {post : Int32 → SY → Prop} {J90 J199 : Int32 → Int32 → Int32 → Int32 → Int32 → Int32 → Int32 → Int32 → Int32 → Int32 → Int32 → Int32 → Int32 → Int32 → Int32 → (Nat → Int32) → (Nat → Int32) → (Nat → Int32) → (Nat → Int32) → (Nat → Int32) → (Nat → Int32) → (Nat → Int32) → (Nat → Int32) → (Nat → Int32) → (Nat → Int32) → (Nat → Int32) → (Nat → Int32) → (Nat → Int32) → (Nat → Int32) → (Nat → Int32) → (Nat → Int32) → (Nat → Int32) → (Nat → Int32) → (Nat → Int32) → (Nat → Int32) → (Nat → Int32) → Prop} {x2 : Int32} {n0 a Q m : Nat} {C0 : Prop} {S : (Nat → Int) → Prop} (hn0 : n0 < 24) (k4 : ki n0 = 4) (ha : a < 3) (ea : aa n0 = nI a) (w2 : vp_in (ab n0) 10) (w3 : vp_in (ac n0) 10) (hQ : zw_QV ql qr qb Q) (hm : m < 256)
    (h : ∀ fl fr fk gu, J199 (za_b (C0 ∨ zi_ch Q (a * 8) (fun q => zw_en ql qr qb S q (ab n0) (ac n0) 0) pr)) (nI (n0 + 1)) yF yMN yMQ yN (nI Q) yE yLe yLv yLn yIn yPl yBo (nI m) ki aa ab ac ql qr qb el er eb ce (zi_dr Q (a * 8) (fun q => zw_en ql qr qb S q (ab n0) (ac n0) 0) pr) po pth sid fl fr fk gu av vy) :
    ∀ (d q n : Nat) (fl fr fk gu : Nat → Int32), q + d = Q → d < n → zb_fl m fl fr fk S →
    wY_infer_215 post J90 J199 x2 (nI n0) n (za_b (C0 ∨ zi_ch q (a * 8) (fun q => zw_en ql qr qb S q (ab n0) (ac n0) 0) pr)) (nI q) yF yMN yMQ yN (nI Q) yE yLe yLv yLn yIn yPl yBo (nI m) ki aa ab ac ql qr qb el er eb ce (zi_dr q (a * 8) (fun q => zw_en ql qr qb S q (ab n0) (ac n0) 0) pr) po pth sid fl fr fk gu av vy := by
  have q8 := hQ.1
  have i24 : vp_in (nI n0) 24 := vp_in_nI hn0 (by decide)
  have n7 : ¬ ki (nI n0).toNatClampNeg = 7 := by rw [nI_clamp (by omega), k4]; decide
  intro d
  induction d with
  | zero =>
    intro q n fl fr fk gu hq hn hS
    obtain ⟨n, rfl⟩ : ∃ c, n = c + 1 := ⟨n - 1, by omega⟩
    have hq' : q = Q := hq
    subst hq'
    rw [wY_infer_215]
    exact pk_le q q (fun _ => nm_r (nI_1 n0) (h fl fr fk gu)) (fun z => absurd z (Nat.lt_irrefl q))
  | succ d ih =>
    intro q n fl fr fk gu hq hn hS
    obtain ⟨n, rfl⟩ : ∃ c, n = c + 1 := ⟨n - 1, by omega⟩
    have i' := fun fl fr fk gu => ih (q + 1) n fl fr fk gu (by omega) (by omega)
    have j24 : vp_in (nI (a * 8 + q)) 24 := vp_in_nI (by omega) (by decide)
    rw [wY_infer_215]
    refine pk_le Q q (fun z => absurd z (by omega)) (fun _ => ⟨i24, nm_r (e' := nI (a * 8 + q)) (by rw [nI_clamp (by omega), ea, za_m8, nI_add]) (nm_e ⟨i24, br_t (by rw [nI_clamp (by omega)]; exact k4) ⟨j24, ?_⟩⟩)⟩)
    rw [nI_clamp (show a * 8 + q < 2 ^ 31 by omega), nI_clamp (show n0 < 2 ^ 31 by omega), zi_dr_at]
    rw [nI_clamp (show n0 < 2 ^ 31 by omega)] at n7
    refine br_c (fun e => ?_) (fun e => ⟨i24, i24, zy_holds hQ (by omega) hm hS w2 w3 za_in0 (fun fl fr fk gu hS => za_ble (fun e2 => ?_) (fun e2 => ⟨j24, ?_⟩))⟩)
    · have i := i' fl fr fk gu hS
      rw [zi_dr_z e, za_bb (or_congr Iff.rfl (zi_ch_n (Or.inl e)))] at i
      unfold wY_infer_302
      rw [nI_clamp (show n0 < 2 ^ 31 by omega)]
      exact ⟨i24, br_f n7 (nm_r (nI_1 q) i)⟩
    · have i := i' fl fr fk gu hS
      rw [zi_dr_p (P := fun q => zw_en ql qr qb S q (ab n0) (ac n0) 0) e2, za_bb (or_congr Iff.rfl (zi_ch_n (P := fun q => zw_en ql qr qb S q (ab n0) (ac n0) 0) (Or.inr e2)))] at i
      unfold wY_infer_302
      rw [nI_clamp (show n0 < 2 ^ 31 by omega)]
      exact ⟨i24, br_f n7 (nm_r (nI_1 q) i)⟩
    · have i := i' fl fr fk gu hS
      rw [zi_dr_n (P := fun q => zw_en ql qr qb S q (ab n0) (ac n0) 0) e2, za_bt (Or.inr (zi_ch_y (P := fun q => zw_en ql qr qb S q (ab n0) (ac n0) 0) e e2))] at i
      rw [za_vb0]
      refine nm_e ?_
      unfold wY_infer_302
      rw [nI_clamp (show n0 < 2 ^ 31 by omega)]
      exact ⟨i24, br_f n7 (nm_r (nI_1 q) i)⟩
theorem zy_215r {post : Int32 → SY → Prop} {J90 J199 : Int32 → Int32 → Int32 → Int32 → Int32 → Int32 → Int32 → Int32 → Int32 → Int32 → Int32 → Int32 → Int32 → Int32 → Int32 → (Nat → Int32) → (Nat → Int32) → (Nat → Int32) → (Nat → Int32) → (Nat → Int32) → (Nat → Int32) → (Nat → Int32) → (Nat → Int32) → (Nat → Int32) → (Nat → Int32) → (Nat → Int32) → (Nat → Int32) → (Nat → Int32) → (Nat → Int32) → (Nat → Int32) → (Nat → Int32) → (Nat → Int32) → (Nat → Int32) → (Nat → Int32) → (Nat → Int32) → (Nat → Int32) → Prop} {x2 : Int32} {n0 b Q m : Nat} {C0 : Prop} {S : (Nat → Int) → Prop} (hn0 : n0 < 24) (k7 : ki n0 = 7) (hb : b < 3) (w1 : vp_in (aa n0) 10) (hQ : zw_QV ql qr qb Q) (hm : m < 256)
    (h : ∀ fl fr fk gu, J199 (za_b (C0 ∨ zi_ch Q (b * 8) (fun q => zw_en ql qr qb S q 2 3 (aa n0)) po)) (nI (n0 + 1)) yF yMN yMQ yN (nI Q) yE yLe yLv yLn yIn yPl (nI b) (nI m) ki aa ab ac ql qr qb el er eb ce pr (zi_dr Q (b * 8) (fun q => zw_en ql qr qb S q 2 3 (aa n0)) po) pth sid fl fr fk gu av vy) :
    ∀ (d q n : Nat) (fl fr fk gu : Nat → Int32), q + d = Q → d < n → zb_fl m fl fr fk S →
    wY_infer_215 post J90 J199 x2 (nI n0) n (za_b (C0 ∨ zi_ch q (b * 8) (fun q => zw_en ql qr qb S q 2 3 (aa n0)) po)) (nI q) yF yMN yMQ yN (nI Q) yE yLe yLv yLn yIn yPl (nI b) (nI m) ki aa ab ac ql qr qb el er eb ce pr (zi_dr q (b * 8) (fun q => zw_en ql qr qb S q 2 3 (aa n0)) po) pth sid fl fr fk gu av vy := by
  have q8 := hQ.1
  have i24 : vp_in (nI n0) 24 := vp_in_nI hn0 (by decide)
  have ek : ki (nI n0).toNatClampNeg = 7 := by rw [nI_clamp (by omega)]; exact k7
  intro d
  induction d with
  | zero =>
    intro q n fl fr fk gu hq hn hS
    obtain ⟨n, rfl⟩ : ∃ c, n = c + 1 := ⟨n - 1, by omega⟩
    have hq' : q = Q := hq
    subst hq'
    rw [wY_infer_215]
    exact pk_le q q (fun _ => nm_r (nI_1 n0) (h fl fr fk gu)) (fun z => absurd z (Nat.lt_irrefl q))
  | succ d ih =>
    intro q n fl fr fk gu hq hn hS
    obtain ⟨n, rfl⟩ : ∃ c, n = c + 1 := ⟨n - 1, by omega⟩
    have i' := fun fl fr fk gu => ih (q + 1) n fl fr fk gu (by omega) (by omega)
    have j24 : vp_in (nI (b * 8 + q)) 24 := vp_in_nI (by omega) (by decide)
    rw [wY_infer_215]
    refine pk_le Q q (fun z => absurd z (by omega)) (fun _ => ⟨i24, nm_e (nm_r (e' := nI (b * 8 + q)) (by rw [za_m8, nI_add]) ⟨i24, br_f (by rw [ek]; decide) ?_⟩)⟩)
    unfold wY_infer_302
    rw [nI_clamp (show b * 8 + q < 2 ^ 31 by omega), nI_clamp (show n0 < 2 ^ 31 by omega), zi_dr_at]
    refine ⟨i24, br_t k7 ⟨j24, br_c (fun e => ?_) (fun e => ⟨i24, zy_holds hQ (by omega) hm hS za_in2 za_in3 w1 (fun fl fr fk gu hS => za_ble (fun e2 => ?_) (fun e2 => ⟨j24, ?_⟩))⟩)⟩⟩
    · have i := i' fl fr fk gu hS
      rw [zi_dr_z e, za_bb (or_congr Iff.rfl (zi_ch_n (Or.inl e)))] at i
      exact nm_r (nI_1 q) i
    · have i := i' fl fr fk gu hS
      rw [zi_dr_p (P := fun q => zw_en ql qr qb S q 2 3 (aa n0)) e2, za_bb (or_congr Iff.rfl (zi_ch_n (P := fun q => zw_en ql qr qb S q 2 3 (aa n0)) (Or.inr e2)))] at i
      exact nm_r (nI_1 q) i
    · have i := i' fl fr fk gu hS
      rw [zi_dr_n (P := fun q => zw_en ql qr qb S q 2 3 (aa n0)) e2, za_bt (Or.inr (zi_ch_y (P := fun q => zw_en ql qr qb S q 2 3 (aa n0)) e e2))] at i
      rw [za_vb0]
      exact nm_e (nm_r (nI_1 q) i)
theorem zy_215n {post : Int32 → SY → Prop} {J90 J199 : Int32 → Int32 → Int32 → Int32 → Int32 → Int32 → Int32 → Int32 → Int32 → Int32 → Int32 → Int32 → Int32 → Int32 → Int32 → (Nat → Int32) → (Nat → Int32) → (Nat → Int32) → (Nat → Int32) → (Nat → Int32) → (Nat → Int32) → (Nat → Int32) → (Nat → Int32) → (Nat → Int32) → (Nat → Int32) → (Nat → Int32) → (Nat → Int32) → (Nat → Int32) → (Nat → Int32) → (Nat → Int32) → (Nat → Int32) → (Nat → Int32) → (Nat → Int32) → (Nat → Int32) → (Nat → Int32) → (Nat → Int32) → Prop} {x1 x2 : Int32} {n0 Q : Nat} (hn0 : n0 < 24) (k4 : ¬ ki n0 = 4) (k7 : ¬ ki n0 = 7) (hQ : Q ≤ 8)
    (h : J199 x1 (nI (n0 + 1)) yF yMN yMQ yN (nI Q) yE yLe yLv yLn yIn yPl yBo yFa ki aa ab ac ql qr qb el er eb ce pr po pth sid fl fr fk gu av vy) :
    ∀ (d q n : Nat), q + d = Q → d < n → wY_infer_215 post J90 J199 x2 (nI n0) n x1 (nI q) yF yMN yMQ yN (nI Q) yE yLe yLv yLn yIn yPl yBo yFa ki aa ab ac ql qr qb el er eb ce pr po pth sid fl fr fk gu av vy := by
  have i24 : vp_in (nI n0) 24 := vp_in_nI hn0 (by decide)
  intro d
  induction d with
  | zero =>
    intro q n hq hn
    obtain ⟨n, rfl⟩ : ∃ c, n = c + 1 := ⟨n - 1, by omega⟩
    have hq' : q = Q := hq
    subst hq'
    rw [wY_infer_215]
    exact pk_le q q (fun _ => nm_r (nI_1 n0) h) (fun z => absurd z (Nat.lt_irrefl q))
  | succ d ih =>
    intro q n hq hn
    obtain ⟨n, rfl⟩ : ∃ c, n = c + 1 := ⟨n - 1, by omega⟩
    rw [wY_infer_215]
    refine pk_le Q q (fun z => absurd z (by omega)) (fun _ => ⟨i24, nm_e (nm_e ⟨i24, br_f (by rw [nI_clamp (by omega)]; exact k4) ?_⟩)⟩)
    unfold wY_infer_302
    exact ⟨i24, br_f (by rw [nI_clamp (by omega)]; exact k7) (nm_r (nI_1 q) (ih (q + 1) n (by omega) (by omega)))⟩
end
section
variable {xFL xNL xQL xN xFi xWc xNs xNp xBe xQc xEc xIn xIf xCt xLe xDp xCa xPc xRr xLn yF yMN yMQ yN yQ yE yLe yLv yLn yIn yPl yBo yFa : Int32} {ki aa ab ac pa so ow eo sn st wt ql qr qb el er eb cs di ce vx rt pr po pth sid fl fr fk gu av vy : Nat → Int32}
theorem zy_199 {post : Int32 → SY → Prop} {J90 : Int32 → Int32 → Int32 → Int32 → Int32 → Int32 → Int32 → Int32 → Int32 → Int32 → Int32 → Int32 → Int32 → Int32 → Int32 → (Nat → Int32) → (Nat → Int32) → (Nat → Int32) → (Nat → Int32) → (Nat → Int32) → (Nat → Int32) → (Nat → Int32) → (Nat → Int32) → (Nat → Int32) → (Nat → Int32) → (Nat → Int32) → (Nat → Int32) → (Nat → Int32) → (Nat → Int32) → (Nat → Int32) → (Nat → Int32) → (Nat → Int32) → (Nat → Int32) → (Nat → Int32) → (Nat → Int32) → (Nat → Int32) → Prop} {F NL N Q r : Nat} {C0 : Prop} {c : (Nat → Int32) × (Nat → Int32)} (gt : zr_Gt F NL N ki aa ab ac pa so ow eo sn st wt) (hQ : zw_QV ql qr qb Q)
    (h : ∀ yPl yBo yFa pth sid fl fr fk gu, J90 (za_b (C0 ∨ zi_fc ki aa ab ac ql qr qb Q c N)) (nI (r + 1)) yF yMN yMQ (nI N) (nI Q) yE yLe yLv yLn yIn yPl yBo yFa ki aa ab ac ql qr qb el er eb ce ((zi_fo ki aa ab ac ql qr qb Q c N).1) ((zi_fo ki aa ab ac ql qr qb Q c N).2) pth sid fl fr fk gu av vy) :
    ∀ (d k n : Nat) (yPl yBo yFa : Int32) (pth sid fl fr fk gu : Nat → Int32), k + d = N → d < n →
    wY_infer_199 post J90 (nI r) n (za_b (C0 ∨ zi_fc ki aa ab ac ql qr qb Q c k)) (nI k) yF yMN yMQ (nI N) (nI Q) yE yLe yLv yLn yIn yPl yBo yFa ki aa ab ac ql qr qb el er eb ce ((zi_fo ki aa ab ac ql qr qb Q c k).1) ((zi_fo ki aa ab ac ql qr qb Q c k).2) pth sid fl fr fk gu av vy := by
  have hN := zr_nb gt
  have hF := gt.2.1
  intro d
  induction d with
  | zero =>
    intro k n yPl yBo yFa pth sid fl fr fk gu hk hn
    obtain ⟨n, rfl⟩ : ∃ c, n = c + 1 := ⟨n - 1, by omega⟩
    have hk' : k = N := hk
    subst hk'
    rw [wY_infer_199]
    exact pk_le k k (fun _ => nm_r (nI_1 r) (h yPl yBo yFa pth sid fl fr fk gu)) (fun z => absurd z (Nat.lt_irrefl k))
  | succ d ih =>
    intro k n yPl yBo yFa pth sid fl fr fk gu hk hn
    obtain ⟨n, rfl⟩ : ∃ c, n = c + 1 := ⟨n - 1, by omega⟩
    have hkN : k < N := by omega
    have hb := gt.2.2.2.2.2.2.2.1 k hkN
    obtain ⟨v0, v1, v2, v3, v4, v5, v6⟩ := gt.2.2.2.2.2.1 k hkN
    rw [wY_infer_199]
    refine pk_le N k (fun z => absurd z (by omega)) (fun _ => zy_fa gt hQ hkN (fun m fl fr fk pth sid hm hS => ⟨Q + 1, ?_⟩))
    have i' := fun yPl yBo yFa fl fr fk gu => ih (k + 1) n yPl yBo yFa pth sid fl fr fk gu (by omega) (by omega)
    by_cases k4 : ki k = 4
    · obtain ⟨w1, w2, w3⟩ := v4 k4
      obtain ⟨a, ha, ea⟩ := vp_in_of w1 (by omega)
      have i := zy_215c (post := post) (J90 := J90) (J199 := wY_infer_199 post J90 (nI r) n) (x2 := nI r) (C0 := C0 ∨ zi_fc ki aa ab ac ql qr qb Q c k) (S := zw_S ki aa ab ac ql qr qb (zi_fo ki aa ab ac ql qr qb Q c k).1 (zi_fo ki aa ab ac ql qr qb Q c k).2 Q k) (m := m) (by omega) k4 (by omega) ea w2 w3 hQ (by omega) (fun fl fr fk gu => by
        have i := i' (nI (zw_w ki k).1.length) (nI (zw_w ki k).2) (nI m) fl fr fk gu
        rw [za_bb (or_congr Iff.rfl zi_fc_s), za_bb (or_assoc.symm), za_bb (or_congr Iff.rfl (zi_sc4 k4)), zi_fo, zi_st4 k4, ea, nI_clamp (by omega)] at i
        exact i) Q 0 (Q + 1) fl fr fk gu (by omega) (by omega) hS
      rw [zi_dr_0, za_bb (P := _ ∨ zi_ch 0 _ _ _) (Q := C0 ∨ zi_fc ki aa ab ac ql qr qb Q c k) ⟨fun z => z.resolve_right zi_ch_0, Or.inl⟩] at i
      exact i
    · by_cases k7 : ki k = 7
      · have i := zy_215r (post := post) (J90 := J90) (J199 := wY_infer_199 post J90 (nI r) n) (x2 := nI r) (b := (zw_w ki k).2) (C0 := C0 ∨ zi_fc ki aa ab ac ql qr qb Q c k) (S := zw_S ki aa ab ac ql qr qb (zi_fo ki aa ab ac ql qr qb Q c k).1 (zi_fo ki aa ab ac ql qr qb Q c k).2 Q k) (m := m) (by omega) k7 (by omega) v1 hQ (by omega) (fun fl fr fk gu => by
          have i := i' (nI (zw_w ki k).1.length) (nI (zw_w ki k).2) (nI m) fl fr fk gu
          rw [za_bb (or_congr Iff.rfl zi_fc_s), za_bb (or_assoc.symm), za_bb (or_congr Iff.rfl (zi_sc7 k7)), zi_fo, zi_st7 k7] at i
          exact i) Q 0 (Q + 1) fl fr fk gu (by omega) (by omega) hS
        rw [zi_dr_0, za_bb (P := _ ∨ zi_ch 0 _ _ _) (Q := C0 ∨ zi_fc ki aa ab ac ql qr qb Q c k) ⟨fun z => z.resolve_right zi_ch_0, Or.inl⟩] at i
        exact i
      · refine zy_215n (by omega) k4 k7 hQ.1 ?_ Q 0 (Q + 1) (by omega) (by omega)
        have i := i' (nI (zw_w ki k).1.length) (nI (zw_w ki k).2) (nI m) fl fr fk gu
        rw [za_bb (or_congr Iff.rfl zi_fc_s), za_bb (or_assoc.symm), zi_fo, zi_stn k4 k7, za_bb (P := _ ∨ zi_sc ki aa ab ac ql qr qb Q k _) (Q := C0 ∨ zi_fc ki aa ab ac ql qr qb Q c k) ⟨fun z => z.resolve_right (zi_scn k4 k7), Or.inl⟩] at i
        exact i
theorem zy_154 {post : Int32 → SY → Prop} {J90 : Int32 → Int32 → Int32 → Int32 → Int32 → Int32 → Int32 → Int32 → Int32 → Int32 → Int32 → Int32 → Int32 → Int32 → Int32 → (Nat → Int32) → (Nat → Int32) → (Nat → Int32) → (Nat → Int32) → (Nat → Int32) → (Nat → Int32) → (Nat → Int32) → (Nat → Int32) → (Nat → Int32) → (Nat → Int32) → (Nat → Int32) → (Nat → Int32) → (Nat → Int32) → (Nat → Int32) → (Nat → Int32) → (Nat → Int32) → (Nat → Int32) → (Nat → Int32) → (Nat → Int32) → (Nat → Int32) → (Nat → Int32) → Prop} {x2 : Int32} {Q m : Nat} {S : (Nat → Int) → Prop} (hQ : zw_QV ql qr qb Q) (hm : m < 256)
    (h : ∀ fl fr fk gu, ∃ n, wY_infer_199 post J90 x2 n (za_b (zi_ch Q 0 (fun q => zw_en ql qr qb S q 2 3 0) pr)) 0 yF yMN yMQ yN (nI Q) yE yLe yLv yLn yIn yPl yBo (nI m) ki aa ab ac ql qr qb el er eb ce (zi_dr Q 0 (fun q => zw_en ql qr qb S q 2 3 0) pr) po pth sid fl fr fk gu av vy) :
    ∀ (d q n : Nat) (fl fr fk gu : Nat → Int32), q + d = Q → d < n → zb_fl m fl fr fk S →
    wY_infer_154 post J90 x2 n (za_b (zi_ch q 0 (fun q => zw_en ql qr qb S q 2 3 0) pr)) (nI q) yF yMN yMQ yN (nI Q) yE yLe yLv yLn yIn yPl yBo (nI m) ki aa ab ac ql qr qb el er eb ce (zi_dr q 0 (fun q => zw_en ql qr qb S q 2 3 0) pr) po pth sid fl fr fk gu av vy := by
  have q8 := hQ.1
  intro d
  induction d with
  | zero =>
    intro q n fl fr fk gu hq hn hS
    obtain ⟨n, rfl⟩ : ∃ c, n = c + 1 := ⟨n - 1, by omega⟩
    have hq' : q = Q := hq
    subst hq'
    rw [wY_infer_154]
    exact pk_le q q (fun _ => h fl fr fk gu) (fun z => absurd z (Nat.lt_irrefl q))
  | succ d ih =>
    intro q n fl fr fk gu hq hn hS
    obtain ⟨n, rfl⟩ : ∃ c, n = c + 1 := ⟨n - 1, by omega⟩
    have i' := fun fl fr fk gu => ih (q + 1) n fl fr fk gu (by omega) (by omega)
    have j24 : vp_in (nI q) 24 := vp_in_nI (by omega) (by decide)
    have ez : 0 + q = q := Nat.zero_add q
    have eat : zi_dr q 0 (fun q => zw_en ql qr qb S q 2 3 0) pr q = pr q := by
      have := zi_dr_at (q := q) (base := 0) (P := fun q => zw_en ql qr qb S q 2 3 0) (f := pr)
      rw [ez] at this
      exact this
    rw [wY_infer_154]
    dsimp only
    rw [nI_clamp (show q < 2 ^ 31 by omega), eat]
    refine pk_le Q q (fun z => absurd z (by omega)) (fun _ => ⟨j24, br_c (fun e => ?_) (fun e => zy_holds hQ (by omega) hm hS za_in2 za_in3 za_in0 (fun fl fr fk gu hS => za_ble (fun e2 => ?_) (fun e2 => ⟨j24, ?_⟩)))⟩)
    · have i := i' fl fr fk gu hS
      rw [zi_dr_z (by rw [ez]; exact e), za_bb (zi_ch_n (Or.inl (by rw [ez]; exact e)))] at i
      exact nm_r (nI_1 q) i
    · have i := i' fl fr fk gu hS
      rw [zi_dr_p (P := fun q => zw_en ql qr qb S q 2 3 0) e2, za_bb (zi_ch_n (P := fun q => zw_en ql qr qb S q 2 3 0) (Or.inr e2))] at i
      exact nm_r (nI_1 q) i
    · have i := i' fl fr fk gu hS
      rw [zi_dr_n (P := fun q => zw_en ql qr qb S q 2 3 0) e2, za_bt (zi_ch_y (P := fun q => zw_en ql qr qb S q 2 3 0) (by rw [ez]; exact e) e2), ez] at i
      rw [za_vb0]
      exact nm_e (nm_r (nI_1 q) i)
theorem zy_116 {post : Int32 → SY → Prop} {J90 : Int32 → Int32 → Int32 → Int32 → Int32 → Int32 → Int32 → Int32 → Int32 → Int32 → Int32 → Int32 → Int32 → Int32 → Int32 → (Nat → Int32) → (Nat → Int32) → (Nat → Int32) → (Nat → Int32) → (Nat → Int32) → (Nat → Int32) → (Nat → Int32) → (Nat → Int32) → (Nat → Int32) → (Nat → Int32) → (Nat → Int32) → (Nat → Int32) → (Nat → Int32) → (Nat → Int32) → (Nat → Int32) → (Nat → Int32) → (Nat → Int32) → (Nat → Int32) → (Nat → Int32) → (Nat → Int32) → (Nat → Int32) → Prop} {x1 x2 : Int32} {E : Nat} (hE : zi_EV el er eb E)
    (h : ∀ m fl fr fk, m ≤ 5 → zb_fl m fl fr fk (zi_SE el er eb E) → ∃ n, wY_infer_154 post J90 x2 n x1 0 yF yMN yMQ yN yQ (nI E) yLe yLv yLn yIn yPl yBo (nI m) ki aa ab ac ql qr qb el er eb ce pr po pth sid fl fr fk gu av vy) :
    ∀ (d e n m : Nat) (fl fr fk : Nat → Int32), e + d = E → d < n → m = 1 + e → zb_fl m fl fr fk (zi_SE el er eb e) → wY_infer_116 post J90 x1 x2 n (nI e) yF yMN yMQ yN yQ (nI E) yLe yLv yLn yIn yPl yBo (nI m) ki aa ab ac ql qr qb el er eb ce pr po pth sid fl fr fk gu av vy := by
  have h4 := hE.1
  intro d
  induction d with
  | zero =>
    intro e n m fl fr fk he hn hm hS
    obtain ⟨n, rfl⟩ : ∃ c, n = c + 1 := ⟨n - 1, by omega⟩
    have he' : e = E := he
    subst he'
    rw [wY_infer_116]
    exact pk_le e e (fun _ => h m fl fr fk (by omega) hS) (fun z => absurd z (Nat.lt_irrefl e))
  | succ d ih =>
    intro e n m fl fr fk he hn hm hS
    obtain ⟨n, rfl⟩ : ∃ c, n = c + 1 := ⟨n - 1, by omega⟩
    obtain ⟨e1, e2, e3, e4⟩ := hE.2 e (by omega)
    have i4 : vp_in (nI e) 4 := vp_in_nI (by omega) (by decide)
    have j1 : vp_in (el e) 10 := by rw [vp_in_iff] at e1 ⊢; omega
    have j2 : vp_in (er e) 10 := by rw [vp_in_iff] at e2 ⊢; omega
    rw [wY_infer_116]
    dsimp only
    rw [nI_clamp (show e < 2 ^ 31 by omega)]
    exact pk_le E e (fun z => absurd z (by omega)) (fun _ => ⟨i4, i4, i4, zy_add (by omega) (nm_r (nI_1 e) (ih (e + 1) n (m + 1) _ _ _ (by omega) (by omega) (by omega) (zb_fl_iff (zb_fl_add hS j1 j2 (by omega)) (fun g => zi_SE_s))))⟩)
/-- the reference's passes: the entry is weakened in each -/
noncomputable def zi_ey (ql qr qb el er eb : Nat → Int32) (Q E : Nat) (c : (Nat → Int32) × (Nat → Int32)) : (Nat → Int32) × (Nat → Int32) := (zi_dr Q 0 (fun q => zw_en ql qr qb (zi_SE el er eb E) q 2 3 0) c.1, c.2)
def zi_ec (ql qr qb el er eb : Nat → Int32) (Q E : Nat) (c : (Nat → Int32) × (Nat → Int32)) : Prop := zi_ch Q 0 (fun q => zw_en ql qr qb (zi_SE el er eb E) q 2 3 0) c.1
noncomputable def zi_iy (ki aa ab ac ql qr qb el er eb : Nat → Int32) (Q E N : Nat) : Nat → Prop → (Nat → Int32) × (Nat → Int32) → (Nat → Int32) × (Nat → Int32)
  | 0, _, c => c
  | k + 1, b, c => @ite _ b (Classical.propDecidable b) (zi_iy ki aa ab ac ql qr qb el er eb Q E N k (zi_ec ql qr qb el er eb Q E c ∨ zi_fc ki aa ab ac ql qr qb Q (zi_ey ql qr qb el er eb Q E c) N) (zi_fo ki aa ab ac ql qr qb Q (zi_ey ql qr qb el er eb Q E c) N)) c
theorem zi_iy_t {Q E N k : Nat} {b : Prop} {c : (Nat → Int32) × (Nat → Int32)} (h : b) : zi_iy ki aa ab ac ql qr qb el er eb Q E N (k + 1) b c = zi_iy ki aa ab ac ql qr qb el er eb Q E N k (zi_ec ql qr qb el er eb Q E c ∨ zi_fc ki aa ab ac ql qr qb Q (zi_ey ql qr qb el er eb Q E c) N) (zi_fo ki aa ab ac ql qr qb Q (zi_ey ql qr qb el er eb Q E c) N) := by
  rw [zi_iy]; exact if_pos h
theorem zi_iy_f {Q E N k : Nat} {b : Prop} {c : (Nat → Int32) × (Nat → Int32)} (h : ¬ b) : zi_iy ki aa ab ac ql qr qb el er eb Q E N k b c = c := by
  cases k with
  | zero => rfl
  | succ k => rw [zi_iy]; exact if_neg h
/-- nothing changed: the candidates are the same -/
theorem zi_dr_same {Q base : Nat} {P : Nat → Prop} {f : Nat → Int32} (h : ¬ zi_ch Q base P f) : zi_dr Q base P f = f := by
  funext i
  by_cases c : base ≤ i ∧ i < base + Q ∧ ¬ P (i - base)
  · rw [zi_dr_y c]
    by_cases z : f i = 0
    · exact z.symm
    · refine absurd ⟨i - base, by omega, ?_, c.2.2⟩ h
      have e : base + (i - base) = i := by omega
      rw [e]; exact z
  · exact zi_dr_k c
theorem zi_st_same {Q n : Nat} {c : (Nat → Int32) × (Nat → Int32)} (h : ¬ zi_sc ki aa ab ac ql qr qb Q n c) : zi_st ki aa ab ac ql qr qb Q n c = c := by
  by_cases k4 : ki n = 4
  · rw [zi_sc4 k4] at h
    rw [zi_st4 k4, zi_dr_same h]
  · by_cases k7 : ki n = 7
    · rw [zi_sc7 k7] at h
      rw [zi_st7 k7, zi_dr_same h]
    · exact zi_stn k4 k7
theorem zi_fo_same {Q : Nat} {c : (Nat → Int32) × (Nat → Int32)} : ∀ k, ¬ zi_fc ki aa ab ac ql qr qb Q c k → zi_fo ki aa ab ac ql qr qb Q c k = c := by
  intro k
  induction k with
  | zero => intro _; rfl
  | succ k ih =>
    intro h
    rw [zi_fc_s] at h
    have i := ih (fun z => h (Or.inl z))
    rw [zi_fo, zi_st_same (fun z => h (Or.inr z)), i]
/-- the entry is settled -/
def zi_se (ql qr qb el er eb : Nat → Int32) (Q E : Nat) (f : Nat → Int32) : Prop := ∀ q, q < Q → ¬ zw_en ql qr qb (zi_SE el er eb E) q 2 3 0 → f q = 0
theorem zi_se_dr {Q E B base : Nat} {P : Nat → Prop} {f : Nat → Int32} (h : zi_se ql qr qb el er eb Q E f) : zi_se ql qr qb el er eb Q E (zi_dr B base P f) := by
  intro q hq hn
  by_cases z : zi_dr B base P f q = 0
  · exact z
  · exact absurd (h q hq hn) (zi_dr_ne z)
theorem zi_se_st {Q E n : Nat} {c : (Nat → Int32) × (Nat → Int32)} (h : zi_se ql qr qb el er eb Q E c.1) : zi_se ql qr qb el er eb Q E (zi_st ki aa ab ac ql qr qb Q n c).1 := by
  by_cases k4 : ki n = 4
  · rw [zi_st4 k4]
    exact zi_se_dr (B := Q) (base := (aa n).toNatClampNeg * 8) (P := fun q => zw_en ql qr qb (zw_S ki aa ab ac ql qr qb c.1 c.2 Q n) q (ab n) (ac n) 0) h
  · by_cases k7 : ki n = 7
    · rw [zi_st7 k7]; exact h
    · rw [zi_stn k4 k7]; exact h
theorem zi_se_fo {Q E : Nat} {c : (Nat → Int32) × (Nat → Int32)} (h : zi_se ql qr qb el er eb Q E c.1) : ∀ k, zi_se ql qr qb el er eb Q E (zi_fo ki aa ab ac ql qr qb Q c k).1 := by
  intro k
  induction k with
  | zero => exact h
  | succ k ih => rw [zi_fo]; exact zi_se_st ih
theorem zi_se_ey {Q E : Nat} {c : (Nat → Int32) × (Nat → Int32)} : zi_se ql qr qb el er eb Q E (zi_ey ql qr qb el er eb Q E c).1 := by
  intro q hq hn
  exact zi_dr_y (Q := Q) (base := 0) (P := fun q => zw_en ql qr qb (zi_SE el er eb E) q 2 3 0) (f := c.1) ⟨Nat.zero_le q, by omega, hn⟩
theorem zi_se_ec {Q E : Nat} {c : (Nat → Int32) × (Nat → Int32)} (h : zi_se ql qr qb el er eb Q E c.1) : ¬ zi_ec ql qr qb el er eb Q E c := by
  intro ⟨q, h1, h2, h3⟩
  have e : 0 + q = q := Nat.zero_add q
  rw [e] at h2
  exact h2 (h q h1 h3)
theorem zi_se_eq {Q E : Nat} {c : (Nat → Int32) × (Nat → Int32)} (h : zi_se ql qr qb el er eb Q E c.1) : zi_ey ql qr qb el er eb Q E c = c := by
  have := zi_se_ec h
  unfold zi_ec at this
  unfold zi_ey
  rw [zi_dr_same this]
/-- once the entry is settled both sides make the same passes -/
theorem zi_iy_it {Q E N : Nat} : ∀ (k : Nat) (b : Prop) (c : (Nat → Int32) × (Nat → Int32)), zi_se ql qr qb el er eb Q E c.1 → zi_iy ki aa ab ac ql qr qb el er eb Q E N k b c = zi_it ki aa ab ac ql qr qb Q N k b c := by
  intro k
  induction k with
  | zero => intro b c _; rfl
  | succ k ih =>
    intro b c h
    by_cases hb : b
    · rw [zi_iy_t hb, zi_it_t hb, zi_se_eq h, ih _ _ (zi_se_fo h N)]
      have e : (zi_ec ql qr qb el er eb Q E c ∨ zi_fc ki aa ab ac ql qr qb Q c N) = zi_fc ki aa ab ac ql qr qb Q c N := propext ⟨fun z => z.resolve_left (zi_se_ec h), Or.inr⟩
      rw [e]
    · rw [zi_iy_f hb, zi_it_f hb]
theorem zi_iy_eq {Q E N k : Nat} {c : (Nat → Int32) × (Nat → Int32)} : zi_iy ki aa ab ac ql qr qb el er eb Q E N (k + 2) True c = zi_it ki aa ab ac ql qr qb Q N (k + 2) True (zi_ey ql qr qb el er eb Q E c) := by
  have hs : zi_se ql qr qb el er eb Q E (zi_ey ql qr qb el er eb Q E c).1 := zi_se_ey
  rw [zi_iy_t trivial, zi_it_t trivial, zi_iy_it _ _ _ (zi_se_fo hs N)]
  generalize zi_ey ql qr qb el er eb Q E c = c1 at hs ⊢
  by_cases h1 : zi_fc ki aa ab ac ql qr qb Q c1 N
  · have e : (zi_ec ql qr qb el er eb Q E c ∨ zi_fc ki aa ab ac ql qr qb Q c1 N) = zi_fc ki aa ab ac ql qr qb Q c1 N := propext ⟨fun _ => h1, Or.inr⟩
    rw [e]
  · rw [zi_fo_same N h1, zi_it_f h1]
    by_cases h2 : zi_ec ql qr qb el er eb Q E c ∨ zi_fc ki aa ab ac ql qr qb Q c1 N
    · rw [zi_it_t h2, zi_it_f h1, zi_fo_same N h1]
    · rw [zi_it_f h2]
end
end
section
section
variable {xFL xNL xQL xN xFi xWc xNs xNp xBe xQc xEc xIn xIf xCt xLe xDp xCa xPc xRr xLn yF yMN yMQ yN yQ yE yLe yLv yLn yIn yPl yBo yFa : Int32} {ki aa ab ac pa so ow eo sn st wt ql qr qb el er eb cs di ce vx rt pr po pth sid fl fr fk gu av vy : Nat → Int32}
theorem zy_377 {post : Int32 → SY → Prop} {F NL N Q : Nat} (gt : zr_Gt F NL N ki aa ab ac pa so ow eo sn st wt) (hQ : zw_QV ql qr qb Q)
    (h : ∀ yPl yBo yFa pth sid fl fr fk gu, post (za_b (∀ n, n < N → zr_sf ki aa ab ac ql qr qb pr po Q n)) (yF, yMN, yMQ, nI N, nI Q, yE, yLe, yLv, yLn, 1, yPl, yBo, yFa, ki, aa, ab, ac, ql, qr, qb, el, er, eb, ce, pr, po, pth, sid, fl, fr, fk, gu, av, vy)) :
    ∀ (d k n : Nat) (yPl yBo yFa : Int32) (pth sid fl fr fk gu : Nat → Int32), k + d = N → d < n →
    wY_infer_377 post n (za_b (∀ n, n < k → zr_sf ki aa ab ac ql qr qb pr po Q n)) (nI k) yF yMN yMQ (nI N) (nI Q) yE yLe yLv yLn 1 yPl yBo yFa ki aa ab ac ql qr qb el er eb ce pr po pth sid fl fr fk gu av vy := by
  have hN := zr_nb gt
  intro d
  induction d with
  | zero =>
    intro k n yPl yBo yFa pth sid fl fr fk gu hk hn
    obtain ⟨n, rfl⟩ : ∃ c, n = c + 1 := ⟨n - 1, by omega⟩
    have hk' : k = N := hk
    subst hk'
    rw [wY_infer_377]
    exact pk_le k k (fun _ => h yPl yBo yFa pth sid fl fr fk gu) (fun z => absurd z (Nat.lt_irrefl k))
  | succ d ih =>
    intro k n yPl yBo yFa pth sid fl fr fk gu hk hn
    obtain ⟨n, rfl⟩ : ∃ c, n = c + 1 := ⟨n - 1, by omega⟩
    rw [wY_infer_377]
    refine pk_le N k (fun z => absurd z (by omega)) (fun _ => zy_safe gt hQ (by omega) (fun yPl yBo yFa pth sid fl fr fk gu => ?_))
    have i := ih (k + 1) n yPl yBo yFa pth sid fl fr fk gu (by omega) (by omega)
    by_cases e : zr_sf ki aa ab ac ql qr qb pr po Q k
    · refine br_t (za_bt e) (nm_r (nI_1 k) ?_)
      have ee : (∀ n, n < k + 1 → zr_sf ki aa ab ac ql qr qb pr po Q n) ↔ (∀ n, n < k → zr_sf ki aa ab ac ql qr qb pr po Q n) := by
        constructor
        · intro z m hm
          exact z m (by omega)
        · intro z m hm
          by_cases em : m = k
          · rw [em]; exact e
          · exact z m (by omega)
      rw [za_bb ee] at i
      exact i
    · refine br_f (by rw [za_bf e]; decide) (nm_r (nI_1 k) ?_)
      rw [za_bf (fun z => e (z k (by omega)))] at i
      exact i
theorem zy_90 {post : Int32 → SY → Prop} {F NL N Q E : Nat} {cE : (Nat → Int32) × (Nat → Int32)} (gt : zr_Gt F NL N ki aa ab ac pa so ow eo sn st wt) (hE : zi_EV el er eb E) (hQ : zw_QV ql qr qb Q)
    (h : ∀ yPl yBo yFa pth sid fl fr fk gu, post (za_b (∀ n, n < N → zr_sf ki aa ab ac ql qr qb cE.1 cE.2 Q n)) (yF, yMN, yMQ, nI N, nI Q, nI E, yLe, yLv, yLn, 1, yPl, yBo, yFa, ki, aa, ab, ac, ql, qr, qb, el, er, eb, ce, cE.1, cE.2, pth, sid, fl, fr, fk, gu, av, vy)) :
    ∀ (k r n : Nat) (b : Prop) (c : (Nat → Int32) × (Nat → Int32)) (yPl yBo yFa : Int32) (pth sid fl fr fk gu : Nat → Int32), r + k = 50 → k < n → zi_iy ki aa ab ac ql qr qb el er eb Q E N k b c = cE →
    wY_infer_90 post n (za_b b) (nI r) yF yMN yMQ (nI N) (nI Q) (nI E) yLe yLv yLn yIn yPl yBo yFa ki aa ab ac ql qr qb el er eb ce c.1 c.2 pth sid fl fr fk gu av vy := by
  have fin : ∀ (yPl yBo yFa : Int32) (pth sid fl fr fk gu : Nat → Int32), ∃ n, wY_infer_377 post n 1 0 yF yMN yMQ (nI N) (nI Q) (nI E) yLe yLv yLn 1 yPl yBo yFa ki aa ab ac ql qr qb el er eb ce cE.1 cE.2 pth sid fl fr fk gu av vy := fun yPl yBo yFa pth sid fl fr fk gu => by
    refine ⟨N + 1, ?_⟩
    have i := zy_377 gt hQ h N 0 (N + 1) yPl yBo yFa pth sid fl fr fk gu (by omega) (by omega)
    rw [za_bt (fun n hn => absurd hn (Nat.not_lt_zero n))] at i
    exact i
  intro k
  induction k with
  | zero =>
    intro r n b c yPl yBo yFa pth sid fl fr fk gu hr hn e
    obtain ⟨n, rfl⟩ : ∃ c, n = c + 1 := ⟨n - 1, by omega⟩
    have e' : c = cE := e
    subst e'
    rw [wY_infer_90]
    exact pk_le 50 r (fun _ => fin yPl yBo yFa pth sid fl fr fk gu) (fun z => absurd z (by omega))
  | succ k ih =>
    intro r n b c yPl yBo yFa pth sid fl fr fk gu hr hn e
    obtain ⟨n, rfl⟩ : ∃ c, n = c + 1 := ⟨n - 1, by omega⟩
    rw [wY_infer_90]
    refine pk_le 50 r (fun z => absurd z (by omega)) (fun _ => za_ble (fun hb => ?_) (fun hb => ?_))
    · rw [zi_iy_t hb] at e
      refine zy_add (m := 0) (by omega) ⟨E + 1, zy_116 hE (fun m fl fr fk hm hS => ⟨Q + 1, ?_⟩) E 0 (E + 1) 1 _ _ _ (by omega) (by omega) (by omega) (zb_fl_iff (zb_fl_add zb_fl_0 za_in0 za_in1 (by rw [za_i0]; omega)) (fun g => ?_))⟩
      · have i := zy_154 (post := post) (J90 := wY_infer_90 post n) (x2 := nI r) (pr := c.1) (m := m) (S := zi_SE el er eb E) hQ (by omega) (fun fl fr fk gu => ⟨N + 1, by
          have i := zy_199 (post := post) (J90 := wY_infer_90 post n) (r := r) (C0 := zi_ec ql qr qb el er eb Q E c) (c := zi_ey ql qr qb el er eb Q E c) gt hQ (fun yPl yBo yFa pth sid fl fr fk gu => ih (r + 1) n _ _ yPl yBo yFa pth sid fl fr fk gu (by omega) (by omega) e) N 0 (N + 1) yPl yBo (nI m) pth sid fl fr fk gu (by omega) (by omega)
          rw [za_bb (P := _ ∨ zi_fc ki aa ab ac ql qr qb Q _ 0) (Q := zi_ec ql qr qb el er eb Q E c) ⟨fun z => z.resolve_right zi_fc_0, Or.inl⟩] at i
          exact i⟩) Q 0 (Q + 1) fl fr fk gu (by omega) (by omega) hS
        rw [zi_dr_0, za_bf zi_ch_0] at i
        exact i
      · rw [za_i0]
        exact ⟨fun z => ⟨z.2, fun e he => absurd he (Nat.not_lt_zero e)⟩, fun z => ⟨trivial, z.1⟩⟩
    · rw [zi_iy_f hb] at e
      subst e
      exact fin yPl yBo yFa pth sid fl fr fk gu
theorem zi_pf_s {Q i : Nat} : upd (zi_pf ql qr Q i pr) i (zi_p0 ql qr Q (i % 8)) = zi_pf ql qr Q (i + 1) pr := by
  funext j
  unfold upd zi_pf
  by_cases e : j = i
  · rw [if_pos e, if_pos (by omega), e]
  · rw [if_neg e]
    by_cases c : j < i
    · rw [if_pos c, if_pos (by omega)]
    · rw [if_neg c, if_neg (by omega)]
theorem zi_qf_s {Q i : Nat} : upd (zi_qf Q i po) i (zi_q0 Q (i % 8)) = zi_qf Q (i + 1) po := by
  funext j
  unfold upd zi_qf
  by_cases e : j = i
  · rw [if_pos e, if_pos (by omega), e]
  · rw [if_neg e]
    by_cases c : j < i
    · rw [if_pos c, if_pos (by omega)]
    · rw [if_neg c, if_neg (by omega)]
theorem zy_40 {post : Int32 → SY → Prop} {J11 : Int32 → (Nat → Int32) → (Nat → Int32) → (Nat → Int32) → (Nat → Int32) → (Nat → Int32) → (Nat → Int32) → (Nat → Int32) → (Nat → Int32) → (Nat → Int32) → (Nat → Int32) → (Nat → Int32) → (Nat → Int32) → (Nat → Int32) → (Nat → Int32) → (Nat → Int32) → (Nat → Int32) → (Nat → Int32) → (Nat → Int32) → (Nat → Int32) → (Nat → Int32) → (Nat → Int32) → Prop} {i q Q : Nat} (hi : i < 24) (hq : q < 8) (hQ : Q ≤ 8) (h : J11 (nI (i + 1)) ki aa ab ac ql qr qb el er eb ce (upd pr i (zi_p0 ql qr Q q)) (upd po i (zi_q0 Q q)) pth sid fl fr fk gu av vy) :
    wY_infer_40 post J11 (nI i) (nI q) (zi_q0 Q q) (nI i) yF yMN yMQ yN (nI Q) yE yLe yLv yLn yIn yPl yBo yFa ki aa ab ac ql qr qb el er eb ce pr po pth sid fl fr fk gu av vy := by
  unfold wY_infer_40
  have i24 : vp_in (nI i) 24 := vp_in_nI hi (by decide)
  have i8 : vp_in (nI q) 8 := vp_in_nI hq (by decide)
  rw [nI_clamp (show i < 2 ^ 31 by omega), nI_clamp (show q < 2 ^ 31 by omega), zi_q0n, za_vb0, za_vb1]
  refine ⟨i24, nm_e (pk_le Q q (fun c => ⟨i24, nm_e (nm_r (nI_1 i) ?_)⟩) (fun c => ⟨i8, br_c (fun c1 => ⟨i24, nm_e (nm_r (nI_1 i) ?_)⟩) (fun c1 => ⟨i8, br_c (fun c2 => ⟨i24, nm_e (nm_r (nI_1 i) ?_)⟩) (fun c2 => ⟨i24, nm_e (nm_r (nI_1 i) ?_)⟩)⟩)⟩))⟩
  · have e : zi_p0 ql qr Q q = 0 := if_neg (fun z => by omega)
    rw [e] at h; exact h
  · have e : zi_p0 ql qr Q q = 0 := if_neg (fun z => z.2.1 c1)
    rw [e] at h; exact h
  · have e : zi_p0 ql qr Q q = 0 := if_neg (fun z => z.2.2 c2)
    rw [e] at h; exact h
  · have e : zi_p0 ql qr Q q = 1 := if_pos ⟨c, c1, c2⟩
    rw [e] at h; exact h
theorem zy_11 {post : Int32 → SY → Prop} {Q : Nat} (hQ : Q ≤ 8) (h : ∃ n, wY_infer_90 post n 1 0 yF yMN yMQ yN (nI Q) yE yLe yLv yLn yIn yPl yBo yFa ki aa ab ac ql qr qb el er eb ce (zi_pf ql qr Q 24 pr) (zi_qf Q 24 po) pth sid fl fr fk gu av vy) : ∀ (d i n : Nat), i + d = 24 → d < n →
    wY_infer_11 post yF yMN yMQ yN (nI Q) yE yLe yLv yLn yIn yPl yBo yFa n (nI i) ki aa ab ac ql qr qb el er eb ce (zi_pf ql qr Q i pr) (zi_qf Q i po) pth sid fl fr fk gu av vy := by
  intro d
  induction d with
  | zero =>
    intro i n hi hn
    obtain ⟨n, rfl⟩ : ∃ c, n = c + 1 := ⟨n - 1, by omega⟩
    have hi' : i = 24 := hi
    subst hi'
    rw [wY_infer_11]
    exact pk_le 24 24 (fun _ => h) (fun z => absurd z (Nat.lt_irrefl _))
  | succ d ih =>
    intro i n hi hn
    obtain ⟨n, rfl⟩ : ∃ c, n = c + 1 := ⟨n - 1, by omega⟩
    have i' := ih (i + 1) n (by omega) (by omega)
    rw [← zi_pf_s, ← zi_qf_s] at i'
    have g : wY_infer_40 post (wY_infer_11 post yF yMN yMQ yN (nI Q) yE yLe yLv yLn yIn yPl yBo yFa n) (nI i) (nI (i % 8)) (zi_q0 Q (i % 8)) (nI i) yF yMN yMQ yN (nI Q) yE yLe yLv yLn yIn yPl yBo yFa ki aa ab ac ql qr qb el er eb ce (zi_pf ql qr Q i pr) (zi_qf Q i po) pth sid fl fr fk gu av vy := zy_40 (show i < 24 by omega) (by omega) hQ i'
    have er : nI i - nI i / 8 * 8 = nI (i % 8) := pk_rem (a := i) (d := 8) (by omega) (by decide) (by decide)
    rw [wY_infer_11]
    refine pk_le 24 i (fun z => absurd z (by omega)) (fun _ => ⟨by decide, nm_r er (pk_le Q (i % 8) (fun z => ?_) (fun z => ?_))⟩)
    · have eq : zi_q0 Q (i % 8) = 0 := if_neg (by omega)
      rw [eq] at g
      exact g
    · have eq : zi_q0 Q (i % 8) = 1 := if_pos z
      rw [eq] at g
      exact g
theorem zy_inf {post : Int32 → SY → Prop} {F NL N Q E : Nat} {cE : (Nat → Int32) × (Nat → Int32)} (gt : zr_Gt F NL N ki aa ab ac pa so ow eo sn st wt) (hE : zi_EV el er eb E) (hQ : zw_QV ql qr qb Q) (hc : (zw_w ki N).2 = F)
    (hcE : zi_it ki aa ab ac ql qr qb Q N 50 True (zi_cS ql qr qb el er eb pr po Q E) = cE)
    (h : ∀ yPl yBo yFa pth sid fl fr fk gu, post (za_b (∀ n, n < N → zr_sf ki aa ab ac ql qr qb cE.1 cE.2 Q n)) (nI F, yMN, yMQ, nI N, nI Q, nI E, yLe, yLv, yLn, 1, yPl, yBo, yFa, ki, aa, ab, ac, ql, qr, qb, el, er, eb, ce, cE.1, cE.2, pth, sid, fl, fr, fk, gu, av, vy)) :
    wpY_infer post (nI F, yMN, yMQ, nI N, nI Q, nI E, yLe, yLv, yLn, yIn, yPl, yBo, yFa, ki, aa, ab, ac, ql, qr, qb, el, er, eb, ce, pr, po, pth, sid, fl, fr, fk, gu, av, vy) := by
  unfold wpY_infer
  refine zy_complete (zr_nb gt) gt.2.1 (fun _ pth sid _ => br_f za_n10 ⟨25, ?_⟩) (fun z => absurd hc z)
  have e : zi_iy ki aa ab ac ql qr qb el er eb Q E N 50 True (zi_pf ql qr Q 24 pr, zi_qf Q 24 po) = cE := by
    rw [zi_iy_eq (k := 48)]
    exact hcE
  have i := zy_90 (post := post) (yIn := yIn) gt hE hQ h 50 0 51 True (zi_pf ql qr Q 24 pr, zi_qf Q 24 po) (nI (zw_w ki N).1.length) (nI (zw_w ki N).2) yFa pth sid fl fr fk gu (by omega) (by omega) e
  rw [za_bt trivial] at i
  have j := zy_11 hQ.1 ⟨51, i⟩ 24 0 25 (by omega) (by omega)
  have e1 : zi_pf ql qr Q 0 pr = pr := by funext j; exact if_neg (Nat.not_lt_zero j)
  have e2 : zi_qf Q 0 po = po := by funext j; exact if_neg (Nat.not_lt_zero j)
  rw [e1, e2] at j
  exact j
theorem i_vc_infer {k : Nat} {u : SX} {v : SY} (I : i_Rel k u v) (hk : k + 5 ≤ 2563) : wpX_infer (fun r u' => wpY_infer (fun r' v' => r' = r ∧ i_Rel (k + 5) u' v') v) u := by
  refine zr_el (P := fun u v => wpX_infer (fun r u' => wpY_infer (fun r' v' => r' = r ∧ i_Rel (k + 5) u' v') v) u) ?_ I
  intro F NL QL N Q E Le xIn xIf xCt xDp xCa xPc xRr xLn yPl yBo yFa ki aa ab ac pa so ow eo sn st wt ql qr qb el er eb cs di ce vx rt pr po pth sid fl fr fk gu av vy G
  have G0 := G
  obtain ⟨gt, gq, gc, gv⟩ := G
  by_cases hc : (zw_w ki N).2 = F
  · have hE : zi_EV el er eb E := gq.2.2.2
    exact zx_inf (pr := pr) (po := po) gt hE gq.2.2.1 hc rfl (fun cs di xCt cc => zy_inf gt hE gq.2.2.1 hc rfl (fun yPl yBo yFa pth sid fl fr fk gu => ⟨rfl, zr_in ⟨gt, gq, Or.inr ⟨rfl, cc⟩, gv⟩⟩))
  · unfold wpX_infer
    refine zx_isCm gt.2.2.2.2.2.2.1 gt.2.1 (fun _ => br_t rfl ?_) (fun z => absurd z hc)
    unfold wpY_infer
    exact zy_complete (zr_nb gt) gt.2.1 (fun z => absurd z hc) (fun _ pth sid _ => br_t rfl ⟨rfl, zr_in G0⟩)
end
end
section
section
variable {xFL xNL xQL xN xFi xWc xNs xNp xBe xQc xEc xIn xIf xCt xLe xDp xCa xPc xRr xLn : Int32} {ki aa ab ac pa so ow eo sn st wt ql qr qb el er eb cs di ce vx rt : Nat → Int32}
theorem zx_val {post : Int32 → Prop} {s : Int32} {dp : Nat} (hd : dp ≤ 30) (hs : vp_in s 10) (h : post (vx (dp * 10 + s.toNatClampNeg))) : wpX_valueOf post (xFL, xNL, xQL, xN, xFi, xWc, xNs, xNp, xBe, xQc, xEc, xIn, xIf, xCt, xLe, nI dp, xCa, xPc, xRr, xLn, ki, aa, ab, ac, pa, so, ow, eo, sn, st, wt, ql, qr, qb, el, er, eb, cs, di, ce, vx, rt) s := by
  obtain ⟨j, hj, rfl⟩ := vp_in_of hs (by decide)
  have e : nI dp * 10 + nI j = nI (dp * 10 + j) := by rw [za_m10, nI_add]
  rw [nI_clamp (by omega)] at h
  unfold wpX_valueOf
  dsimp only
  rw [e, nI_clamp (by omega)]
  exact ⟨vp_in_nI (by omega) (by decide), h⟩
theorem zx_bind {post : Int32 → SX → Prop} {v : Int32} {dp p s : Nat} (hd : dp ≤ 30) (hp : p < 24) (hs : s < 10) (es : so p = nI s) (h1 : zr_VR v → post 0 (xFL, xNL, xQL, xN, xFi, xWc, xNs, xNp, xBe, xQc, xEc, xIn, xIf, xCt, xLe, nI dp, xCa, nI (p + 1), xRr, xLn, ki, aa, ab, ac, pa, so, ow, eo, sn, st, wt, ql, qr, qb, el, er, eb, cs, di, ce, upd vx (dp * 10 + s) v, rt)) (h0 : ¬ zr_VR v → post 4 (xFL, xNL, xQL, xN, xFi, xWc, xNs, xNp, xBe, xQc, xEc, xIn, xIf, xCt, xLe, nI dp, xCa, xPc, xRr, xLn, ki, aa, ab, ac, pa, so, ow, eo, sn, st, wt, ql, qr, qb, el, er, eb, cs, di, ce, vx, rt)) :
    wpX_bind post (xFL, xNL, xQL, xN, xFi, xWc, xNs, xNp, xBe, xQc, xEc, xIn, xIf, xCt, xLe, nI dp, xCa, xPc, xRr, xLn, ki, aa, ab, ac, pa, so, ow, eo, sn, st, wt, ql, qr, qb, el, er, eb, cs, di, ce, vx, rt) (nI p) v := by
  have e : nI dp * 10 + nI s = nI (dp * 10 + s) := by rw [za_m10, nI_add]
  unfold wpX_bind
  dsimp only
  rw [nI_clamp (show p < 2 ^ 31 by omega), es, e, nI_clamp (show dp * 10 + s < 2 ^ 31 by omega)]
  exact zx_isV (fun c => br_f za_n10 ⟨vp_in_nI hp (by decide), vp_in_nI (by omega) (by decide), nm_e (nm_r (nI_1 p) (h1 c))⟩) (fun c => br_t rfl (h0 c))
theorem zx_e1 {post : Int32 → SX → Prop} {dp p s : Nat} (hd : dp ≤ 30) (hp : p < 24) (hs : s < 10) (es : so p = nI s) (k : ki p = 1) (v1 : vp_in (aa p) 10)
    (h1 : zr_VR (vx (dp * 10 + (aa p).toNatClampNeg) + ab p) → post 0 (xFL, xNL, xQL, xN, xFi, xWc, xNs, xNp, xBe, xQc, xEc, xIn, xIf, xCt, xLe, nI dp, xCa, nI (p + 1), xRr, xLn, ki, aa, ab, ac, pa, so, ow, eo, sn, st, wt, ql, qr, qb, el, er, eb, cs, di, ce, upd vx (dp * 10 + s) (vx (dp * 10 + (aa p).toNatClampNeg) + ab p), rt))
    (h0 : ¬ zr_VR (vx (dp * 10 + (aa p).toNatClampNeg) + ab p) → post 4 (xFL, xNL, xQL, xN, xFi, xWc, xNs, xNp, xBe, xQc, xEc, xIn, xIf, xCt, xLe, nI dp, xCa, xPc, xRr, xLn, ki, aa, ab, ac, pa, so, ow, eo, sn, st, wt, ql, qr, qb, el, er, eb, cs, di, ce, vx, rt)) : wpX_execute post (xFL, xNL, xQL, xN, xFi, xWc, xNs, xNp, xBe, xQc, xEc, xIn, xIf, xCt, xLe, nI dp, xCa, xPc, xRr, xLn, ki, aa, ab, ac, pa, so, ow, eo, sn, st, wt, ql, qr, qb, el, er, eb, cs, di, ce, vx, rt) (nI p) := by
  have hpp : vp_in (nI p) 24 := vp_in_nI hp (by decide)
  unfold wpX_execute
  dsimp only
  rw [nI_clamp (show p < 2 ^ 31 by omega)]
  refine ⟨hpp, nm_e ⟨hpp, nm_r k (br_f (by decide) (br_f (by decide) (br_t rfl (zx_val hd v1 ⟨hpp, nm_e (zx_bind hd hp hs es h1 h0)⟩))))⟩⟩
theorem zx_e2 {post : Int32 → SX → Prop} {dp p s : Nat} (hd : dp ≤ 30) (hp : p < 24) (hs : s < 10) (es : so p = nI s) (k : ki p = 2) (v1 : vp_in (aa p) 10) (v2 : vp_in (ab p) 10)
    (h1 : zr_VR (vx (dp * 10 + (aa p).toNatClampNeg) + vx (dp * 10 + (ab p).toNatClampNeg)) → post 0 (xFL, xNL, xQL, xN, xFi, xWc, xNs, xNp, xBe, xQc, xEc, xIn, xIf, xCt, xLe, nI dp, xCa, nI (p + 1), xRr, xLn, ki, aa, ab, ac, pa, so, ow, eo, sn, st, wt, ql, qr, qb, el, er, eb, cs, di, ce, upd vx (dp * 10 + s) (vx (dp * 10 + (aa p).toNatClampNeg) + vx (dp * 10 + (ab p).toNatClampNeg)), rt))
    (h0 : ¬ zr_VR (vx (dp * 10 + (aa p).toNatClampNeg) + vx (dp * 10 + (ab p).toNatClampNeg)) → post 4 (xFL, xNL, xQL, xN, xFi, xWc, xNs, xNp, xBe, xQc, xEc, xIn, xIf, xCt, xLe, nI dp, xCa, xPc, xRr, xLn, ki, aa, ab, ac, pa, so, ow, eo, sn, st, wt, ql, qr, qb, el, er, eb, cs, di, ce, vx, rt)) : wpX_execute post (xFL, xNL, xQL, xN, xFi, xWc, xNs, xNp, xBe, xQc, xEc, xIn, xIf, xCt, xLe, nI dp, xCa, xPc, xRr, xLn, ki, aa, ab, ac, pa, so, ow, eo, sn, st, wt, ql, qr, qb, el, er, eb, cs, di, ce, vx, rt) (nI p) := by
  have hpp : vp_in (nI p) 24 := vp_in_nI hp (by decide)
  unfold wpX_execute
  dsimp only
  rw [nI_clamp (show p < 2 ^ 31 by omega)]
  refine ⟨hpp, nm_e ⟨hpp, nm_r k (br_f (by decide) (br_f (by decide) (br_f (by decide) (br_t rfl (zx_val hd v1 ⟨hpp, zx_val hd v2 (nm_e (zx_bind hd hp hs es h1 h0))⟩)))))⟩⟩
theorem zx_e3 {post : Int32 → SX → Prop} {dp p s Le : Nat} (hd : dp ≤ 30) (hp : p < 24) (hs : s < 10) (hLe : Le ≤ 8) (hce : ∀ i, zr_VR (ce i)) (es : so p = nI s) (k : ki p = 3) (v1 : vp_in (aa p) 10)
    (h1 : vp_in (vx (dp * 10 + (aa p).toNatClampNeg)) Le → post 0 (xFL, xNL, xQL, xN, xFi, xWc, xNs, xNp, xBe, xQc, xEc, xIn, xIf, xCt, nI Le, nI dp, xCa, nI (p + 1), xRr, xLn, ki, aa, ab, ac, pa, so, ow, eo, sn, st, wt, ql, qr, qb, el, er, eb, cs, di, ce, upd vx (dp * 10 + s) (ce (vx (dp * 10 + (aa p).toNatClampNeg)).toNatClampNeg), rt))
    (h0 : ¬ vp_in (vx (dp * 10 + (aa p).toNatClampNeg)) Le → post 2 (xFL, xNL, xQL, xN, xFi, xWc, xNs, xNp, xBe, xQc, xEc, xIn, xIf, xCt, nI Le, nI dp, xCa, xPc, xRr, xLn, ki, aa, ab, ac, pa, so, ow, eo, sn, st, wt, ql, qr, qb, el, er, eb, cs, di, ce, vx, rt)) : wpX_execute post (xFL, xNL, xQL, xN, xFi, xWc, xNs, xNp, xBe, xQc, xEc, xIn, xIf, xCt, nI Le, nI dp, xCa, xPc, xRr, xLn, ki, aa, ab, ac, pa, so, ow, eo, sn, st, wt, ql, qr, qb, el, er, eb, cs, di, ce, vx, rt) (nI p) := by
  have hpp : vp_in (nI p) 24 := vp_in_nI hp (by decide)
  unfold wpX_execute
  dsimp only
  rw [nI_clamp (show p < 2 ^ 31 by omega)]
  refine ⟨hpp, nm_e ⟨hpp, nm_r k (br_f (by decide) (br_f (by decide) (br_f (by decide) (br_f (by decide) (br_t rfl ?_)))))⟩⟩
  unfold wpX_executeRead
  dsimp only
  rw [nI_clamp (show p < 2 ^ 31 by omega)]
  refine ⟨hpp, zx_val hd v1 (za_inY (by omega) (fun c => ⟨?_, zx_bind hd hp hs es (fun _ => h1 c) (fun z => absurd (hce _) z)⟩) h0)⟩
  rw [vp_in_iff] at c ⊢
  omega
theorem zx_openFrame {post : SX → Prop} {dp : Nat} {x y : Int32} (hd : dp ≤ 30) (h : post (xFL, xNL, xQL, xN, xFi, xWc, xNs, xNp, xBe, xQc, xEc, xIn, xIf, xCt, xLe, nI dp, xCa, xPc, xRr, xLn, ki, aa, ab, ac, pa, so, ow, eo, sn, st, wt, ql, qr, qb, el, er, eb, cs, di, ce, zr_fr vx (dp * 10) xLe x y, rt)) : wpX_openFrame post (xFL, xNL, xQL, xN, xFi, xWc, xNs, xNp, xBe, xQc, xEc, xIn, xIf, xCt, xLe, nI dp, xCa, xPc, xRr, xLn, ki, aa, ab, ac, pa, so, ow, eo, sn, st, wt, ql, qr, qb, el, er, eb, cs, di, ce, vx, rt) x y := by
  unfold wpX_openFrame
  refine nm_r (za_m10 dp) ?_
  have e1 : nI (dp * 10) + 1 = nI (dp * 10 + 1) := nI_1 _
  have e2 : nI (dp * 10) + 2 = nI (dp * 10 + 2) := nI_add _ 2
  have e3 : nI (dp * 10) + 3 = nI (dp * 10 + 3) := nI_add _ 3
  rw [e1, e2, e3, nI_clamp (show dp * 10 < 2 ^ 31 by omega), nI_clamp (show dp * 10 + 1 < 2 ^ 31 by omega), nI_clamp (show dp * 10 + 2 < 2 ^ 31 by omega), nI_clamp (show dp * 10 + 3 < 2 ^ 31 by omega)]
  exact ⟨vp_in_nI (by omega) (by decide), nm_e ⟨vp_in_nI (by omega) (by decide), nm_e ⟨vp_in_nI (by omega) (by decide), nm_e ⟨vp_in_nI (by omega) (by decide), nm_e h⟩⟩⟩⟩
theorem zx_e4 {post : Int32 → SX → Prop} {dp ca p a : Nat} (hc : dp ≤ ca) (hc30 : ca ≤ 30) (hp : p < 24) (k : ki p = 4) (ha : a < 3) (ea : aa p = nI a) (v2 : vp_in (ab p) 10) (v3 : vp_in (ac p) 10)
    (h1 : ca < 30 → post 0 (xFL, xNL, xQL, xN, xFi, xWc, xNs, xNp, xBe, xQc, xEc, xIn, xIf, xCt, xLe, nI (dp + 1), nI (ca + 1), st a, xRr, xLn, ki, aa, ab, ac, pa, so, ow, eo, sn, st, wt, ql, qr, qb, el, er, eb, cs, di, ce, zr_fr vx ((dp + 1) * 10) xLe (vx (dp * 10 + (ab p).toNatClampNeg)) (vx (dp * 10 + (ac p).toNatClampNeg)), upd rt (dp + 1) (nI p)))
    (h0 : ca = 30 → post 4 (xFL, xNL, xQL, xN, xFi, xWc, xNs, xNp, xBe, xQc, xEc, xIn, xIf, xCt, xLe, nI dp, nI ca, xPc, xRr, xLn, ki, aa, ab, ac, pa, so, ow, eo, sn, st, wt, ql, qr, qb, el, er, eb, cs, di, ce, vx, rt)) : wpX_execute post (xFL, xNL, xQL, xN, xFi, xWc, xNs, xNp, xBe, xQc, xEc, xIn, xIf, xCt, xLe, nI dp, nI ca, xPc, xRr, xLn, ki, aa, ab, ac, pa, so, ow, eo, sn, st, wt, ql, qr, qb, el, er, eb, cs, di, ce, vx, rt) (nI p) := by
  have hpp : vp_in (nI p) 24 := vp_in_nI hp (by decide)
  unfold wpX_execute
  dsimp only
  rw [nI_clamp (show p < 2 ^ 31 by omega)]
  refine ⟨hpp, nm_e ⟨hpp, nm_r k (br_f (by decide) (br_f (by decide) (br_f (by decide) (br_f (by decide) (br_f (by decide) (br_t rfl ?_))))))⟩⟩
  unfold wpX_executeCall
  dsimp only
  rw [nI_clamp (show p < 2 ^ 31 by omega)]
  refine pk_lt ca 30 (fun c => nm_r (nI_1 ca) ⟨hpp, zx_val (by omega) v2 ⟨hpp, zx_val (by omega) v3 (nm_r (nI_1 dp) ⟨vp_in_nI (by omega) (by decide), nm_r (e' := upd rt (dp + 1) (nI p)) (by rw [nI_clamp (by omega)]) (zx_openFrame (by omega) ⟨hpp, ?_⟩)⟩)⟩⟩) (fun c => h0 (by omega))
  dsimp only
  rw [ea]
  exact ⟨vp_in_nI ha (by decide), nm_r (za_rd (by omega)) (h1 c)⟩
theorem zx_holds {post : Int32 → Prop} {dp p : Nat} (hd : dp ≤ 30) (hp : p < 24) (v1 : vp_in (aa p) 10) (v2 : vp_in (ab p) 10)
    (h1 : ¬ ac p < vx (dp * 10 + (aa p).toNatClampNeg) - vx (dp * 10 + (ab p).toNatClampNeg) → post 1) (h0 : ac p < vx (dp * 10 + (aa p).toNatClampNeg) - vx (dp * 10 + (ab p).toNatClampNeg) → post 0) : wpX_holds post (xFL, xNL, xQL, xN, xFi, xWc, xNs, xNp, xBe, xQc, xEc, xIn, xIf, xCt, xLe, nI dp, xCa, xPc, xRr, xLn, ki, aa, ab, ac, pa, so, ow, eo, sn, st, wt, ql, qr, qb, el, er, eb, cs, di, ce, vx, rt) (nI p) := by
  have hpp : vp_in (nI p) 24 := vp_in_nI hp (by decide)
  unfold wpX_holds
  dsimp only
  rw [nI_clamp (show p < 2 ^ 31 by omega)]
  exact ⟨hpp, zx_val hd v1 ⟨hpp, zx_val hd v2 ⟨hpp, br_c h0 h1⟩⟩⟩
theorem zx_e5 {post : Int32 → SX → Prop} {dp p : Nat} (hd : dp ≤ 30) (hp : p < 24) (k : ki p = 5) (v1 : vp_in (aa p) 10) (v2 : vp_in (ab p) 10)
    (h1 : ¬ ac p < vx (dp * 10 + (aa p).toNatClampNeg) - vx (dp * 10 + (ab p).toNatClampNeg) → post 0 (xFL, xNL, xQL, xN, xFi, xWc, xNs, xNp, xBe, xQc, xEc, xIn, xIf, xCt, xLe, nI dp, xCa, nI (p + 1), xRr, xLn, ki, aa, ab, ac, pa, so, ow, eo, sn, st, wt, ql, qr, qb, el, er, eb, cs, di, ce, vx, rt))
    (h0 : ac p < vx (dp * 10 + (aa p).toNatClampNeg) - vx (dp * 10 + (ab p).toNatClampNeg) → post 3 (xFL, xNL, xQL, xN, xFi, xWc, xNs, xNp, xBe, xQc, xEc, xIn, xIf, xCt, xLe, nI dp, xCa, nI (p + 1), xRr, xLn, ki, aa, ab, ac, pa, so, ow, eo, sn, st, wt, ql, qr, qb, el, er, eb, cs, di, ce, vx, rt)) : wpX_execute post (xFL, xNL, xQL, xN, xFi, xWc, xNs, xNp, xBe, xQc, xEc, xIn, xIf, xCt, xLe, nI dp, xCa, xPc, xRr, xLn, ki, aa, ab, ac, pa, so, ow, eo, sn, st, wt, ql, qr, qb, el, er, eb, cs, di, ce, vx, rt) (nI p) := by
  have hpp : vp_in (nI p) 24 := vp_in_nI hp (by decide)
  unfold wpX_execute
  dsimp only
  rw [nI_clamp (show p < 2 ^ 31 by omega)]
  exact ⟨hpp, nm_e ⟨hpp, nm_r k (br_f (by decide) (br_f (by decide) (br_f (by decide) (br_f (by decide) (br_f (by decide) (br_f (by decide) (br_t rfl (nm_r (nI_1 p) (zx_holds hd hp v1 v2 (fun c => br_f za_n10 (h1 c)) (fun c => br_t rfl (h0 c)))))))))))⟩⟩
theorem zx_e6 {post : Int32 → SX → Prop} {dp p : Nat} (hd : dp ≤ 30) (hp : p < 24) (k : ki p = 6) (v1 : vp_in (aa p) 10) (v2 : vp_in (ab p) 10)
    (h1 : ¬ ac p < vx (dp * 10 + (aa p).toNatClampNeg) - vx (dp * 10 + (ab p).toNatClampNeg) → post 0 (xFL, xNL, xQL, xN, xFi, xWc, xNs, xNp, xBe, xQc, xEc, xIn, xIf, xCt, xLe, nI dp, xCa, nI (p + 1), xRr, xLn, ki, aa, ab, ac, pa, so, ow, eo, sn, st, wt, ql, qr, qb, el, er, eb, cs, di, ce, vx, rt))
    (h0 : ac p < vx (dp * 10 + (aa p).toNatClampNeg) - vx (dp * 10 + (ab p).toNatClampNeg) → post 0 (xFL, xNL, xQL, xN, xFi, xWc, xNs, xNp, xBe, xQc, xEc, xIn, xIf, xCt, xLe, nI dp, xCa, eo p, xRr, xLn, ki, aa, ab, ac, pa, so, ow, eo, sn, st, wt, ql, qr, qb, el, er, eb, cs, di, ce, vx, rt)) : wpX_execute post (xFL, xNL, xQL, xN, xFi, xWc, xNs, xNp, xBe, xQc, xEc, xIn, xIf, xCt, xLe, nI dp, xCa, xPc, xRr, xLn, ki, aa, ab, ac, pa, so, ow, eo, sn, st, wt, ql, qr, qb, el, er, eb, cs, di, ce, vx, rt) (nI p) := by
  have hpp : vp_in (nI p) 24 := vp_in_nI hp (by decide)
  unfold wpX_execute
  dsimp only
  rw [nI_clamp (show p < 2 ^ 31 by omega)]
  exact ⟨hpp, nm_e ⟨hpp, nm_r k (br_f (by decide) (br_f (by decide) (br_f (by decide) (br_f (by decide) (br_f (by decide) (br_f (by decide) (br_f (by decide) (br_t rfl (zx_holds hd hp v1 v2 (fun c => br_f za_n10 (nm_r (nI_1 p) (h1 c))) (fun c => br_t rfl ⟨hpp, nm_e (h0 c)⟩))))))))))⟩⟩
theorem zx_e7 {post : Int32 → SX → Prop} {dp p : Nat} (hd : dp ≤ 30) (hp : p < 24) (k : ki p = 7) (v1 : vp_in (aa p) 10) (hV : ∀ j, zr_VR (vx j))
    (h0 : dp = 0 → post 1 (xFL, xNL, xQL, xN, xFi, xWc, xNs, xNp, xBe, xQc, xEc, xIn, xIf, xCt, xLe, nI dp, xCa, xPc, vx (dp * 10 + (aa p).toNatClampNeg), xLn, ki, aa, ab, ac, pa, so, ow, eo, sn, st, wt, ql, qr, qb, el, er, eb, cs, di, ce, vx, rt))
    (h1 : 0 < dp → ∃ c s, c < 24 ∧ s < 10 ∧ rt dp = nI c ∧ so c = nI s ∧ post 0 (xFL, xNL, xQL, xN, xFi, xWc, xNs, xNp, xBe, xQc, xEc, xIn, xIf, xCt, xLe, nI (dp - 1), xCa, nI (c + 1), xRr, xLn, ki, aa, ab, ac, pa, so, ow, eo, sn, st, wt, ql, qr, qb, el, er, eb, cs, di, ce, upd vx ((dp - 1) * 10 + s) (vx (dp * 10 + (aa p).toNatClampNeg)), rt)) : wpX_execute post (xFL, xNL, xQL, xN, xFi, xWc, xNs, xNp, xBe, xQc, xEc, xIn, xIf, xCt, xLe, nI dp, xCa, xPc, xRr, xLn, ki, aa, ab, ac, pa, so, ow, eo, sn, st, wt, ql, qr, qb, el, er, eb, cs, di, ce, vx, rt) (nI p) := by
  have hpp : vp_in (nI p) 24 := vp_in_nI hp (by decide)
  unfold wpX_execute
  dsimp only
  rw [nI_clamp (show p < 2 ^ 31 by omega)]
  refine ⟨hpp, nm_e ⟨hpp, nm_r k (br_f (by decide) (br_t (by decide) ?_))⟩⟩
  unfold wpX_executeReturn
  dsimp only
  rw [nI_clamp (show p < 2 ^ 31 by omega), nI_clamp (show dp < 2 ^ 31 by omega)]
  refine ⟨hpp, zx_val hd v1 (pk_eq dp 0 h0 (fun z => ?_))⟩
  obtain ⟨c, s, hc, hs, er', es, H⟩ := h1 (by omega)
  exact ⟨vp_in_nI (by omega) (by decide), nm_r er' (nm_r (za_s1 (by omega)) (zx_bind (by omega) hc hs es (fun _ => H) (fun z => absurd (hV _) z)))⟩
theorem zx_fin {post : Int32 → SX → Prop} {r x4 : Int32} {n : Nat} (hr : ¬ r = 0) (h : post r (xFL, xNL, xQL, xN, xFi, xWc, xNs, xNp, xBe, xQc, xEc, xIn, xIf, xCt, xLe, xDp, xCa, xPc, xRr, xLn, ki, aa, ab, ac, pa, so, ow, eo, sn, st, wt, ql, qr, qb, el, er, eb, cs, di, ce, vx, rt)) : wX_run_64 post (n + 1) r x4 xFL xNL xQL xN xFi xWc xNs xNp xBe xQc xEc xIn xIf xCt xLe xDp xCa xPc xRr xLn ki aa ab ac pa so ow eo sn st wt ql qr qb el er eb cs di ce vx rt := by
  rw [wX_run_64]
  exact br_c (fun _ => h) (fun _ => br_f hr h)
end
end
section
section
variable {yF yMN yMQ yN yQ yE yLe yLv yLn yIn yPl yBo yFa : Int32} {ki aa ab ac ql qr qb el er eb ce pr po pth sid fl fr fk gu av vy : Nat → Int32}
theorem zy_ix {s : Int32} {b : Nat} (hs : vp_in s 10) : nI b + s = nI (b + s.toNatClampNeg) := by
  obtain ⟨j, hj, rfl⟩ := vp_in_of hs (by decide)
  rw [nI_clamp (by omega), nI_add]
theorem zy_450 {post : Int32 → SY → Prop} {J49 : Int32 → Int32 → Int32 → Int32 → Int32 → Int32 → Int32 → Int32 → Int32 → Int32 → Int32 → Int32 → Int32 → Int32 → Int32 → Int32 → (Nat → Int32) → (Nat → Int32) → (Nat → Int32) → (Nat → Int32) → (Nat → Int32) → (Nat → Int32) → (Nat → Int32) → (Nat → Int32) → (Nat → Int32) → (Nat → Int32) → (Nat → Int32) → (Nat → Int32) → (Nat → Int32) → (Nat → Int32) → (Nat → Int32) → (Nat → Int32) → (Nat → Int32) → (Nat → Int32) → (Nat → Int32) → (Nat → Int32) → (Nat → Int32) → Prop} {dp ca step p s : Nat} {z0 z1 : Int32} (hd : dp ≤ 30) (hs : s < 10) (ep : av dp = nI p)
    (h1 : zr_VR (z1 + z0) → J49 (nI dp) (nI ca) (nI (step + 1)) yF yMN yMQ yN yQ yE yLe yLv yLn yIn yPl yBo yFa ki aa ab ac ql qr qb el er eb ce pr po pth sid fl fr fk gu (upd av dp (nI (p + 1))) (upd vy (dp * 10 + s) (z1 + z0))) (h0 : ¬ zr_VR (z1 + z0) → post 4 (yF, yMN, yMQ, yN, yQ, yE, yLe, yLv, yLn, yIn, yPl, yBo, yFa, ki, aa, ab, ac, ql, qr, qb, el, er, eb, ce, pr, po, pth, sid, fl, fr, fk, gu, av, vy)) :
    wY_run_450 post J49 (nI dp) (nI ca) (nI step) (nI (dp * 10)) (nI s) z0 z1 yF yMN yMQ yN yQ yE yLe yLv yLn yIn yPl yBo yFa ki aa ab ac ql qr qb el er eb ce pr po pth sid fl fr fk gu av vy := by
  have hdd : vp_in (nI dp) 31 := vp_in_nI (by omega) (by decide)
  unfold wY_run_450
  rw [nI_add, nI_clamp (show dp * 10 + s < 2 ^ 31 by omega), nI_clamp (show dp < 2 ^ 31 by omega), ep, nI_1 p]
  exact nm_e (zy_isV (fun c => br_f za_n10 ⟨vp_in_nI (by omega) (by decide), nm_e ⟨hdd, hdd, nm_e (nm_r (nI_1 step) (h1 c))⟩⟩) (fun c => br_t rfl (h0 c)))
theorem zy_r1 {post : Int32 → SY → Prop} {dp ca step p n : Nat} (hd : dp ≤ 30) (hp : p < 24) (hst : step < 800) (ep : av dp = nI p) (hs : zw_sc ki p < 10) (k : ki p = 1) (v1 : vp_in (aa p) 10)
    (h1 : zr_VR (vy (dp * 10 + (aa p).toNatClampNeg) + ab p) → ∀ yPl yBo pth sid, wY_run_49 post n (nI dp) (nI ca) (nI (step + 1)) yF yMN yMQ yN yQ yE yLe yLv (nI p) yIn yPl yBo yFa ki aa ab ac ql qr qb el er eb ce pr po pth sid fl fr fk gu (upd av dp (nI (p + 1))) (upd vy (dp * 10 + zw_sc ki p) (vy (dp * 10 + (aa p).toNatClampNeg) + ab p)))
    (h0 : ¬ zr_VR (vy (dp * 10 + (aa p).toNatClampNeg) + ab p) → ∀ yPl yBo pth sid, post 4 (yF, yMN, yMQ, yN, yQ, yE, yLe, yLv, nI p, yIn, yPl, yBo, yFa, ki, aa, ab, ac, ql, qr, qb, el, er, eb, ce, pr, po, pth, sid, fl, fr, fk, gu, av, vy)) : wY_run_49 post (n + 1) (nI dp) (nI ca) (nI step) yF yMN yMQ yN yQ yE yLe yLv yLn yIn yPl yBo yFa ki aa ab ac ql qr qb el er eb ce pr po pth sid fl fr fk gu av vy := by
  have hpp : vp_in (nI p) 24 := vp_in_nI hp (by decide)
  have hdd : vp_in (nI dp) 31 := vp_in_nI (by omega) (by decide)
  have hp31 : p < 2 ^ 31 := by omega
  have hd31 : dp < 2 ^ 31 := by omega
  have ix : ∀ s, vp_in s 10 → nI (dp * 10) + s = nI (dp * 10 + s.toNatClampNeg) := fun s hs => zy_ix hs
  have il : ∀ s, vp_in s 10 → dp * 10 + s.toNatClampNeg < 310 := fun s hs => by have := za_inlt hs (by decide); omega
  have il31 : ∀ s, vp_in s 10 → dp * 10 + s.toNatClampNeg < 2 ^ 31 := fun s hs => by have := il s hs; omega
  have ii : ∀ s, vp_in s 10 → vp_in (nI (dp * 10 + s.toNatClampNeg)) 310 := fun s hs => vp_in_nI (il s hs) (by decide)
  rw [wY_run_49]
  refine pk_le 800 step (fun z => absurd z (by omega)) (fun _ => ⟨hdd, nm_r (e' := nI p) (by rw [nI_clamp hd31]; exact ep) (nm_r (za_m10 dp) ⟨hpp, nm_r (e' := 1) (by rw [nI_clamp hp31]; exact k) ⟨hpp, nm_r (za_rd hp31) ⟨hpp, nm_r (za_rd hp31) ⟨hpp, nm_r (za_rd hp31) (zy_scopeAt (by omega) (fun pth sid _ => ?_))⟩⟩⟩⟩)⟩)
  dsimp only
  rw [ix _ v1, nI_clamp (il31 _ v1)]
  exact br_f (by decide) (br_f (by decide) (br_f (by decide) (br_f (by decide) (br_f (by decide) (⟨ii _ v1, br_t rfl (zy_450 hd hs ep (fun c => h1 c _ _ pth sid) (fun c => h0 c _ _ pth sid))⟩)))))
theorem zy_r2 {post : Int32 → SY → Prop} {dp ca step p n : Nat} (hd : dp ≤ 30) (hp : p < 24) (hst : step < 800) (ep : av dp = nI p) (hs : zw_sc ki p < 10) (k : ki p = 2) (v1 : vp_in (aa p) 10) (v2 : vp_in (ab p) 10)
    (h1 : zr_VR (vy (dp * 10 + (aa p).toNatClampNeg) + vy (dp * 10 + (ab p).toNatClampNeg)) → ∀ yPl yBo pth sid, wY_run_49 post n (nI dp) (nI ca) (nI (step + 1)) yF yMN yMQ yN yQ yE yLe yLv (nI p) yIn yPl yBo yFa ki aa ab ac ql qr qb el er eb ce pr po pth sid fl fr fk gu (upd av dp (nI (p + 1))) (upd vy (dp * 10 + zw_sc ki p) (vy (dp * 10 + (aa p).toNatClampNeg) + vy (dp * 10 + (ab p).toNatClampNeg))))
    (h0 : ¬ zr_VR (vy (dp * 10 + (aa p).toNatClampNeg) + vy (dp * 10 + (ab p).toNatClampNeg)) → ∀ yPl yBo pth sid, post 4 (yF, yMN, yMQ, yN, yQ, yE, yLe, yLv, nI p, yIn, yPl, yBo, yFa, ki, aa, ab, ac, ql, qr, qb, el, er, eb, ce, pr, po, pth, sid, fl, fr, fk, gu, av, vy)) : wY_run_49 post (n + 1) (nI dp) (nI ca) (nI step) yF yMN yMQ yN yQ yE yLe yLv yLn yIn yPl yBo yFa ki aa ab ac ql qr qb el er eb ce pr po pth sid fl fr fk gu av vy := by
  have hpp : vp_in (nI p) 24 := vp_in_nI hp (by decide)
  have hdd : vp_in (nI dp) 31 := vp_in_nI (by omega) (by decide)
  have hp31 : p < 2 ^ 31 := by omega
  have hd31 : dp < 2 ^ 31 := by omega
  have ix : ∀ s, vp_in s 10 → nI (dp * 10) + s = nI (dp * 10 + s.toNatClampNeg) := fun s hs => zy_ix hs
  have il : ∀ s, vp_in s 10 → dp * 10 + s.toNatClampNeg < 310 := fun s hs => by have := za_inlt hs (by decide); omega
  have il31 : ∀ s, vp_in s 10 → dp * 10 + s.toNatClampNeg < 2 ^ 31 := fun s hs => by have := il s hs; omega
  have ii : ∀ s, vp_in s 10 → vp_in (nI (dp * 10 + s.toNatClampNeg)) 310 := fun s hs => vp_in_nI (il s hs) (by decide)
  rw [wY_run_49]
  refine pk_le 800 step (fun z => absurd z (by omega)) (fun _ => ⟨hdd, nm_r (e' := nI p) (by rw [nI_clamp hd31]; exact ep) (nm_r (za_m10 dp) ⟨hpp, nm_r (e' := 2) (by rw [nI_clamp hp31]; exact k) ⟨hpp, nm_r (za_rd hp31) ⟨hpp, nm_r (za_rd hp31) ⟨hpp, nm_r (za_rd hp31) (zy_scopeAt (by omega) (fun pth sid _ => ?_))⟩⟩⟩⟩)⟩)
  dsimp only
  rw [ix _ v1, nI_clamp (il31 _ v1), ix _ v2, nI_clamp (il31 _ v2)]
  exact br_f (by decide) (br_f (by decide) (br_f (by decide) (br_f (by decide) (br_f (by decide) (⟨ii _ v1, br_f (by decide) ⟨ii _ v2, zy_450 hd hs ep (fun c => h1 c _ _ pth sid) (fun c => h0 c _ _ pth sid)⟩⟩)))))
theorem zy_r3 {post : Int32 → SY → Prop} {dp ca step p n : Nat} (hd : dp ≤ 30) (hp : p < 24) (hst : step < 800) (ep : av dp = nI p) {Le : Nat} (hLe : Le ≤ 8) (hs : zw_sc ki p < 10) (k : ki p = 3) (v1 : vp_in (aa p) 10)
    (h1 : vp_in (vy (dp * 10 + (aa p).toNatClampNeg)) Le → ∀ yPl yBo pth sid, wY_run_49 post n (nI dp) (nI ca) (nI (step + 1)) yF yMN yMQ yN yQ yE (nI Le) yLv (nI p) yIn yPl yBo yFa ki aa ab ac ql qr qb el er eb ce pr po pth sid fl fr fk gu (upd av dp (nI (p + 1))) (upd vy (dp * 10 + zw_sc ki p) (ce (vy (dp * 10 + (aa p).toNatClampNeg)).toNatClampNeg)))
    (h0 : ¬ vp_in (vy (dp * 10 + (aa p).toNatClampNeg)) Le → ∀ yPl yBo pth sid, post 2 (yF, yMN, yMQ, yN, yQ, yE, nI Le, yLv, nI p, yIn, yPl, yBo, yFa, ki, aa, ab, ac, ql, qr, qb, el, er, eb, ce, pr, po, pth, sid, fl, fr, fk, gu, av, vy)) : wY_run_49 post (n + 1) (nI dp) (nI ca) (nI step) yF yMN yMQ yN yQ yE (nI Le) yLv yLn yIn yPl yBo yFa ki aa ab ac ql qr qb el er eb ce pr po pth sid fl fr fk gu av vy := by
  have hpp : vp_in (nI p) 24 := vp_in_nI hp (by decide)
  have hdd : vp_in (nI dp) 31 := vp_in_nI (by omega) (by decide)
  have hp31 : p < 2 ^ 31 := by omega
  have hd31 : dp < 2 ^ 31 := by omega
  have ix : ∀ s, vp_in s 10 → nI (dp * 10) + s = nI (dp * 10 + s.toNatClampNeg) := fun s hs => zy_ix hs
  have il : ∀ s, vp_in s 10 → dp * 10 + s.toNatClampNeg < 310 := fun s hs => by have := za_inlt hs (by decide); omega
  have il31 : ∀ s, vp_in s 10 → dp * 10 + s.toNatClampNeg < 2 ^ 31 := fun s hs => by have := il s hs; omega
  have ii : ∀ s, vp_in s 10 → vp_in (nI (dp * 10 + s.toNatClampNeg)) 310 := fun s hs => vp_in_nI (il s hs) (by decide)
  rw [wY_run_49]
  refine pk_le 800 step (fun z => absurd z (by omega)) (fun _ => ⟨hdd, nm_r (e' := nI p) (by rw [nI_clamp hd31]; exact ep) (nm_r (za_m10 dp) ⟨hpp, nm_r (e' := 3) (by rw [nI_clamp hp31]; exact k) ⟨hpp, nm_r (za_rd hp31) ⟨hpp, nm_r (za_rd hp31) ⟨hpp, nm_r (za_rd hp31) (zy_scopeAt (by omega) (fun pth sid _ => ?_))⟩⟩⟩⟩)⟩)
  dsimp only
  rw [ix _ v1, nI_clamp (il31 _ v1), nI_add, nI_clamp (show dp * 10 + zw_sc ki p < 2 ^ 31 by omega), nI_clamp hd31, ep, nI_1 p]
  refine br_f (by decide) (br_f (by decide) (br_f (by decide) (br_f (by decide) (br_t rfl ⟨ii _ v1, nm_e (za_inY (by omega) (fun c => ⟨?_, vp_in_nI (by omega) (by decide), nm_e ⟨hdd, hdd, nm_e (nm_r (nI_1 step) (h1 c _ _ pth sid))⟩⟩) (fun c => h0 c _ _ pth sid))⟩))))
  rw [vp_in_iff] at c ⊢
  omega
theorem zy_r4 {post : Int32 → SY → Prop} {dp ca step p n : Nat} (hd : dp ≤ 30) (hp : p < 24) (hst : step < 800) (ep : av dp = nI p) {N a n0 : Nat} (hc : dp ≤ ca) (hc30 : ca ≤ 30) (hN : N ≤ 24) (k : ki p = 4) (ha : a < 3) (ea : aa p = nI a) (v2 : vp_in (ab p) 10) (v3 : vp_in (ac p) 10)
    (n1 : n0 < N) (n2 : (zw_w ki n0).2 = a) (n3 : ∀ m, m < n0 → (zw_w ki m).2 ≠ a)
    (h1 : ca < 30 → ∀ yPl yBo pth sid, wY_run_49 post n (nI (dp + 1)) (nI (ca + 1)) (nI (step + 1)) yF yMN yMQ (nI N) yQ yE yLe yLv (nI p) yIn yPl yBo yFa ki aa ab ac ql qr qb el er eb ce pr po pth sid fl fr fk gu (upd av (dp + 1) (nI n0)) (zr_fr vy ((dp + 1) * 10) yLe (vy (dp * 10 + (ab p).toNatClampNeg)) (vy (dp * 10 + (ac p).toNatClampNeg))))
    (h0 : ca = 30 → ∀ yPl yBo pth sid, post 4 (yF, yMN, yMQ, nI N, yQ, yE, yLe, yLv, nI p, yIn, yPl, yBo, yFa, ki, aa, ab, ac, ql, qr, qb, el, er, eb, ce, pr, po, pth, sid, fl, fr, fk, gu, av, vy)) : wY_run_49 post (n + 1) (nI dp) (nI ca) (nI step) yF yMN yMQ (nI N) yQ yE yLe yLv yLn yIn yPl yBo yFa ki aa ab ac ql qr qb el er eb ce pr po pth sid fl fr fk gu av vy := by
  have hpp : vp_in (nI p) 24 := vp_in_nI hp (by decide)
  have hdd : vp_in (nI dp) 31 := vp_in_nI (by omega) (by decide)
  have hp31 : p < 2 ^ 31 := by omega
  have hd31 : dp < 2 ^ 31 := by omega
  have ix : ∀ s, vp_in s 10 → nI (dp * 10) + s = nI (dp * 10 + s.toNatClampNeg) := fun s hs => zy_ix hs
  have il : ∀ s, vp_in s 10 → dp * 10 + s.toNatClampNeg < 310 := fun s hs => by have := za_inlt hs (by decide); omega
  have il31 : ∀ s, vp_in s 10 → dp * 10 + s.toNatClampNeg < 2 ^ 31 := fun s hs => by have := il s hs; omega
  have ii : ∀ s, vp_in s 10 → vp_in (nI (dp * 10 + s.toNatClampNeg)) 310 := fun s hs => vp_in_nI (il s hs) (by decide)
  rw [wY_run_49]
  refine pk_le 800 step (fun z => absurd z (by omega)) (fun _ => ⟨hdd, nm_r (e' := nI p) (by rw [nI_clamp hd31]; exact ep) (nm_r (za_m10 dp) ⟨hpp, nm_r (e' := 4) (by rw [nI_clamp hp31]; exact k) ⟨hpp, nm_r (za_rd hp31) ⟨hpp, nm_r (za_rd hp31) ⟨hpp, nm_r (za_rd hp31) (zy_scopeAt (by omega) (fun pth sid _ => ?_))⟩⟩⟩⟩)⟩)
  dsimp only
  rw [ix _ v2, nI_clamp (il31 _ v2), ix _ v3, nI_clamp (il31 _ v3), ea]
  refine br_t rfl (pk_eq ca 30 (fun c => h0 c _ _ pth sid) (fun c => nm_r (nI_1 ca) (nm_r (nI_1 dp) (zy_bodyStart hN (by omega) n1 n2 n3 (fun yPl yBo pth sid => ⟨ii _ v2, ii _ v3, zy_begin (by omega) (nm_r (nI_1 step) (h1 (by omega) yPl yBo pth sid))⟩)))))
theorem zy_r5 {post : Int32 → SY → Prop} {dp ca step p n : Nat} (hd : dp ≤ 30) (hp : p < 24) (hst : step < 800) (ep : av dp = nI p) (k : ki p = 5) (v1 : vp_in (aa p) 10) (v2 : vp_in (ab p) 10)
    (h1 : ¬ ac p < vy (dp * 10 + (aa p).toNatClampNeg) - vy (dp * 10 + (ab p).toNatClampNeg) → ∀ yPl yBo pth sid, wY_run_49 post n (nI dp) (nI ca) (nI (step + 1)) yF yMN yMQ yN yQ yE yLe yLv (nI p) yIn yPl yBo yFa ki aa ab ac ql qr qb el er eb ce pr po pth sid fl fr fk gu (upd av dp (nI (p + 1))) vy)
    (h0 : ac p < vy (dp * 10 + (aa p).toNatClampNeg) - vy (dp * 10 + (ab p).toNatClampNeg) → ∀ yPl yBo pth sid, post 3 (yF, yMN, yMQ, yN, yQ, yE, yLe, yLv, nI p, yIn, yPl, yBo, yFa, ki, aa, ab, ac, ql, qr, qb, el, er, eb, ce, pr, po, pth, sid, fl, fr, fk, gu, av, vy)) : wY_run_49 post (n + 1) (nI dp) (nI ca) (nI step) yF yMN yMQ yN yQ yE yLe yLv yLn yIn yPl yBo yFa ki aa ab ac ql qr qb el er eb ce pr po pth sid fl fr fk gu av vy := by
  have hpp : vp_in (nI p) 24 := vp_in_nI hp (by decide)
  have hdd : vp_in (nI dp) 31 := vp_in_nI (by omega) (by decide)
  have hp31 : p < 2 ^ 31 := by omega
  have hd31 : dp < 2 ^ 31 := by omega
  have ix : ∀ s, vp_in s 10 → nI (dp * 10) + s = nI (dp * 10 + s.toNatClampNeg) := fun s hs => zy_ix hs
  have il : ∀ s, vp_in s 10 → dp * 10 + s.toNatClampNeg < 310 := fun s hs => by have := za_inlt hs (by decide); omega
  have il31 : ∀ s, vp_in s 10 → dp * 10 + s.toNatClampNeg < 2 ^ 31 := fun s hs => by have := il s hs; omega
  have ii : ∀ s, vp_in s 10 → vp_in (nI (dp * 10 + s.toNatClampNeg)) 310 := fun s hs => vp_in_nI (il s hs) (by decide)
  rw [wY_run_49]
  refine pk_le 800 step (fun z => absurd z (by omega)) (fun _ => ⟨hdd, nm_r (e' := nI p) (by rw [nI_clamp hd31]; exact ep) (nm_r (za_m10 dp) ⟨hpp, nm_r (e' := 5) (by rw [nI_clamp hp31]; exact k) ⟨hpp, nm_r (za_rd hp31) ⟨hpp, nm_r (za_rd hp31) ⟨hpp, nm_r (za_rd hp31) (zy_scopeAt (by omega) (fun pth sid _ => ?_))⟩⟩⟩⟩)⟩)
  dsimp only
  rw [ix _ v1, nI_clamp (il31 _ v1), ix _ v2, nI_clamp (il31 _ v2), nI_clamp hd31, ep, nI_1 p]
  exact br_f (by decide) (br_f (by decide) (br_f (by decide) (br_t rfl ⟨ii _ v1, ii _ v2, br_c (fun c => ⟨hdd, hdd, nm_e (nm_r (nI_1 step) (h1 (Int32.not_lt.mpr c) _ _ pth sid))⟩) (fun c => h0 (Int32.not_le.mp c) _ _ pth sid)⟩)))
theorem zy_r6 {post : Int32 → SY → Prop} {dp ca step p n : Nat} (hd : dp ≤ 30) (hp : p < 24) (hst : step < 800) (ep : av dp = nI p) {N m0 : Nat} (hN : N ≤ 24) (hpN : p < N) (k : ki p = 6) (v1 : vp_in (aa p) 10) (v2 : vp_in (ab p) 10) (m1 : m0 < N) (m2 : p < m0) (m3 : zw_sec ki p m0)
    (h1 : ¬ ac p < vy (dp * 10 + (aa p).toNatClampNeg) - vy (dp * 10 + (ab p).toNatClampNeg) → ∀ yPl yBo pth sid, wY_run_49 post n (nI dp) (nI ca) (nI (step + 1)) yF yMN yMQ (nI N) yQ yE yLe yLv (nI p) yIn yPl yBo yFa ki aa ab ac ql qr qb el er eb ce pr po pth sid fl fr fk gu (upd av dp (nI (p + 1))) vy)
    (h0 : ac p < vy (dp * 10 + (aa p).toNatClampNeg) - vy (dp * 10 + (ab p).toNatClampNeg) → ∀ m, m < N → zw_sec ki p m → ∀ yPl yBo pth sid, wY_run_49 post n (nI dp) (nI ca) (nI (step + 1)) yF yMN yMQ (nI N) yQ yE yLe yLv (nI p) yIn yPl yBo yFa ki aa ab ac ql qr qb el er eb ce pr po pth sid fl fr fk gu (upd av dp (nI m)) vy) : wY_run_49 post (n + 1) (nI dp) (nI ca) (nI step) yF yMN yMQ (nI N) yQ yE yLe yLv yLn yIn yPl yBo yFa ki aa ab ac ql qr qb el er eb ce pr po pth sid fl fr fk gu av vy := by
  have hpp : vp_in (nI p) 24 := vp_in_nI hp (by decide)
  have hdd : vp_in (nI dp) 31 := vp_in_nI (by omega) (by decide)
  have hp31 : p < 2 ^ 31 := by omega
  have hd31 : dp < 2 ^ 31 := by omega
  have ix : ∀ s, vp_in s 10 → nI (dp * 10) + s = nI (dp * 10 + s.toNatClampNeg) := fun s hs => zy_ix hs
  have il : ∀ s, vp_in s 10 → dp * 10 + s.toNatClampNeg < 310 := fun s hs => by have := za_inlt hs (by decide); omega
  have il31 : ∀ s, vp_in s 10 → dp * 10 + s.toNatClampNeg < 2 ^ 31 := fun s hs => by have := il s hs; omega
  have ii : ∀ s, vp_in s 10 → vp_in (nI (dp * 10 + s.toNatClampNeg)) 310 := fun s hs => vp_in_nI (il s hs) (by decide)
  rw [wY_run_49]
  refine pk_le 800 step (fun z => absurd z (by omega)) (fun _ => ⟨hdd, nm_r (e' := nI p) (by rw [nI_clamp hd31]; exact ep) (nm_r (za_m10 dp) ⟨hpp, nm_r (e' := 6) (by rw [nI_clamp hp31]; exact k) ⟨hpp, nm_r (za_rd hp31) ⟨hpp, nm_r (za_rd hp31) ⟨hpp, nm_r (za_rd hp31) (zy_scopeAt (by omega) (fun pth sid _ => ?_))⟩⟩⟩⟩)⟩)
  dsimp only
  rw [ix _ v1, nI_clamp (il31 _ v1), ix _ v2, nI_clamp (il31 _ v2), nI_clamp hd31, nI_1 p]
  exact br_f (by decide) (br_f (by decide) (br_t rfl ⟨ii _ v1, ii _ v2, br_c (fun c => zy_secondBranch hN hpN m1 m2 m3 (fun m q1 q2 yPl yBo pth sid => ⟨hdd, nm_e (nm_r (nI_1 step) (h0 c m q1 q2 yPl yBo pth sid))⟩)) (fun c => ⟨hdd, nm_e (nm_r (nI_1 step) (h1 c _ _ pth sid))⟩)⟩))
theorem zy_r7 {post : Int32 → SY → Prop} {dp ca step p n : Nat} (hd : dp ≤ 30) (hp : p < 24) (hst : step < 800) (ep : av dp = nI p) (k : ki p = 7) (v1 : vp_in (aa p) 10)
    (h0 : dp = 0 → ∀ yPl yBo pth sid, post 1 (yF, yMN, yMQ, yN, yQ, yE, yLe, vy (dp * 10 + (aa p).toNatClampNeg), nI p, yIn, yPl, yBo, yFa, ki, aa, ab, ac, ql, qr, qb, el, er, eb, ce, pr, po, pth, sid, fl, fr, fk, gu, av, vy))
    (h1 : 0 < dp → ∃ c, c < 24 ∧ zw_sc ki c < 10 ∧ av (dp - 1) = nI c ∧ ∀ yPl yBo pth sid, wY_run_49 post n (nI (dp - 1)) (nI ca) (nI (step + 1)) yF yMN yMQ yN yQ yE yLe yLv (nI p) yIn yPl yBo yFa ki aa ab ac ql qr qb el er eb ce pr po pth sid fl fr fk gu (upd av (dp - 1) (nI (c + 1))) (upd vy ((dp - 1) * 10 + zw_sc ki c) (vy (dp * 10 + (aa p).toNatClampNeg)))) : wY_run_49 post (n + 1) (nI dp) (nI ca) (nI step) yF yMN yMQ yN yQ yE yLe yLv yLn yIn yPl yBo yFa ki aa ab ac ql qr qb el er eb ce pr po pth sid fl fr fk gu av vy := by
  have hpp : vp_in (nI p) 24 := vp_in_nI hp (by decide)
  have hdd : vp_in (nI dp) 31 := vp_in_nI (by omega) (by decide)
  have hp31 : p < 2 ^ 31 := by omega
  have hd31 : dp < 2 ^ 31 := by omega
  have ix : ∀ s, vp_in s 10 → nI (dp * 10) + s = nI (dp * 10 + s.toNatClampNeg) := fun s hs => zy_ix hs
  have il : ∀ s, vp_in s 10 → dp * 10 + s.toNatClampNeg < 310 := fun s hs => by have := za_inlt hs (by decide); omega
  have il31 : ∀ s, vp_in s 10 → dp * 10 + s.toNatClampNeg < 2 ^ 31 := fun s hs => by have := il s hs; omega
  have ii : ∀ s, vp_in s 10 → vp_in (nI (dp * 10 + s.toNatClampNeg)) 310 := fun s hs => vp_in_nI (il s hs) (by decide)
  rw [wY_run_49]
  refine pk_le 800 step (fun z => absurd z (by omega)) (fun _ => ⟨hdd, nm_r (e' := nI p) (by rw [nI_clamp hd31]; exact ep) (nm_r (za_m10 dp) ⟨hpp, nm_r (e' := 7) (by rw [nI_clamp hp31]; exact k) ⟨hpp, nm_r (za_rd hp31) ⟨hpp, nm_r (za_rd hp31) ⟨hpp, nm_r (za_rd hp31) (zy_scopeAt (by omega) (fun pth sid _ => ?_))⟩⟩⟩⟩)⟩)
  dsimp only
  rw [ix _ v1, nI_clamp (il31 _ v1)]
  refine br_f (by decide) (br_t rfl ⟨ii _ v1, nm_e (pk_eq dp 0 (fun c => h0 c _ _ pth sid) (fun z => ?_))⟩)
  obtain ⟨c, hc, hs, ec, H⟩ := h1 (by omega)
  have e1 : nI dp + (-1) = nI (dp - 1) := za_m1 (by omega)
  have e2 : nI (dp - 1) * 10 + nI (zw_sc ki c) = nI ((dp - 1) * 10 + zw_sc ki c) := by rw [za_m10, nI_add]
  have hdd' : vp_in (nI (dp - 1)) 31 := vp_in_nI (by omega) (by decide)
  refine nm_r e1 ⟨hdd', ?_⟩
  rw [nI_clamp (show dp - 1 < 2 ^ 31 by omega), ec]
  refine zy_scopeAt (by omega) (fun pth sid _ => ?_)
  dsimp only
  rw [e2, nI_clamp (show (dp - 1) * 10 + zw_sc ki c < 2 ^ 31 by omega), ec, nI_1 c]
  exact ⟨vp_in_nI (by omega) (by decide), nm_e ⟨hdd', hdd', nm_e (nm_r (nI_1 step) (H _ _ pth sid))⟩⟩
end
end
section
section
variable {xFL xNL xQL xN xFi xWc xNs xNp xBe xQc xEc xIn xIf xCt xLe xDp xCa xPc xRr xLn yF yMN yMQ yN yQ yE yLe yLv yLn yIn yPl yBo yFa : Int32} {ki aa ab ac pa so ow eo sn st wt ql qr qb el er eb cs di ce vx rt pr po pth sid fl fr fk gu av vy : Nat → Int32}
/-- what the waiting activations may still run -/
def zn_S (av : Nat → Int32) : Nat → Nat
  | 0 => 0
  | j + 1 => zn_S av j + (23 - (av j).toNatClampNeg)
theorem zn_S_cg {av' : Nat → Int32} : ∀ d, (∀ j, j < d → av' j = av j) → zn_S av' d = zn_S av d := by
  intro d
  induction d with
  | zero => intro _; rfl
  | succ d ih =>
    intro h
    rw [zn_S, zn_S, ih (fun j hj => h j (by omega)), h d (by omega)]
def zn_R (N : Nat) (ki av rt vx : Nat → Int32) (dp ca pc : Nat) : Prop :=
  dp ≤ ca ∧ ca ≤ 30 ∧ pc < N ∧ av dp = nI pc ∧ (∀ j, j < dp → ∃ c, c < N ∧ ki c = 4 ∧ av j = nI c ∧ rt (j + 1) = nI c) ∧ ∀ j, zr_VR (vx j)
theorem zr_VRu {f : Nat → Int32} {i : Nat} {v : Int32} (h : ∀ j, zr_VR (f j)) (hv : zr_VR v) : ∀ j, zr_VR (upd f i v j) := fun j => by
  by_cases e : j = i
  · rw [e, pk_us]; exact hv
  · rw [pk_un e]; exact h j
theorem zn_nx {F NL N p : Nat} (gt : zr_Gt F NL N ki aa ab ac pa so ow eo sn st wt) (hc : (zw_w ki N).2 = F) (hp : p < N) (h7 : ki p ≠ 7) : p + 1 < N := by
  by_cases e : p + 1 = N
  · have z := zw_n (ki := ki) h7
    rw [e] at z
    have q := gt.2.2.2.2.2.2.2.1 p hp
    have y : (zw_w ki N).2 = (zw_w ki p).2 := by rw [z]
    omega
  · omega
theorem zn_end {F NL N : Nat} (gt : zr_Gt F NL N ki aa ab ac pa so ow eo sn st wt) (hc : (zw_w ki N).2 = F) : (zw_w ki N).1 = [] := by
  cases N with
  | zero => rfl
  | succ M =>
    have q := gt.2.2.2.2.2.2.2.1 M (by omega)
    obtain ⟨z, _⟩ | ⟨_, z, _⟩ := zw_b2_s (ki := ki) M
    · omega
    · exact z
theorem zn_sec {F NL N p : Nat} (gt : zr_Gt F NL N ki aa ab ac pa so ow eo sn st wt) (hc : (zw_w ki N).2 = F) (hp : p < N) (h6 : ki p = 6) : ∃ m, m < N ∧ p < m ∧ zw_sec ki p m := by
  have e := zn_end gt hc
  obtain z | ⟨m, r, h1, h2, h3⟩ := zw_if h6 N hp
  · rw [e] at z; cases z
  · by_cases em : m = N
    · rw [em, e] at h3; exact absurd h3.symm (List.cons_ne_nil _ _)
    · exact ⟨m, by omega, h1, r, h3⟩
theorem zn_run {F NL N Le : Nat} (gt : zr_Gt F NL N ki aa ab ac pa so ow eo sn st wt) (hc : (zw_w ki N).2 = F) (hLe : Le ≤ 8) (hce : ∀ i, zr_VR (ce i)) :
    ∀ (M step dp ca pc : Nat) (xLn yLn : Int32) (av rt vx : Nat → Int32), zn_R N ki av rt vx dp ca pc → 24 * (30 - ca) + (24 - pc) + zn_S av dp ≤ M → step + M ≤ 744 →
    ∃ (r xDp' xCa' xPc' xRr' xLn' : Int32) (rt' av' vx' : Nat → Int32), (∀ j, zr_VR (vx' j)) ∧
      (∀ (post : Int32 → SX → Prop) (n : Nat), M + 1 < n → post r (xFL, xNL, xQL, xN, xFi, xWc, xNs, xNp, xBe, xQc, xEc, xIn, xIf, xCt, nI Le, xDp', xCa', xPc', xRr', xLn', ki, aa, ab, ac, pa, so, ow, eo, sn, st, wt, ql, qr, qb, el, er, eb, cs, di, ce, vx', rt') → wX_run_64 post n 0 (nI step) xFL xNL xQL xN xFi xWc xNs xNp xBe xQc xEc xIn xIf xCt (nI Le) (nI dp) (nI ca) (nI pc) 0 xLn ki aa ab ac pa so ow eo sn st wt ql qr qb el er eb cs di ce vx rt) ∧
      (∀ (post : Int32 → SY → Prop) (n : Nat) (yPl yBo : Int32) (pth sid : Nat → Int32), M < n → (∀ yPl yBo pth sid, post r (yF, yMN, yMQ, nI N, yQ, yE, nI Le, xRr', xLn', yIn, yPl, yBo, yFa, ki, aa, ab, ac, ql, qr, qb, el, er, eb, ce, pr, po, pth, sid, fl, fr, fk, gu, av', vx')) → wY_run_49 post n (nI dp) (nI ca) (nI step) yF yMN yMQ (nI N) yQ yE (nI Le) 0 yLn yIn yPl yBo yFa ki aa ab ac ql qr qb el er eb ce pr po pth sid fl fr fk gu av vx) := by
  have hN := zr_nb gt
  have hF := gt.2.1
  intro M
  induction M with
  | zero =>
    intro step dp ca pc xLn yLn av rt vx R hM hs
    have := R.2.2.1
    omega
  | succ M ih =>
    intro step dp ca pc xLn yLn av rt vx R hM hs
    obtain ⟨r1, r2, r3, r4, r5, r6⟩ := R
    obtain ⟨v0, v1, v2, v3, v4, v5, v6⟩ := gt.2.2.2.2.2.1 pc r3
    have es : so pc = nI (zw_sc ki pc) := (gt.2.2.2.2.1 pc r3).2.1
    have adv : ∀ (pc' : Nat) (vx' : Nat → Int32), pc < pc' → pc' < N → (∀ j, zr_VR (vx' j)) → zn_R N ki (upd av dp (nI pc')) rt vx' dp ca pc' ∧ 24 * (30 - ca) + (24 - pc') + zn_S (upd av dp (nI pc')) dp ≤ M := fun pc' vx' h1 h2 h3 => by
      refine ⟨⟨r1, r2, h2, pk_us, fun j hj => ?_, h3⟩, ?_⟩
      · rw [pk_un (by omega)]; exact r5 j hj
      · rw [zn_S_cg (av := av) dp (fun j hj => pk_un (by omega))]; omega
    have ADV : ∀ (pc' : Nat) (vx' : Nat → Int32), pc < pc' → pc' < N → (∀ j, zr_VR (vx' j)) → _ := fun pc' vx' h1 h2 h3 => ih (step + 1) dp ca pc' (nI pc) (nI pc) (upd av dp (nI pc')) rt vx' (adv pc' vx' h1 h2 h3).1 (adv pc' vx' h1 h2 h3).2 (by omega)
    obtain k | k | k | k | k | k | k := v0
    · have hs10 := v6 (by rw [k]; decide)
      have nx := zn_nx gt hc r3 (by rw [k]; decide)
      by_cases c : zr_VR (vx (dp * 10 + (aa pc).toNatClampNeg) + ab pc)
      · obtain ⟨r, xDp', xCa', xPc', xRr', xLn', rt', av', vx', hV, HX, HY⟩ := ADV (pc + 1) (upd vx (dp * 10 + zw_sc ki pc) (vx (dp * 10 + (aa pc).toNatClampNeg) + ab pc)) (by omega) nx (zr_VRu r6 c)
        exact ⟨r, xDp', xCa', xPc', xRr', xLn', rt', av', vx', hV, fun post n hn H => by
            obtain ⟨n, rfl⟩ : ∃ c, n = c + 1 := ⟨n - 1, by omega⟩
            rw [wX_run_64]
            exact pk_le 800 step (fun z => absurd z (by omega)) (fun _ => br_t rfl (zx_e1 (show dp ≤ 30 by omega) (show pc < 24 by omega) hs10 es k v1 (fun _ => nm_r (nI_1 step) (HX post n (by omega) H)) (fun z => absurd c z))),
          fun post n yPl yBo pth sid hn H => by
            obtain ⟨n, rfl⟩ : ∃ c, n = c + 1 := ⟨n - 1, by omega⟩
            exact zy_r1 (show dp ≤ 30 by omega) (show pc < 24 by omega) (show step < 800 by omega) r4 hs10 k v1 (fun _ yPl yBo pth sid => HY post n yPl yBo pth sid (by omega) H) (fun z => absurd c z)⟩
      · exact ⟨4, nI dp, nI ca, nI pc, 0, nI pc, rt, av, vx, r6, fun post n hn H => by
            obtain ⟨n, rfl⟩ : ∃ c, n = c + 1 + 1 := ⟨n - 2, by omega⟩
            rw [wX_run_64]
            exact pk_le 800 step (fun z => absurd z (by omega)) (fun _ => br_t rfl (zx_e1 (show dp ≤ 30 by omega) (show pc < 24 by omega) hs10 es k v1 (fun z => absurd z c) (fun _ => nm_r (nI_1 step) (zx_fin (by decide) H)))),
          fun post n yPl yBo pth sid hn H => by
            obtain ⟨n, rfl⟩ : ∃ c, n = c + 1 := ⟨n - 1, by omega⟩
            exact zy_r1 (show dp ≤ 30 by omega) (show pc < 24 by omega) (show step < 800 by omega) r4 hs10 k v1 (fun z => absurd z c) (fun _ yPl yBo pth sid => H yPl yBo pth sid)⟩
    · have hs10 := v6 (by rw [k]; decide)
      have nx := zn_nx gt hc r3 (by rw [k]; decide)
      have v3 := v3 k
      by_cases c : zr_VR (vx (dp * 10 + (aa pc).toNatClampNeg) + vx (dp * 10 + (ab pc).toNatClampNeg))
      · obtain ⟨r, xDp', xCa', xPc', xRr', xLn', rt', av', vx', hV, HX, HY⟩ := ADV (pc + 1) (upd vx (dp * 10 + zw_sc ki pc) (vx (dp * 10 + (aa pc).toNatClampNeg) + vx (dp * 10 + (ab pc).toNatClampNeg))) (by omega) nx (zr_VRu r6 c)
        exact ⟨r, xDp', xCa', xPc', xRr', xLn', rt', av', vx', hV, fun post n hn H => by
            obtain ⟨n, rfl⟩ : ∃ c, n = c + 1 := ⟨n - 1, by omega⟩
            rw [wX_run_64]
            exact pk_le 800 step (fun z => absurd z (by omega)) (fun _ => br_t rfl (zx_e2 (show dp ≤ 30 by omega) (show pc < 24 by omega) hs10 es k v1 v3 (fun _ => nm_r (nI_1 step) (HX post n (by omega) H)) (fun z => absurd c z))),
          fun post n yPl yBo pth sid hn H => by
            obtain ⟨n, rfl⟩ : ∃ c, n = c + 1 := ⟨n - 1, by omega⟩
            exact zy_r2 (show dp ≤ 30 by omega) (show pc < 24 by omega) (show step < 800 by omega) r4 hs10 k v1 v3 (fun _ yPl yBo pth sid => HY post n yPl yBo pth sid (by omega) H) (fun z => absurd c z)⟩
      · exact ⟨4, nI dp, nI ca, nI pc, 0, nI pc, rt, av, vx, r6, fun post n hn H => by
            obtain ⟨n, rfl⟩ : ∃ c, n = c + 1 + 1 := ⟨n - 2, by omega⟩
            rw [wX_run_64]
            exact pk_le 800 step (fun z => absurd z (by omega)) (fun _ => br_t rfl (zx_e2 (show dp ≤ 30 by omega) (show pc < 24 by omega) hs10 es k v1 v3 (fun z => absurd z c) (fun _ => nm_r (nI_1 step) (zx_fin (by decide) H)))),
          fun post n yPl yBo pth sid hn H => by
            obtain ⟨n, rfl⟩ : ∃ c, n = c + 1 := ⟨n - 1, by omega⟩
            exact zy_r2 (show dp ≤ 30 by omega) (show pc < 24 by omega) (show step < 800 by omega) r4 hs10 k v1 v3 (fun z => absurd z c) (fun _ yPl yBo pth sid => H yPl yBo pth sid)⟩
    · have hs10 := v6 (by rw [k]; decide)
      have nx := zn_nx gt hc r3 (by rw [k]; decide)
      by_cases c : vp_in (vx (dp * 10 + (aa pc).toNatClampNeg)) Le
      · obtain ⟨r, xDp', xCa', xPc', xRr', xLn', rt', av', vx', hV, HX, HY⟩ := ADV (pc + 1) (upd vx (dp * 10 + zw_sc ki pc) (ce (vx (dp * 10 + (aa pc).toNatClampNeg)).toNatClampNeg)) (by omega) nx (zr_VRu r6 (hce _))
        exact ⟨r, xDp', xCa', xPc', xRr', xLn', rt', av', vx', hV, fun post n hn H => by
            obtain ⟨n, rfl⟩ : ∃ c, n = c + 1 := ⟨n - 1, by omega⟩
            rw [wX_run_64]
            exact pk_le 800 step (fun z => absurd z (by omega)) (fun _ => br_t rfl (zx_e3 (show dp ≤ 30 by omega) (show pc < 24 by omega) hs10 hLe hce es k v1 (fun _ => nm_r (nI_1 step) (HX post n (by omega) H)) (fun z => absurd c z))),
          fun post n yPl yBo pth sid hn H => by
            obtain ⟨n, rfl⟩ : ∃ c, n = c + 1 := ⟨n - 1, by omega⟩
            exact zy_r3 (show dp ≤ 30 by omega) (show pc < 24 by omega) (show step < 800 by omega) r4 hLe hs10 k v1 (fun _ yPl yBo pth sid => HY post n yPl yBo pth sid (by omega) H) (fun z => absurd c z)⟩
      · exact ⟨2, nI dp, nI ca, nI pc, 0, nI pc, rt, av, vx, r6, fun post n hn H => by
            obtain ⟨n, rfl⟩ : ∃ c, n = c + 1 + 1 := ⟨n - 2, by omega⟩
            rw [wX_run_64]
            exact pk_le 800 step (fun z => absurd z (by omega)) (fun _ => br_t rfl (zx_e3 (show dp ≤ 30 by omega) (show pc < 24 by omega) hs10 hLe hce es k v1 (fun z => absurd z c) (fun _ => nm_r (nI_1 step) (zx_fin (by decide) H)))),
          fun post n yPl yBo pth sid hn H => by
            obtain ⟨n, rfl⟩ : ∃ c, n = c + 1 := ⟨n - 1, by omega⟩
            exact zy_r3 (show dp ≤ 30 by omega) (show pc < 24 by omega) (show step < 800 by omega) r4 hLe hs10 k v1 (fun z => absurd z c) (fun _ yPl yBo pth sid => H yPl yBo pth sid)⟩
    · obtain ⟨w1, w2, w3⟩ := v4 k
      obtain ⟨a, ha, ea⟩ := vp_in_of w1 (by omega)
      obtain ⟨n0, n1, n2, n3, n4⟩ := zw_start (ki := ki) (N := N) (f := a) (by omega)
      have est : st a = nI n0 := by
        have z := gt.2.2.2.2.2.2.2.2.2.2.2 n0 n1 n3
        rw [n2] at z
        exact z
      by_cases c : ca = 30
      · exact ⟨4, nI dp, nI ca, nI pc, 0, nI pc, rt, av, vx, r6, fun post n hn H => by
            obtain ⟨n, rfl⟩ : ∃ c, n = c + 1 + 1 := ⟨n - 2, by omega⟩
            rw [wX_run_64]
            exact pk_le 800 step (fun z => absurd z (by omega)) (fun _ => br_t rfl (zx_e4 r1 r2 (show pc < 24 by omega) k (by omega) ea w2 w3 (fun z => absurd c (by omega)) (fun _ => nm_r (nI_1 step) (zx_fin (by decide) H)))),
          fun post n yPl yBo pth sid hn H => by
            obtain ⟨n, rfl⟩ : ∃ c, n = c + 1 := ⟨n - 1, by omega⟩
            exact zy_r4 (show dp ≤ 30 by omega) (show pc < 24 by omega) (show step < 800 by omega) r4 r1 r2 hN k (by omega) ea w2 w3 n1 n2 n4 (fun z => absurd c (by omega)) (fun _ yPl yBo pth sid => H yPl yBo pth sid)⟩
      · have R' : zn_R N ki (upd av (dp + 1) (nI n0)) (upd rt (dp + 1) (nI pc)) (zr_fr vx ((dp + 1) * 10) (nI Le) (vx (dp * 10 + (ab pc).toNatClampNeg)) (vx (dp * 10 + (ac pc).toNatClampNeg))) (dp + 1) (ca + 1) n0 := by
          refine ⟨by omega, by omega, n1, pk_us, fun j hj => ?_, zr_frV r6 (zr_VRn hLe) (r6 _) (r6 _)⟩
          by_cases ej : j = dp
          · subst ej
            exact ⟨pc, r3, k, by rw [pk_un (by omega)]; exact r4, pk_us⟩
          · obtain ⟨c, c1, c2, c3, c4⟩ := r5 j (by omega)
            exact ⟨c, c1, c2, by rw [pk_un (by omega)]; exact c3, by rw [pk_un (by omega)]; exact c4⟩
        have P' : 24 * (30 - (ca + 1)) + (24 - n0) + zn_S (upd av (dp + 1) (nI n0)) (dp + 1) ≤ M := by
          rw [zn_S_cg (av := av) (dp + 1) (fun j hj => pk_un (by omega)), zn_S, r4, nI_clamp (by omega)]
          omega
        obtain ⟨r, xDp', xCa', xPc', xRr', xLn', rt', av', vx', hV, HX, HY⟩ := ih (step + 1) (dp + 1) (ca + 1) n0 (nI pc) (nI pc) _ _ _ R' P' (by omega)
        exact ⟨r, xDp', xCa', xPc', xRr', xLn', rt', av', vx', hV, fun post n hn H => by
            obtain ⟨n, rfl⟩ : ∃ c, n = c + 1 := ⟨n - 1, by omega⟩
            rw [wX_run_64]
            exact pk_le 800 step (fun z => absurd z (by omega)) (fun _ => br_t rfl (zx_e4 r1 r2 (show pc < 24 by omega) k (by omega) ea w2 w3 (fun _ => nm_r (nI_1 step) (by rw [est]; exact HX post n (by omega) H)) (fun z => absurd z c))),
          fun post n yPl yBo pth sid hn H => by
            obtain ⟨n, rfl⟩ : ∃ c, n = c + 1 := ⟨n - 1, by omega⟩
            exact zy_r4 (show dp ≤ 30 by omega) (show pc < 24 by omega) (show step < 800 by omega) r4 r1 r2 hN k (by omega) ea w2 w3 n1 n2 n4 (fun _ yPl yBo pth sid => HY post n yPl yBo pth sid (by omega) H) (fun z => absurd z c)⟩
    · obtain ⟨w1, w2⟩ := v5 (Or.inl k)
      have nx := zn_nx gt hc r3 (by rw [k]; decide)
      by_cases c : ac pc < vx (dp * 10 + (aa pc).toNatClampNeg) - vx (dp * 10 + (ab pc).toNatClampNeg)
      · exact ⟨3, nI dp, nI ca, nI (pc + 1), 0, nI pc, rt, av, vx, r6, fun post n hn H => by
            obtain ⟨n, rfl⟩ : ∃ c, n = c + 1 + 1 := ⟨n - 2, by omega⟩
            rw [wX_run_64]
            exact pk_le 800 step (fun z => absurd z (by omega)) (fun _ => br_t rfl (zx_e5 (show dp ≤ 30 by omega) (show pc < 24 by omega) k v1 w1 (fun z => absurd c z) (fun _ => nm_r (nI_1 step) (zx_fin (by decide) H)))),
          fun post n yPl yBo pth sid hn H => by
            obtain ⟨n, rfl⟩ : ∃ c, n = c + 1 := ⟨n - 1, by omega⟩
            exact zy_r5 (show dp ≤ 30 by omega) (show pc < 24 by omega) (show step < 800 by omega) r4 k v1 w1 (fun z => absurd c z) (fun _ yPl yBo pth sid => H yPl yBo pth sid)⟩
      · obtain ⟨r, xDp', xCa', xPc', xRr', xLn', rt', av', vx', hV, HX, HY⟩ := ADV (pc + 1) vx (by omega) nx r6
        exact ⟨r, xDp', xCa', xPc', xRr', xLn', rt', av', vx', hV, fun post n hn H => by
            obtain ⟨n, rfl⟩ : ∃ c, n = c + 1 := ⟨n - 1, by omega⟩
            rw [wX_run_64]
            exact pk_le 800 step (fun z => absurd z (by omega)) (fun _ => br_t rfl (zx_e5 (show dp ≤ 30 by omega) (show pc < 24 by omega) k v1 w1 (fun _ => nm_r (nI_1 step) (HX post n (by omega) H)) (fun z => absurd z c))),
          fun post n yPl yBo pth sid hn H => by
            obtain ⟨n, rfl⟩ : ∃ c, n = c + 1 := ⟨n - 1, by omega⟩
            exact zy_r5 (show dp ≤ 30 by omega) (show pc < 24 by omega) (show step < 800 by omega) r4 k v1 w1 (fun _ yPl yBo pth sid => HY post n yPl yBo pth sid (by omega) H) (fun z => absurd z c)⟩
    · obtain ⟨w1, w2⟩ := v5 (Or.inr k)
      have nx := zn_nx gt hc r3 (by rw [k]; decide)
      obtain ⟨m0, m1, m2, m3⟩ := zn_sec gt hc r3 k
      have eom : ∀ m, m < N → zw_sec ki pc m → eo pc = nI m := fun m hm ⟨r, hr⟩ => gt.2.2.2.2.2.2.2.2.2.2.1 m pc r hm hr
      by_cases c : ac pc < vx (dp * 10 + (aa pc).toNatClampNeg) - vx (dp * 10 + (ab pc).toNatClampNeg)
      · obtain ⟨r, xDp', xCa', xPc', xRr', xLn', rt', av', vx', hV, HX, HY⟩ := ADV m0 vx m2 m1 r6
        exact ⟨r, xDp', xCa', xPc', xRr', xLn', rt', av', vx', hV, fun post n hn H => by
            obtain ⟨n, rfl⟩ : ∃ c, n = c + 1 := ⟨n - 1, by omega⟩
            rw [wX_run_64]
            exact pk_le 800 step (fun z => absurd z (by omega)) (fun _ => br_t rfl (zx_e6 (show dp ≤ 30 by omega) (show pc < 24 by omega) k v1 w1 (fun z => absurd c z) (fun _ => nm_r (nI_1 step) (by rw [eom m0 m1 m3]; exact HX post n (by omega) H)))),
          fun post n yPl yBo pth sid hn H => by
            obtain ⟨n, rfl⟩ : ∃ c, n = c + 1 := ⟨n - 1, by omega⟩
            exact zy_r6 (show dp ≤ 30 by omega) (show pc < 24 by omega) (show step < 800 by omega) r4 hN r3 k v1 w1 m1 m2 m3 (fun z => absurd c z) (fun _ m q1 q2 yPl yBo pth sid => by
              have e : m = m0 := (nI_eq (by omega) (by omega)).mp ((eom m q1 q2).symm.trans (eom m0 m1 m3))
              subst e
              exact HY post n yPl yBo pth sid (by omega) H)⟩
      · obtain ⟨r, xDp', xCa', xPc', xRr', xLn', rt', av', vx', hV, HX, HY⟩ := ADV (pc + 1) vx (by omega) nx r6
        exact ⟨r, xDp', xCa', xPc', xRr', xLn', rt', av', vx', hV, fun post n hn H => by
            obtain ⟨n, rfl⟩ : ∃ c, n = c + 1 := ⟨n - 1, by omega⟩
            rw [wX_run_64]
            exact pk_le 800 step (fun z => absurd z (by omega)) (fun _ => br_t rfl (zx_e6 (show dp ≤ 30 by omega) (show pc < 24 by omega) k v1 w1 (fun _ => nm_r (nI_1 step) (HX post n (by omega) H)) (fun z => absurd z c))),
          fun post n yPl yBo pth sid hn H => by
            obtain ⟨n, rfl⟩ : ∃ c, n = c + 1 := ⟨n - 1, by omega⟩
            exact zy_r6 (show dp ≤ 30 by omega) (show pc < 24 by omega) (show step < 800 by omega) r4 hN r3 k v1 w1 m1 m2 m3 (fun _ yPl yBo pth sid => HY post n yPl yBo pth sid (by omega) H) (fun z => absurd z c)⟩
    · by_cases c : dp = 0
      · exact ⟨1, nI dp, nI ca, nI pc, vx (dp * 10 + (aa pc).toNatClampNeg), nI pc, rt, av, vx, r6, fun post n hn H => by
            obtain ⟨n, rfl⟩ : ∃ c, n = c + 1 + 1 := ⟨n - 2, by omega⟩
            rw [wX_run_64]
            exact pk_le 800 step (fun z => absurd z (by omega)) (fun _ => br_t rfl (zx_e7 (show dp ≤ 30 by omega) (show pc < 24 by omega) k v1 r6 (fun _ => nm_r (nI_1 step) (zx_fin (by decide) H)) (fun z => absurd c (by omega)))),
          fun post n yPl yBo pth sid hn H => by
            obtain ⟨n, rfl⟩ : ∃ c, n = c + 1 := ⟨n - 1, by omega⟩
            exact zy_r7 (show dp ≤ 30 by omega) (show pc < 24 by omega) (show step < 800 by omega) r4 k v1 (fun _ yPl yBo pth sid => H yPl yBo pth sid) (fun z => absurd c (by omega))⟩
      · obtain ⟨cl, c1, c2, c3, c4⟩ := r5 (dp - 1) (by omega)
        have edp : dp - 1 + 1 = dp := by omega
        rw [edp] at c4
        have nx := zn_nx gt hc c1 (by rw [c2]; decide)
        have sc10 : zw_sc ki cl < 10 := (gt.2.2.2.2.2.1 cl c1).2.2.2.2.2.2 (by rw [c2]; decide)
        have esc : so cl = nI (zw_sc ki cl) := (gt.2.2.2.2.1 cl c1).2.1
        have R' : zn_R N ki (upd av (dp - 1) (nI (cl + 1))) rt (upd vx ((dp - 1) * 10 + zw_sc ki cl) (vx (dp * 10 + (aa pc).toNatClampNeg))) (dp - 1) ca (cl + 1) := by
          refine ⟨by omega, r2, nx, pk_us, fun j hj => ?_, zr_VRu r6 (r6 _)⟩
          rw [pk_un (by omega)]
          exact r5 j (by omega)
        have P' : 24 * (30 - ca) + (24 - (cl + 1)) + zn_S (upd av (dp - 1) (nI (cl + 1))) (dp - 1) ≤ M := by
          have z : zn_S av dp = zn_S av (dp - 1) + (23 - (av (dp - 1)).toNatClampNeg) := by
            have q : zn_S av (dp - 1 + 1) = zn_S av (dp - 1) + (23 - (av (dp - 1)).toNatClampNeg) := rfl
            rw [edp] at q
            exact q
          rw [c3, nI_clamp (by omega)] at z
          rw [zn_S_cg (av := av) (dp - 1) (fun j hj => pk_un (by omega))]
          omega
        obtain ⟨r, xDp', xCa', xPc', xRr', xLn', rt', av', vx', hV, HX, HY⟩ := ih (step + 1) (dp - 1) ca (cl + 1) (nI pc) (nI pc) _ _ _ R' P' (by omega)
        exact ⟨r, xDp', xCa', xPc', xRr', xLn', rt', av', vx', hV, fun post n hn H => by
            obtain ⟨n, rfl⟩ : ∃ c, n = c + 1 := ⟨n - 1, by omega⟩
            rw [wX_run_64]
            exact pk_le 800 step (fun z => absurd z (by omega)) (fun _ => br_t rfl (zx_e7 (show dp ≤ 30 by omega) (show pc < 24 by omega) k v1 r6 (fun z => absurd z c) (fun _ => ⟨cl, zw_sc ki cl, by omega, sc10, c4, esc, nm_r (nI_1 step) (HX post n (by omega) H)⟩))),
          fun post n yPl yBo pth sid hn H => by
            obtain ⟨n, rfl⟩ : ∃ c, n = c + 1 := ⟨n - 1, by omega⟩
            exact zy_r7 (show dp ≤ 30 by omega) (show pc < 24 by omega) (show step < 800 by omega) r4 k v1 (fun z => absurd z c) (fun _ => ⟨cl, by omega, sc10, c3, fun yPl yBo pth sid => HY post n yPl yBo pth sid (by omega) H⟩)⟩
theorem i_vc_run {k : Nat} {u : SX} {v : SY} (I : i_Rel k u v) (hk : k + 5 ≤ 2563) (v1 : Int32) (v2 : Int32) : wpX_run (fun r u' => wpY_run (fun r' v' => r' = r ∧ i_Rel (k + 5) u' v') v v1 v2) u v1 v2 := by
  refine zr_el (P := fun u v => wpX_run (fun r u' => wpY_run (fun r' v' => r' = r ∧ i_Rel (k + 5) u' v') v v1 v2) u v1 v2) ?_ I
  intro F NL QL N Q E Le xIn xIf xCt xDp xCa xPc xRr xLn yPl yBo yFa ki aa ab ac pa so ow eo sn st wt ql qr qb el er eb cs di ce vx rt pr po pth sid fl fr fk gu av vy G
  have G0 := G
  obtain ⟨gt, gq, gc, gv⟩ := G
  have hN := zr_nb gt
  have hb := gt.2.2.2.2.2.2.1
  have hF := gt.2.1
  unfold wpX_run
  by_cases hc : (zw_w ki N).2 = F
  · refine zx_isCm hb hF (fun z => absurd hc z) (fun _ => br_f za_n10 ?_)
    by_cases cx : zr_VR v1
    · refine zx_isV (fun _ => br_f za_n10 ?_) (fun z => absurd cx z)
      by_cases cy : zr_VR v2
      · refine zx_isV (fun _ => br_f za_n10 ?_) (fun z => absurd cy z)
        refine zx_openFrame (dp := 0) (by omega) ?_
        have n0 : 0 < N := by
          cases N with
          | zero =>
            have z : (zw_w ki 0).2 = 0 := rfl
            have := gt.1
            omega
          | succ M => omega
        have est : st 0 = nI 0 := gt.2.2.2.2.2.2.2.2.2.2.2 0 n0 rfl
        have ef : zr_fr vx 0 (nI Le) v1 v2 = zr_fr vy 0 (nI Le) v1 v2 := zr_frg (fun j hj => gv.2.2.1 j (by omega))
        have R : zn_R N ki (upd av 0 (nI 0)) rt (zr_fr vx 0 (nI Le) v1 v2) 0 0 0 := ⟨by omega, by omega, n0, pk_us, fun j hj => absurd hj (Nat.not_lt_zero j), zr_frV gv.2.2.2.1 (zr_VRn gv.1) cx cy⟩
        obtain ⟨r, xDp', xCa', xPc', xRr', xLn', rt', av', vx', hV, HX, HY⟩ := zn_run (xFL := nI F) (xNL := nI NL) (xQL := nI QL) (xN := nI N) (xFi := nI (zw_w ki N).2) (xWc := nI (zw_v ki (zw_w ki N).1).length) (xNs := nI (zw_sc ki N)) (xNp := zw_hp (zw_w ki N).1) (xBe := zw_hs (zw_w ki N).1) (xQc := nI Q) (xEc := nI E) (xIn := xIn) (xIf := xIf) (xCt := xCt) (yF := nI F) (yMN := nI NL) (yMQ := nI QL) (yQ := nI Q) (yE := nI E) (yIn := xIn) (yFa := yFa) (ql := ql) (qr := qr) (qb := qb) (el := el) (er := er) (eb := eb) (cs := cs) (di := di) (pr := pr) (po := po) (fl := fl) (fr := fr) (fk := fk) (gu := gu) gt hc gv.1 gv.2.1 744 0 0 0 0 xLn xLn _ _ _ R (by show 24 * (30 - 0) + (24 - 0) + 0 ≤ 744; omega) (by omega)
        refine nm_r est ⟨746, HX _ 746 (by omega) ?_⟩
        unfold wpY_run
        refine zy_complete hN hF (fun _ pth sid _ => br_f za_n10 (zy_isV (fun _ => br_f za_n10 (zy_isV (fun _ => br_f za_n10 (zy_begin (d := 0) (by omega) ⟨745, ?_⟩)) (fun z => absurd cy z))) (fun z => absurd cx z))) (fun z => absurd hc z)
        have e2 : zr_fr vy (0 * 10) (nI Le) v1 v2 = zr_fr vx 0 (nI Le) v1 v2 := ef.symm
        rw [e2]
        exact HY _ 745 _ _ pth sid (by omega) (fun yPl yBo pth sid => ⟨rfl, zr_in ⟨gt, gq, gc, gv.1, gv.2.1, fun _ _ => rfl, hV, hV⟩⟩)
      · refine zx_isV (fun z => absurd z cy) (fun _ => br_t rfl ?_)
        unfold wpY_run
        exact zy_complete hN hF (fun _ pth sid _ => br_f za_n10 (zy_isV (fun _ => br_f za_n10 (zy_isV (fun z => absurd z cy) (fun _ => br_t rfl ⟨rfl, zr_in G0⟩))) (fun z => absurd cx z))) (fun z => absurd hc z)
    · refine zx_isV (fun z => absurd z cx) (fun _ => br_t rfl ?_)
      unfold wpY_run
      exact zy_complete hN hF (fun _ pth sid _ => br_f za_n10 (zy_isV (fun z => absurd z cx) (fun _ => br_t rfl ⟨rfl, zr_in G0⟩))) (fun z => absurd hc z)
  · refine zx_isCm hb hF (fun _ => br_t rfl ?_) (fun z => absurd z hc)
    unfold wpY_run
    exact zy_complete hN hF (fun z => absurd z hc) (fun _ pth sid _ => br_t rfl ⟨rfl, zr_in G0⟩)
end
end
