section
/-! 01: stores and branches (pk_: rows of the kit to paste), sums of ints, arcs of a net -/
theorem pk_us {f : Nat → Int32} {k : Nat} {x : Int32} : upd f k x k = x := if_pos rfl
theorem pk_un {f : Nat → Int32} {k j : Nat} {x : Int32} (h : j ≠ k) : upd f k x j = f j := if_neg h
theorem pk_sub {a b : Nat} (h : b ≤ a) : nI a - nI b = nI (a - b) := by
  obtain ⟨c, rfl⟩ : ∃ c, a = c + b := ⟨a - b, by omega⟩
  rw [← nI_add, Int32.add_sub_cancel, Nat.add_sub_cancel]
theorem pk_mul (a b : Nat) : nI a * nI b = nI (a * b) := (Int32.ofNat_mul a b).symm
theorem pk_le {x y : Int32} {A B : Prop} (a b : Nat) (f : a ≤ b → A) (g : b < a → B) (hx : x = nI a := by rfl) (hy : y = nI b := by rfl) (ha : a < 2 ^ 31 := by omega) (hb : b < 2 ^ 31 := by omega) : (x ≤ y → A) ∧ (¬ x ≤ y → B) := by
  subst hx hy
  rw [nI_leI ha hb]
  exact ⟨f, fun z => g (by omega)⟩
theorem pk_lt {x y : Int32} {A B : Prop} (a b : Nat) (f : a < b → A) (g : b ≤ a → B) (hx : x = nI a := by rfl) (hy : y = nI b := by rfl) (ha : a < 2 ^ 31 := by omega) (hb : b < 2 ^ 31 := by omega) : (x < y → A) ∧ (¬ x < y → B) := by
  subst hx hy
  rw [nI_ltI ha hb]
  exact ⟨f, fun z => g (by omega)⟩
theorem pk_eq {x y : Int32} {A B : Prop} (a b : Nat) (f : a = b → A) (g : a ≠ b → B) (hx : x = nI a := by rfl) (hy : y = nI b := by rfl) (ha : a < 2 ^ 31 := by omega) (hb : b < 2 ^ 31 := by omega) : (x = y → A) ∧ (¬ x = y → B) := by
  subst hx hy
  rw [nI_eq ha hb]
  exact ⟨f, g⟩
theorem pk_in {x : Int32} (n N : Nat) (h : n < N) (hx : x = nI n := by rfl) (hN : N < 2 ^ 31 := by omega) : vp_in x N := by
  subst hx
  exact vp_in_nI h hN
theorem pk_cl {x : Int32} (n : Nat) (hx : x = nI n := by rfl) (h : n < 2 ^ 31 := by omega) : x.toNatClampNeg = n := by
  subst hx
  exact nI_clamp h

/-- branches by ints -/
theorem qf_le {x y : Int32} {A B : Prop} (f : x.toInt ≤ y.toInt → A) (g : y.toInt < x.toInt → B) : (x ≤ y → A) ∧ (¬ x ≤ y → B) := by
  rw [Int32.le_iff_toInt_le]
  exact ⟨f, fun z => g (by omega)⟩
theorem qf_lt {x y : Int32} {A B : Prop} (f : x.toInt < y.toInt → A) (g : y.toInt ≤ x.toInt → B) : (x < y → A) ∧ (¬ x < y → B) := by
  rw [Int32.lt_iff_toInt_lt]
  exact ⟨f, fun z => g (by omega)⟩
theorem qf_eq {x y : Int32} {A B : Prop} (f : x.toInt = y.toInt → A) (g : x.toInt ≠ y.toInt → B) : (x = y → A) ∧ (¬ x = y → B) := by
  rw [← Int32.toInt_inj]
  exact ⟨f, g⟩
theorem qf_i0 : (0 : Int32).toInt = 0 := by decide
theorem qf_i1 : (1 : Int32).toInt = 1 := by decide
theorem qf_clI {x : Int32} {n : Nat} (h : vp_in x n) : ((x.toNatClampNeg : Nat) : Int) = x.toInt ∧ x.toNatClampNeg < n := by
  have h2 := vp_in_iff.mp h
  have e : x.toNatClampNeg = x.toInt.toNat := rfl
  rw [e]
  omega
theorem qf_in {x : Int32} {n : Nat} (h0 : 0 ≤ x.toInt) (h1 : x.toInt < n) : vp_in x n := vp_in_iff.mpr ⟨h0, h1⟩
theorem qf_add {x y : Int32} (h1 : -100000 ≤ x.toInt + y.toInt) (h2 : x.toInt + y.toInt ≤ 10000000) : (x + y).toInt = x.toInt + y.toInt := Jvm.Kit.i32_add (by omega) (by omega)
theorem qf_sub {x y : Int32} (h1 : -100000 ≤ x.toInt - y.toInt) (h2 : x.toInt - y.toInt ≤ 10000000) : (x - y).toInt = x.toInt - y.toInt := Jvm.Kit.i32_sub (by omega) (by omega)
theorem qf_mul {x y : Int32} (h1 : -100000 ≤ x.toInt * y.toInt) (h2 : x.toInt * y.toInt ≤ 10000000) : (x * y).toInt = x.toInt * y.toInt := Jvm.Kit.i32_mul (by omega) (by omega)
theorem qf_neg {x : Int32} (h : -100000 ≤ x.toInt) : (-x).toInt = -x.toInt := Jvm.Kit.i32_neg (by omega)

/-- an array's contents as ints, as naturals -/
def qf_I (a : Nat → Int32) : Nat → Int := fun j => (a j).toInt
def qf_N (a : Nat → Int32) : Nat → Nat := fun j => (a j).toNatClampNeg
theorem qf_Is {a : Nat → Int32} {k : Nat} {x : Int32} : qf_I (upd a k x) k = x.toInt := congrArg Int32.toInt pk_us
theorem qf_In {a : Nat → Int32} {k j : Nat} {x : Int32} (h : j ≠ k) : qf_I (upd a k x) j = qf_I a j := congrArg Int32.toInt (pk_un h)
theorem qf_Ns {a : Nat → Int32} {k : Nat} {x : Int32} : qf_N (upd a k x) k = x.toNatClampNeg := congrArg Int32.toNatClampNeg pk_us
theorem qf_Nn {a : Nat → Int32} {k j : Nat} {x : Int32} (h : j ≠ k) : qf_N (upd a k x) j = qf_N a j := congrArg Int32.toNatClampNeg (pk_un h)

/-- sums of ints -/
def qf_sm (f : Nat → Int) : Nat → Int
  | 0 => 0
  | n + 1 => qf_sm f n + f n
theorem qf_sm0 (f : Nat → Int) : qf_sm f 0 = 0 := rfl
theorem qf_smS (f : Nat → Int) (n : Nat) : qf_sm f (n + 1) = qf_sm f n + f n := rfl
theorem qf_sm_c {f g : Nat → Int} (n : Nat) (h : ∀ i, i < n → f i = g i) : qf_sm f n = qf_sm g n := by
  induction n with
  | zero => rfl
  | succ n ih => rw [qf_smS, qf_smS, ih (fun i hi => h i (by omega)), h n (by omega)]
theorem qf_sm_le {f g : Nat → Int} (n : Nat) (h : ∀ i, i < n → f i ≤ g i) : qf_sm f n ≤ qf_sm g n := by
  induction n with
  | zero => exact Int.le_refl _
  | succ n ih =>
    rw [qf_smS, qf_smS]
    exact Int.add_le_add (ih fun i hi => h i (by omega)) (h n (by omega))
theorem qf_sm_lt {f g : Nat → Int} {k : Nat} (n : Nat) (hk : k < n) (h : ∀ i, i < n → f i ≤ g i) (hl : f k < g k) : qf_sm f n < qf_sm g n := by
  induction n with
  | zero => omega
  | succ n ih =>
    rw [qf_smS, qf_smS]
    by_cases e : k = n
    · subst e
      have := qf_sm_le (f := f) (g := g) k (fun i hi => h i (by omega))
      omega
    · have := ih (by omega) (fun i hi => h i (by omega))
      have := h n (by omega)
      omega
theorem qf_sm_add (f g : Nat → Int) (n : Nat) : qf_sm (fun i => f i + g i) n = qf_sm f n + qf_sm g n := by
  induction n with
  | zero => rfl
  | succ n ih => simp only [qf_smS, ih]; omega
theorem qf_sm_sub (f g : Nat → Int) (n : Nat) : qf_sm (fun i => f i - g i) n = qf_sm f n - qf_sm g n := by
  induction n with
  | zero => rfl
  | succ n ih => simp only [qf_smS, ih]; omega
theorem qf_sm_mul (c : Int) (f : Nat → Int) (n : Nat) : qf_sm (fun i => c * f i) n = c * qf_sm f n := by
  induction n with
  | zero => exact (Int.mul_zero c).symm
  | succ n ih => simp only [qf_smS, ih, Int.mul_add]
theorem qf_sm_z (n : Nat) : qf_sm (fun _ => 0) n = 0 := by
  induction n with
  | zero => rfl
  | succ n ih => rw [qf_smS, ih]; rfl
theorem qf_sm_nn {f : Nat → Int} (n : Nat) (h : ∀ i, i < n → 0 ≤ f i) : 0 ≤ qf_sm f n := by
  have := qf_sm_le (f := fun _ => 0) (g := f) n h
  rw [qf_sm_z] at this
  exact this
theorem qf_sm_k (c : Int) (n : Nat) : qf_sm (fun _ => c) n = c * (n : Int) := by
  induction n with
  | zero => exact (Int.mul_zero c).symm
  | succ n ih => rw [qf_smS, ih, Int.natCast_add, Int.mul_add]; simp
/-- the sum with one place changed -/
theorem qf_sm_u {f g : Nat → Int} {k : Nat} (n : Nat) (hk : k < n) (h : ∀ i, i < n → i ≠ k → g i = f i) : qf_sm g n = qf_sm f n + (g k - f k) := by
  induction n with
  | zero => omega
  | succ n ih =>
    rw [qf_smS, qf_smS]
    by_cases e : k = n
    · subst e
      have := qf_sm_c (f := g) (g := f) k (fun i hi => h i (by omega) (by omega))
      omega
    · have := ih (by omega) (fun i hi => h i (by omega))
      have := h n (by omega) (by omega)
      omega

/-- ranks below 5 out of any measure -/
theorem qf_rank (N : Nat) (K : Nat → Int) : ∃ r : Nat → Nat, (∀ v, v < N → r v < N) ∧ ∀ a b, a < N → b < N → K a < K b → r a < r b := by
  refine ⟨fun v => (qf_sm (fun w => if K w < K v then 1 else 0) N).toNat, ?_, ?_⟩
  · intro v hv
    have h1 : qf_sm (fun w => if K w < K v then 1 else 0) N < qf_sm (fun _ => 1) N := by
      refine qf_sm_lt (k := v) N hv ?_ ?_
      · intro i _
        split <;> omega
      · rw [if_neg (by omega)]
        omega
    have h2 : 0 ≤ qf_sm (fun w => if K w < K v then 1 else 0) N := by
      refine qf_sm_nn N ?_
      intro i _
      try dsimp only
      split <;> omega
    rw [qf_sm_k] at h1
    try dsimp only
    omega
  · intro a b ha hb hab
    have h1 : qf_sm (fun w => if K w < K a then 1 else 0) N < qf_sm (fun w => if K w < K b then 1 else 0) N := by
      refine qf_sm_lt (k := a) N ha ?_ ?_
      · intro i _
        split <;> split <;> omega
      · rw [if_neg (by omega), if_pos hab]
        omega
    have h2 : 0 ≤ qf_sm (fun w => if K w < K a then 1 else 0) N := by
      refine qf_sm_nn N ?_
      intro i _
      try dsimp only
      split <;> omega
    try dsimp only
    omega

/-- the part above zero -/
def qf_pp (x : Int) : Int := if 0 ≤ x then x else 0
theorem qf_pp_p {x : Int} (h : 0 ≤ x) : qf_pp x = x := if_pos h
theorem qf_pp_n {x : Int} (h : x ≤ 0) : qf_pp x = 0 := by
  unfold qf_pp
  split <;> omega
theorem qf_pp_nn (x : Int) : 0 ≤ qf_pp x := by
  unfold qf_pp
  split <;> omega
theorem qf_pp_ge (x : Int) : x ≤ qf_pp x := by
  unfold qf_pp
  split <;> omega
theorem qf_mle {f u x : Int} (h0 : 0 ≤ f) (h1 : f ≤ u) : f * x ≤ u * qf_pp x := by
  by_cases hx : 0 ≤ x
  · rw [qf_pp_p hx]
    exact Int.mul_le_mul_of_nonneg_right h1 hx
  · rw [qf_pp_n (by omega), Int.mul_zero]
    have h := Int.mul_nonneg h0 (show 0 ≤ -x by omega)
    rw [Int.mul_neg] at h
    omega
theorem qf_meq {f u x : Int} (h0 : 0 ≤ f) (h1 : f ≤ u) (ha : f < u → x ≤ 0) (hb : 0 < f → 0 ≤ x) : f * x = u * qf_pp x := by
  by_cases hx : 0 ≤ x
  · rw [qf_pp_p hx]
    by_cases e : f < u
    · have : x = 0 := by have := ha e; omega
      rw [this, Int.mul_zero, Int.mul_zero]
    · have : f = u := by omega
      rw [this]
  · have : f = 0 := by
      by_cases e : 0 < f
      · have := hb e
        omega
      · omega
    rw [qf_pp_n (by omega), this, Int.zero_mul, Int.mul_zero]

/-- arcs: a line walked on (false) or back (true): tail, head, time, room; the number that stands for it -/
def qf_ta (F T : Nat → Nat) (l : Nat) : Bool → Nat
  | true => T l
  | false => F l
def qf_he (F T : Nat → Nat) (l : Nat) : Bool → Nat
  | true => F l
  | false => T l
def qf_co (m : Nat → Int) (l : Nat) : Bool → Int
  | true => -m l
  | false => m l
def qf_ro (u f : Nat → Int) (l : Nat) : Bool → Int
  | true => f l
  | false => u l - f l
def qf_cd (o l : Nat) : Bool → Int
  | true => (l : Int) + (o : Int)
  | false => (l : Int)
def qf_sg (A : Int) : Bool → Int
  | true => -A
  | false => A
def qf_ix (l : Nat) : Bool → Nat
  | true => 2 * l + 1
  | false => 2 * l
theorem qf_cd_inj {o l l' : Nat} {k k' : Bool} (h : l < o) (h' : l' < o) (e : qf_cd o l k = qf_cd o l' k') : l = l' ∧ k = k' := by
  cases k <;> cases k' <;> simp only [qf_cd] at e
  · exact ⟨by omega, rfl⟩
  · omega
  · omega
  · exact ⟨by omega, rfl⟩
end
section
/-! 02: cuts, the least cut, potentials, ways; no program in sight -/
section
variable (n : Nat) (F T : Nat → Nat) (u m : Nat → Int)
/-- the cut that h gives -/
def qf_cut (h : Nat → Int) : Int := qf_sm (fun l => u l * qf_pp (h (T l) - m l - h (F l))) n
def qf_ph (f h : Nat → Int) : Int := qf_sm (fun l => f l * (h (T l) - m l - h (F l))) n
/-- v is the least cut with 0 at place 0 and z at place 4 -/
def qf_Min (z v : Int) : Prop := (∃ h : Nat → Int, h 0 = 0 ∧ h 4 = z ∧ qf_cut n F T u m h = v) ∧ ∀ h : Nat → Int, h 0 = 0 → h 4 = z → v ≤ qf_cut n F T u m h
def qf_Bd (f : Nat → Int) : Prop := ∀ l, l < n → 0 ≤ f l ∧ f l ≤ u l
/-- p is a potential: no arc with room is shorter than p says -/
def qf_Fe (f p : Nat → Int) : Prop := ∀ (l : Nat) (k : Bool), l < n → 0 < qf_ro u f l k → p (qf_he F T l k) ≤ p (qf_ta F T l k) + qf_co m l k
end
section
variable {n : Nat} {F T : Nat → Nat} {u m f p : Nat → Int}
theorem qf_Min_u {z v w : Int} (a : qf_Min n F T u m z v) (b : qf_Min n F T u m z w) : v = w := by
  obtain ⟨⟨h, h0, h4, e⟩, a2⟩ := a
  obtain ⟨⟨g, g0, g4, e'⟩, b2⟩ := b
  have x1 := a2 g g0 g4
  have x2 := b2 h h0 h4
  omega
theorem qf_ph_le (B : qf_Bd n u f) (h : Nat → Int) : qf_ph n F T m f h ≤ qf_cut n F T u m h :=
  qf_sm_le n fun l hl => qf_mle (B l hl).1 (B l hl).2
theorem qf_ph_eq (B : qf_Bd n u f) (Fe : qf_Fe n F T u m f p) : qf_ph n F T m f p = qf_cut n F T u m p := by
  refine qf_sm_c n fun l hl => ?_
  refine qf_meq (B l hl).1 (B l hl).2 ?_ ?_
  · intro h
    have h2 := Fe l false hl (by show 0 < u l - f l; omega)
    change p (T l) ≤ p (F l) + m l at h2
    omega
  · intro h
    have h2 := Fe l true hl h
    change p (F l) ≤ p (T l) + -m l at h2
    omega
theorem qf_Min_of {z v : Int} (B : qf_Bd n u f) (Fe : qf_Fe n F T u m f p) (h0 : p 0 = 0) (h4 : p 4 = z)
    (hv : ∀ h : Nat → Int, h 0 = 0 → h 4 = z → qf_ph n F T m f h = v) : qf_Min n F T u m z v := by
  refine ⟨⟨p, h0, h4, ?_⟩, ?_⟩
  · rw [← qf_ph_eq B Fe]
    exact hv p h0 h4
  · intro h g0 g4
    rw [← hv h g0 g4]
    exact qf_ph_le B h
end
section
variable (N o n : Nat) (F T : Nat → Nat) (u m f p : Nat → Int) (R : Nat → Prop) (q L : Nat → Int) (r : Nat → Nat)
/-- the last arc of the way to v -/
def qf_PA (v : Nat) : Prop := ∃ (l : Nat) (k : Bool), l < n ∧ L v = qf_cd o l k ∧ qf_he F T l k = v ∧ 0 < qf_ro u f l k ∧ R (qf_ta F T l k) ∧ q v = q (qf_ta F T l k) + qf_co m l k ∧ q (qf_ta F T l k) - p (qf_ta F T l k) ≤ q v - p v ∧ r (qf_ta F T l k) < r v
/-- what a search leaves: the reached, their times, the last arcs, a rank -/
def qf_BR : Prop := (R 0 ∧ q 0 = 0 ∧ p 0 = 0) ∧
  (∀ (l : Nat) (k : Bool), l < n → 0 < qf_ro u f l k → R (qf_ta F T l k) → R (qf_he F T l k) ∧ q (qf_he F T l k) ≤ q (qf_ta F T l k) + qf_co m l k) ∧
  (∀ v, v < N → r v < N) ∧
  (∀ v, v < N → v ≠ 0 → R v → qf_PA o n F T u m f p R q L r v)
/-- the ends of all lines are below N, and no line is a loop -/
def qf_Ends : Prop := 0 < N ∧ ∀ l, l < n → F l < N ∧ T l < N ∧ F l ≠ T l
/-- within d arcs of room A at least the way back from v ends at 0 -/
def qf_PO (A : Int) : Nat → Nat → Prop
  | 0 => fun v => v = 0
  | d + 1 => fun v => v = 0 ∨ (v ≠ 0 ∧ ∃ (l : Nat) (k : Bool), l < n ∧ L v = qf_cd o l k ∧ qf_he F T l k = v ∧ A ≤ qf_ro u f l k ∧ qf_PO A d (qf_ta F T l k))
end
section
variable {N o n : Nat} {F T : Nat → Nat} {u m f p : Nat → Int} {R : Nat → Prop} {q L : Nat → Int} {r : Nat → Nat}
theorem qf_ta_lt (E : qf_Ends N n F T) {l : Nat} (hl : l < n) (k : Bool) : qf_ta F T l k < N ∧ qf_he F T l k < N ∧ qf_ta F T l k ≠ qf_he F T l k := by
  have h := E.2 l hl
  cases k
  · exact h
  · exact ⟨h.2.1, h.1, fun e => h.2.2 e.symm⟩
theorem qf_BR_e (E : qf_Ends N n F T) (B : qf_BR N o n F T u m f p R q L r) : ∀ d v, r v < d → v < N → R v → 0 ≤ q v - p v := by
  obtain ⟨⟨b0, b1, b2⟩, _, _, B4⟩ := B
  intro d
  induction d with
  | zero => intro v h; omega
  | succ d ih =>
    intro v hd hv hR
    by_cases e : v = 0
    · subst e
      omega
    · obtain ⟨l, k, hl, _, _, _, h5, _, h7, h8⟩ := B4 v hv e hR
      have h9 := ih _ (by omega) (qf_ta_lt E hl k).1 h5
      omega
theorem qf_BR_3 (E : qf_Ends N n F T) (hm : ∀ l, l < n → 0 ≤ m l ∧ m l ≤ 3) (B : qf_BR N o n F T u m f p R q L r) : ∀ d v, r v < d → v < N → R v → q v ≤ 3 * (r v : Int) := by
  obtain ⟨⟨b0, b1, b2⟩, _, _, B4⟩ := B
  intro d
  induction d with
  | zero => intro v h; omega
  | succ d ih =>
    intro v hd hv hR
    by_cases e : v = 0
    · subst e
      omega
    · obtain ⟨l, k, hl, _, _, _, h5, h6, h7, h8⟩ := B4 v hv e hR
      have h9 := ih _ (by omega) (qf_ta_lt E hl k).1 h5
      have h10 : qf_co m l k ≤ 3 := by
        have := hm l hl
        cases k
        · exact this.2
        · show -m l ≤ 3
          omega
      omega
/-- the next potential -/
theorem qf_pot (Fe : qf_Fe n F T u m f p) (B : qf_BR N o n F T u m f p R q L r) {α : Int} (hα : 0 ≤ α) :
    ∃ p' : Nat → Int, qf_Fe n F T u m f p' ∧ p' 0 = 0 ∧ (∀ v, R v → q v - p v ≤ α → p' v = q v) ∧ (∀ v, (R v → α ≤ q v - p v) → p' v = p v + α) := by
  obtain ⟨⟨b0, b1, b2⟩, B2, _, _⟩ := B
  obtain ⟨p', c1, c2⟩ : ∃ p' : Nat → Int, (∀ v, R v ∧ q v - p v ≤ α → p' v = q v) ∧ (∀ v, ¬ (R v ∧ q v - p v ≤ α) → p' v = p v + α) := by
    classical
    exact ⟨fun v => if R v ∧ q v - p v ≤ α then q v else p v + α, fun v h => if_pos h, fun v h => if_neg h⟩
  refine ⟨p', ?_, ?_, fun v h1 h2 => c1 v ⟨h1, h2⟩, ?_⟩
  · intro l k hl hr
    have h1 := Fe l k hl hr
    have hb : p' (qf_he F T l k) ≤ p (qf_he F T l k) + α := by
      by_cases h : R (qf_he F T l k) ∧ q (qf_he F T l k) - p (qf_he F T l k) ≤ α
      · rw [c1 _ h]
        omega
      · rw [c2 _ h]
        exact Int.le_refl _
    by_cases h : R (qf_ta F T l k) ∧ q (qf_ta F T l k) - p (qf_ta F T l k) ≤ α
    · rw [c1 _ h]
      have h2 := B2 l k hl hr h.1
      by_cases h3 : q (qf_he F T l k) - p (qf_he F T l k) ≤ α
      · rw [c1 _ ⟨h2.1, h3⟩]
        exact h2.2
      · rw [c2 _ (fun z => h3 z.2)]
        omega
    · rw [c2 _ h]
      omega
  · rw [c1 0 ⟨b0, by omega⟩]
    exact b1
  · intro v h
    by_cases h2 : R v ∧ q v - p v ≤ α
    · rw [c1 v h2]
      have := h h2.1
      omega
    · exact c2 v h2
theorem qf_PO_of (E : qf_Ends N n F T) (B : qf_BR N o n F T u m f p R q L r) : ∀ d v, v < N → R v → r v ≤ d → qf_PO o n F T u f L 1 d v := by
  intro d
  induction d with
  | zero =>
    intro v hv hR h0
    by_cases e : v = 0
    · exact e
    · obtain ⟨l, k, _, _, _, _, _, _, _, h8⟩ := B.2.2.2 v hv e hR
      omega
  | succ d ih =>
    intro v hv hR h0
    by_cases e : v = 0
    · exact Or.inl e
    · obtain ⟨l, k, hl, h2, h3, h4, h5, _, _, h8⟩ := B.2.2.2 v hv e hR
      exact Or.inr ⟨e, l, k, hl, h2, h3, by omega, ih _ (qf_ta_lt E hl k).1 h5 (by omega)⟩
end
section
variable (N n : Nat) (F T : Nat → Nat) (u m f p : Nat → Int) (R : Nat → Prop) (q : Nat → Int) (r : Nat → Nat) (z : Nat) (A : Int)
def qf_Ti (l : Nat) : Prop := R (F l) ∧ R (T l) ∧ q (T l) = q (F l) + m l ∧ q (F l) - p (F l) ≤ q z - p z ∧ q (T l) - p (T l) ≤ q z - p z
/-- A goods have been sent on the way from v to z: the flow was f and is g -/
def qf_SL (v : Nat) (g : Nat → Int) : Prop := (v < N ∧ R v ∧ q v - p v ≤ q z - p z) ∧ qf_Bd n u g ∧
  (∀ h : Nat → Int, qf_ph n F T m g h = qf_ph n F T m f h + A * (h z - h v - q z + q v)) ∧
  (∀ l, l < n → g l = f l ∨ (qf_Ti F T m p R q z l ∧ g l ≤ f l + A ∧ ∃ k : Bool, r v ≤ r (qf_ta F T l k) ∧ r (qf_ta F T l k) < r (qf_he F T l k)))
end
section
variable {N o n : Nat} {F T : Nat → Nat} {u m f p : Nat → Int} {R : Nat → Prop} {q L : Nat → Int} {r : Nat → Nat} {z : Nat} {A : Int}
theorem qf_SL0 (hz : z < N) (hR : R z) (B : qf_Bd n u f) : qf_SL N n F T u m f p R q r z A z f := by
  refine ⟨⟨hz, hR, Int.le_refl _⟩, B, ?_, fun l _ => Or.inl rfl⟩
  intro h
  have e : h z - h z - q z + q z = 0 := by omega
  rw [e, Int.mul_zero, Int.add_zero]
theorem qf_ar1 {x y z w : Int} {A a b : Int} (h : a = x + A * y) (e : b = a + z) (hz : z = A * w) : b = x + A * (y + w) := by
  rw [e, h, hz, Int.mul_add, Int.add_assoc]
theorem qf_SLs {v : Nat} {g g' : Nat → Int} (E : qf_Ends N n F T) (hA : 0 ≤ A) (S : qf_SL N n F T u m f p R q r z A v g) {l : Nat} {k : Bool} (hl : l < n)
    (hv : qf_he F T l k = v) (ho : A ≤ qf_ro u f l k) (hR : R (qf_ta F T l k)) (hq : q v = q (qf_ta F T l k) + qf_co m l k)
    (hp : q (qf_ta F T l k) - p (qf_ta F T l k) ≤ q v - p v) (hr : r (qf_ta F T l k) < r v)
    (g1 : g' l = g l + qf_sg A k) (g2 : ∀ j, j ≠ l → g' j = g j) : qf_SL N n F T u m f p R q r z A (qf_ta F T l k) g' ∧ g l = f l := by
  obtain ⟨⟨s1, s2, s3⟩, S2, S3, S4⟩ := S
  have hgl : g l = f l := by
    rcases S4 l hl with h | ⟨_, _, k', h1, h2⟩
    · exact h
    · exfalso
      subst hv
      cases k <;> cases k' <;> simp only [qf_ta, qf_he] at h1 h2 hr <;> omega
  have hB := S2 l hl
  refine ⟨⟨⟨(qf_ta_lt E hl k).1, hR, by omega⟩, ?_, ?_, ?_⟩, hgl⟩
  · intro j hj
    by_cases e : j = l
    · subst e
      cases k
      · change A ≤ u j - f j at ho
        change g' j = g j + A at g1
        omega
      · change A ≤ f j at ho
        change g' j = g j + -A at g1
        omega
    · rw [g2 j e]
      exact S2 j hj
  · intro h
    have e1 : qf_ph n F T m g' h = qf_ph n F T m g h + (g' l * (h (T l) - m l - h (F l)) - g l * (h (T l) - m l - h (F l))) :=
      qf_sm_u n hl fun i _ hne => by rw [g2 i hne]
    rw [← Int.sub_mul] at e1
    subst hv
    cases k
    · simp only [qf_ta, qf_he, qf_co, qf_sg] at *
      have e2 : g' l - g l = A := by omega
      rw [e2] at e1
      have e3 := qf_ar1 (S3 h) e1 rfl
      rw [e3]
      congr 2
      omega
    · simp only [qf_ta, qf_he, qf_co, qf_sg] at *
      have e2 : g' l - g l = -A := by omega
      rw [e2, Int.neg_mul, ← Int.mul_neg] at e1
      have e3 := qf_ar1 (S3 h) e1 rfl
      rw [e3]
      congr 2
      omega
  · intro j hj
    by_cases e : j = l
    · subst e
      refine Or.inr ⟨?_, ?_, k, Nat.le_refl _, by rw [hv]; exact hr⟩
      · subst hv
        cases k
        · simp only [qf_ta, qf_he, qf_co, qf_sg] at *
          exact ⟨hR, s2, hq, by omega, s3⟩
        · simp only [qf_ta, qf_he, qf_co, qf_sg] at *
          exact ⟨s2, hR, by omega, s3, by omega⟩
      · cases k
        · change g' j = g j + A at g1
          omega
        · change g' j = g j + -A at g1
          omega
    · rw [g2 j e]
      rcases S4 j hj with h | ⟨h1, h2, k', h3, h4⟩
      · exact Or.inl h
      · exact Or.inr ⟨h1, h2, k', by omega, h4⟩
end
end
section
/-! 03: the search for quickest ways, round by round (pure) -/
section
variable (n : Nat) (F T : Nat → Nat) (u m : Nat → Int)
/-- the lines: at most 8, between two of five places, all widths together at most 33 -/
def qf_Net : Prop := n ≤ 8 ∧ (∀ l, l < n → F l < 5 ∧ T l < 5 ∧ F l ≠ T l ∧ 1 ≤ u l ∧ u l ≤ 5 ∧ 0 ≤ m l ∧ m l ≤ 3) ∧ qf_sm u n ≤ 33
end
section
variable (n : Nat) (F T : Nat → Nat) (u m f p : Nat → Int) (c : Nat) (R : Nat → Prop) (q L : Nat → Int) (t : Nat → Nat)
def qf_K (v : Nat) : Int := 1000 * (q v - p v) + (t v : Int)
def qf_PN (v : Nat) : Prop := ∃ (l : Nat) (k : Bool), l < n ∧ L v = qf_cd 8 l k ∧ qf_he F T l k = v ∧ 0 < qf_ro u f l k ∧ R (qf_ta F T l k) ∧
  q (qf_ta F T l k) + qf_co m l k ≤ q v ∧ qf_K p q t (qf_ta F T l k) < qf_K p q t v ∧ t v ≤ t (qf_ta F T l k) + 16
/-- the state at clock c = 16 * round + 2 * line + back; t v is the clock behind the last change of v -/
def qf_BF : Prop := (R 0 ∧ q 0 = 0 ∧ t 0 = 0) ∧
  (∀ v, v < 5 → R v → t v ≤ c ∧ -(3 * (c : Int)) ≤ q v ∧ q v ≤ 3 * (c : Int)) ∧
  (∀ v, v < 5 → v ≠ 0 → R v → qf_PN n F T u m f p R q L t v) ∧
  (∀ (l : Nat) (k : Bool) (s : Nat), l < n → s < c → s % 16 = qf_ix l k → c ≤ s + 16 → 0 < qf_ro u f l k → R (qf_ta F T l k) → t (qf_ta F T l k) ≤ s →
    qf_he F T l k = 0 ∨ (R (qf_he F T l k) ∧ q (qf_he F T l k) ≤ q (qf_ta F T l k) + qf_co m l k))
end
section
variable {n : Nat} {F T : Nat → Nat} {u m f p : Nat → Int} {c : Nat} {R R' : Nat → Prop} {q L q' L' : Nat → Int} {t : Nat → Nat}
theorem qf_Net_E (N : qf_Net n F T u m) : qf_Ends 5 n F T := ⟨by omega, fun l hl => ⟨(N.2.1 l hl).1, (N.2.1 l hl).2.1, (N.2.1 l hl).2.2.1⟩⟩
theorem qf_co3 (N : qf_Net n F T u m) {l : Nat} (hl : l < n) (k : Bool) : -3 ≤ qf_co m l k ∧ qf_co m l k ≤ 3 := by
  have h := N.2.1 l hl
  cases k
  · show -3 ≤ m l ∧ m l ≤ 3
    omega
  · show -3 ≤ -m l ∧ -m l ≤ 3
    omega
theorem qf_bf0 (hR : ∀ v, v < 5 → (R v ↔ v = 0)) (hq : q 0 = 0) : qf_BF n F T u m f p 0 R q L (fun _ => 0) := by
  refine ⟨⟨(hR 0 (by omega)).mpr rfl, hq, rfl⟩, ?_, ?_, ?_⟩
  · intro v hv h
    have e := (hR v hv).mp h
    subst e
    rw [hq]
    exact ⟨Nat.le_refl _, by omega, by omega⟩
  · intro v hv h0 h
    exact absurd ((hR v hv).mp h) h0
  · intro l k s _ h
    omega
/-- nothing to do at this arc -/
theorem qf_bf_no (B : qf_BF n F T u m f p c R q L t) {l : Nat} {k : Bool} (hc : c % 16 = qf_ix l k)
    (hn : 0 < qf_ro u f l k → R (qf_ta F T l k) → qf_he F T l k = 0 ∨ (R (qf_he F T l k) ∧ q (qf_he F T l k) ≤ q (qf_ta F T l k) + qf_co m l k)) :
    qf_BF n F T u m f p (c + 1) R q L t := by
  obtain ⟨B1, B2, B3, B4⟩ := B
  refine ⟨B1, ?_, B3, ?_⟩
  · intro v hv h
    have := B2 v hv h
    omega
  · intro l2 k2 s hl2 hs h16 hc2 hr hR ht
    by_cases e : s = c
    · have e2 : l2 = l ∧ k2 = k := by
        subst e
        rw [hc] at h16
        cases k <;> cases k2 <;> simp only [qf_ix] at h16
        · exact ⟨by omega, rfl⟩
        · omega
        · omega
        · exact ⟨by omega, rfl⟩
      obtain ⟨rfl, rfl⟩ := e2
      exact hn hr hR
    · exact B4 l2 k2 s hl2 (by omega) h16 (by omega) hr hR ht
/-- the clock may run on to the round's end -/
theorem qf_bf_on (B : qf_BF n F T u m f p c R q L t) {c' r : Nat} (hc : c = 16 * r + 2 * n) (hc' : c' = 16 * r + 16) (hn : n ≤ 8) :
    qf_BF n F T u m f p c' R q L t := by
  obtain ⟨B1, B2, B3, B4⟩ := B
  refine ⟨B1, ?_, B3, ?_⟩
  · intro v hv h
    have := B2 v hv h
    omega
  · intro l2 k2 s hl2 hs h16 hc2 hr hR ht
    have : qf_ix l2 k2 < 2 * n := by cases k2 <;> simp only [qf_ix] <;> omega
    exact B4 l2 k2 s hl2 (by omega) h16 (by omega) hr hR ht
/-- the arc gives a quicker way to its head -/
theorem qf_bf_yes (N : qf_Net n F T u m) (Fe : qf_Fe n F T u m f p) (B : qf_BF n F T u m f p c R q L t) {l : Nat} {k : Bool} (hl : l < n) (hc : c % 16 = qf_ix l k) (hc9 : c < 900)
    (hr : 0 < qf_ro u f l k) (hR : R (qf_ta F T l k)) (h0 : qf_he F T l k ≠ 0) (hn : ¬ (R (qf_he F T l k) ∧ q (qf_he F T l k) ≤ q (qf_ta F T l k) + qf_co m l k))
    (R1 : ∀ v, R' v ↔ (v = qf_he F T l k ∨ R v)) (q1 : q' (qf_he F T l k) = q (qf_ta F T l k) + qf_co m l k) (q2 : ∀ v, v ≠ qf_he F T l k → q' v = q v)
    (L1 : L' (qf_he F T l k) = qf_cd 8 l k) (L2 : ∀ v, v ≠ qf_he F T l k → L' v = L v) :
    ∃ t' : Nat → Nat, qf_BF n F T u m f p (c + 1) R' q' L' t' ∧ t' (qf_he F T l k) = c + 1 ∧ ∀ v, v ≠ qf_he F T l k → t' v = t v := by
  obtain ⟨⟨b0, b1, b2⟩, B2, B3, B4⟩ := B
  obtain ⟨a1, a2, a3⟩ := qf_ta_lt (qf_Net_E N) hl k
  have hco := qf_co3 N hl k
  have hFe := Fe l k hl hr
  obtain ⟨t', t1, t2⟩ : ∃ t' : Nat → Nat, t' (qf_he F T l k) = c + 1 ∧ ∀ v, v ≠ qf_he F T l k → t' v = t v :=
    ⟨fun v => if v = qf_he F T l k then c + 1 else t v, if_pos rfl, fun v h => if_neg h⟩
  have hta := B2 _ a1 hR
  have h16 : c + 1 ≤ t (qf_ta F T l k) + 16 := by
    by_cases e : c < 16
    · omega
    · by_cases e2 : c + 1 ≤ t (qf_ta F T l k) + 16
      · exact e2
      · exfalso
        rcases B4 l k (c - 16) hl (by omega) (by omega) (by omega) hr hR (by omega) with h | h
        · exact h0 h
        · exact hn h
  have hbig : R (qf_he F T l k) → q (qf_ta F T l k) + qf_co m l k < q (qf_he F T l k) := by
    intro h
    by_cases e : q (qf_he F T l k) ≤ q (qf_ta F T l k) + qf_co m l k
    · exact absurd ⟨h, e⟩ hn
    · omega
  refine ⟨t', ⟨⟨(R1 0).mpr (Or.inr b0), ?_, ?_⟩, ?_, ?_, ?_⟩, t1, t2⟩
  · rw [q2 0 (fun e => h0 e.symm)]
    exact b1
  · rw [t2 0 (fun e => h0 e.symm)]
    exact b2
  · intro v hv h
    by_cases e : v = qf_he F T l k
    · subst e
      rw [t1, q1]
      omega
    · rw [t2 v e, q2 v e]
      have h2 := B2 v hv (((R1 v).mp h).resolve_left e)
      omega
  · intro v hv hv0 h
    by_cases e : v = qf_he F T l k
    · subst e
      refine ⟨l, k, hl, L1, rfl, hr, (R1 _).mpr (Or.inr hR), ?_, ?_, ?_⟩
      · rw [q1, q2 _ a3]
        exact Int.le_refl _
      · unfold qf_K
        rw [q1, t1, q2 _ a3, t2 _ a3]
        omega
      · rw [t1, t2 _ a3]
        exact h16
    · obtain ⟨l2, k2, h1, h2, h3, h4, h5, h6, h7, h8⟩ := B3 v hv hv0 (((R1 v).mp h).resolve_left e)
      refine ⟨l2, k2, h1, (L2 v e).trans h2, h3, h4, (R1 _).mpr (Or.inr h5), ?_, ?_, ?_⟩
      · rw [q2 v e]
        by_cases e2 : qf_ta F T l2 k2 = qf_he F T l k
        · rw [e2] at h5 h6 ⊢
          have := hbig h5
          omega
        · rw [q2 _ e2]
          exact h6
      · unfold qf_K at h7 ⊢
        rw [q2 v e, t2 v e]
        by_cases e2 : qf_ta F T l2 k2 = qf_he F T l k
        · rw [e2] at h5 h6 h7 ⊢
          have := hbig h5
          rw [q1, t1]
          omega
        · rw [q2 _ e2, t2 _ e2]
          exact h7
      · rw [t2 v e]
        by_cases e2 : qf_ta F T l2 k2 = qf_he F T l k
        · rw [e2, t1]
          have := B2 v hv (((R1 v).mp h).resolve_left e)
          omega
        · rw [t2 _ e2]
          exact h8
  · intro l2 k2 s hl2 hs hs16 hc2 hr2 hR2 ht2
    by_cases e2 : qf_ta F T l2 k2 = qf_he F T l k
    · rw [e2, t1] at ht2
      omega
    · rw [t2 _ e2] at ht2
      rw [q2 _ e2]
      by_cases e : s = c
      · have e3 : l2 = l ∧ k2 = k := by
          subst e
          rw [hc] at hs16
          cases k <;> cases k2 <;> simp only [qf_ix] at hs16
          · exact ⟨by omega, rfl⟩
          · omega
          · omega
          · exact ⟨by omega, rfl⟩
        obtain ⟨rfl, rfl⟩ := e3
        exact Or.inr ⟨(R1 _).mpr (Or.inl rfl), by rw [q1]; exact Int.le_refl _⟩
      · have hR3 := ((R1 _).mp hR2).resolve_left e2
        rcases B4 l2 k2 s hl2 (by omega) hs16 (by omega) hr2 hR3 ht2 with h | ⟨h, h'⟩
        · exact Or.inl h
        · refine Or.inr ⟨(R1 _).mpr (Or.inr h), ?_⟩
          by_cases e4 : qf_he F T l2 k2 = qf_he F T l k
          · rw [e4] at h h' ⊢
            have := hbig h
            omega
          · rw [q2 _ e4]
            exact h'
/-- stamps stay below 64: no change in the fifth round or later -/
theorem qf_bf_64 (N : qf_Net n F T u m) (B : qf_BF n F T u m f p c R q L t) {v : Nat} (hv : v < 5) (hR : R v) : t v ≤ 64 := by
  obtain ⟨⟨b0, b1, b2⟩, B2, B3, B4⟩ := B
  obtain ⟨r, r1, r2⟩ := qf_rank 5 (qf_K p q t)
  have H : ∀ d w, r w < d → w < 5 → R w → t w ≤ 16 * r w := by
    intro d
    induction d with
    | zero => intro w h; omega
    | succ d ih =>
      intro w hd hw hRw
      by_cases e : w = 0
      · subst e
        omega
      · obtain ⟨l2, k2, h1, h2, h3, h4, h5, h6, h7, h8⟩ := B3 w hw e hRw
        have h9 := (qf_ta_lt (qf_Net_E N) h1 k2).1
        have h10 := r2 _ _ h9 hw h7
        have h11 := ih _ (by omega) h9 h5
        omega
  have h1 := H _ v (Nat.lt_succ_self _) hv hR
  have h2 := r1 v hv
  omega
/-- a round without a change: all is settled -/
theorem qf_bf_end (N : qf_Net n F T u m) (Fe : qf_Fe n F T u m f p) (hp : p 0 = 0) {r : Nat} (B : qf_BF n F T u m f p (16 * r + 16) R q L t) (hr : r < 50)
    (hq : ∀ v, v < 5 → R v → t v ≤ 16 * r) : ∃ k : Nat → Nat, qf_BR 5 8 n F T u m f p R q L k := by
  obtain ⟨⟨b0, b1, b2⟩, B2, B3, B4⟩ := B
  obtain ⟨k, r1, r2⟩ := qf_rank 5 (qf_K p q t)
  have N8 := N.1
  have A : ∀ (l : Nat) (k : Bool), l < n → 0 < qf_ro u f l k → R (qf_ta F T l k) → qf_he F T l k = 0 ∨ (R (qf_he F T l k) ∧ q (qf_he F T l k) ≤ q (qf_ta F T l k) + qf_co m l k) := by
    intro l k hl hro hR
    have hi : qf_ix l k < 16 := by cases k <;> simp only [qf_ix] <;> omega
    have h1 := hq _ (qf_ta_lt (qf_Net_E N) hl k).1 hR
    exact B4 l k (16 * r + qf_ix l k) hl (by omega) (by omega) (by omega) hro hR (by omega)
  have P : ∀ v, v < 5 → v ≠ 0 → R v → qf_PA 8 n F T u m f p R q L k v := by
    intro v hv hv0 hR
    obtain ⟨l2, k2, h1, h2, h3, h4, h5, h6, h7, h8⟩ := B3 v hv hv0 hR
    have h9 := (qf_ta_lt (qf_Net_E N) h1 k2).1
    have hz := hq _ h9 h5
    have hz2 := hq _ hv hR
    refine ⟨l2, k2, h1, h2, h3, h4, h5, ?_, ?_, r2 _ _ h9 hv h7⟩
    · rcases A l2 k2 h1 h4 h5 with h | ⟨_, h⟩
      · exact absurd (h3.symm.trans h) hv0
      · rw [h3] at h
        omega
    · unfold qf_K at h7
      omega
  refine ⟨k, ⟨b0, b1, hp⟩, ?_, r1, P⟩
  intro l k2 hl hro hR
  rcases A l k2 hl hro hR with h | h
  · have h3 := Fe l k2 hl hro
    have h4 : 0 ≤ q (qf_ta F T l k2) - p (qf_ta F T l k2) := by
      have H : ∀ d w, k w < d → w < 5 → R w → 0 ≤ q w - p w := by
        intro d
        induction d with
        | zero => intro w h; omega
        | succ d ih =>
          intro w hd hw hRw
          by_cases e : w = 0
          · subst e
            omega
          · obtain ⟨l3, k3, g1, _, _, _, g5, _, g7, g8⟩ := P w hw e hRw
            have := ih _ (by omega) (qf_ta_lt (qf_Net_E N) g1 k3).1 g5
            omega
      exact H _ _ (Nat.lt_succ_self _) (qf_ta_lt (qf_Net_E N) hl k2).1 hR
    rw [h] at h3 ⊢
    exact ⟨b0, by omega⟩
  · exact h
end
end
section
/-! 04: flow along quickest ways (pure): what is kept from way to way, and what it gives -/
section
variable (n : Nat) (F T : Nat → Nat) (u m f p : Nat → Int) (D : Int) (w : Nat) (wt wa : Nat → Int)
def qf_S (z : Int) : Int := qf_sm (fun k => wa k * qf_pp (z - wt k)) w
def qf_SS : Prop := (qf_Bd n u f ∧ qf_Fe n F T u m f p ∧ p 0 = 0 ∧ p 4 = D ∧ 0 ≤ D) ∧
  (∀ h : Nat → Int, qf_ph n F T m f h = qf_sm (fun k => wa k * (h 4 - h 0 - wt k)) w) ∧
  (∀ k, k < w → 1 ≤ wa k ∧ wt 0 ≤ wt k ∧ 0 ≤ wt k ∧ wt k ≤ D ∧ wt k ≤ 12) ∧
  (∀ z, 1 ≤ z → z ≤ D → qf_Min n F T u m z (qf_S w wt wa z))
/-- what the ways give -/
def qf_FW : Prop := (∀ z, 1 ≤ z → qf_Min n F T u m z (qf_S w wt wa z)) ∧ qf_Min n F T u (fun _ => 0) 1 (qf_sm wa w) ∧
  (∀ k, k < w → 1 ≤ wa k ∧ wt 0 ≤ wt k ∧ 0 ≤ wt k ∧ wt k ≤ 12) ∧ qf_sm wa w ≤ 33
end
section
variable {n : Nat} {F T : Nat → Nat} {u m f p : Nat → Int} {D : Int} {w : Nat} {wt wa wt' wa' : Nat → Int} {R : Nat → Prop} {q L : Nat → Int} {r : Nat → Nat}
theorem qf_SS0 (N : qf_Net n F T u m) (hf : ∀ l, l < n → f l = 0) : qf_SS n F T u m f (fun _ => 0) 0 0 wt wa := by
  refine ⟨⟨?_, ?_, rfl, rfl, Int.le_refl _⟩, ?_, ?_, ?_⟩
  · intro l hl
    have := N.2.1 l hl
    rw [hf l hl]
    omega
  · intro l k hl hr
    have := N.2.1 l hl
    cases k
    · show (0 : Int) ≤ 0 + m l
      omega
    · change 0 < f l at hr
      rw [hf l hl] at hr
      omega
  · intro h
    show qf_sm (fun l => f l * (h (T l) - m l - h (F l))) n = 0
    rw [qf_sm_c (g := fun _ => 0) n (fun l hl => by rw [hf l hl, Int.zero_mul]), qf_sm_z]
  · intro k hk
    omega
  · intro z h1 h2
    omega
theorem qf_val (S : qf_SS n F T u m f p D w wt wa) (h : Nat → Int) : qf_sm (fun l => f l * (h (T l) - h (F l))) n = (h 4 - h 0) * qf_sm wa w := by
  have e1 := S.2.1 h
  have e2 := S.2.1 (fun _ => 0)
  have e3 : qf_sm (fun l => f l * (h (T l) - h (F l))) n = qf_ph n F T m f h - qf_ph n F T m f (fun _ => 0) := by
    unfold qf_ph
    rw [← qf_sm_sub]
    refine qf_sm_c n fun l hl => ?_
    rw [← Int.mul_sub]
    congr 1
    dsimp only
    omega
  have e4 : qf_sm (fun k => wa k * (h 4 - h 0 - wt k)) w - qf_sm (fun k => wa k * (0 - 0 - wt k)) w = (h 4 - h 0) * qf_sm wa w := by
    rw [← qf_sm_sub, ← qf_sm_mul]
    refine qf_sm_c w fun k hk => ?_
    rw [← Int.mul_sub, Int.mul_comm]
    congr 1
    omega
  rw [e3, e1, e2]
  exact e4
theorem qf_SS_33 (N : qf_Net n F T u m) (S : qf_SS n F T u m f p D w wt wa) : qf_sm wa w ≤ 33 ∧ (w : Int) ≤ qf_sm wa w := by
  constructor
  · have e := qf_val S (fun v => if v = 4 then 1 else 0)
    have e2 : ((if (4 : Nat) = 4 then 1 else 0) - (if (0 : Nat) = 4 then 1 else 0) : Int) * qf_sm wa w = qf_sm wa w := by
      rw [if_pos rfl, if_neg (by omega)]
      omega
    try dsimp only at e
    rw [e2] at e
    rw [← e]
    refine Int.le_trans (qf_sm_le n (g := u) ?_) N.2.2
    intro l hl
    have hb := S.1.1 l hl
    try dsimp only
    have h : f l * ((if T l = 4 then 1 else 0) - (if F l = 4 then 1 else 0)) ≤ f l * 1 := by
      refine Int.mul_le_mul_of_nonneg_left ?_ hb.1
      split <;> split <;> omega
    omega
  · have e := qf_sm_le (f := fun _ => 1) (g := wa) w fun k hk => (S.2.2.1 k hk).1
    rw [qf_sm_k] at e
    omega
theorem qf_SS_z (S : qf_SS n F T u m f p D w wt wa) (B : qf_BR 5 8 n F T u m f p R q L r) {z : Int} (hz : D ≤ z) (h4 : R 4 → z ≤ q 4) : qf_Min n F T u m z (qf_S w wt wa z) := by
  obtain ⟨⟨S1, S2, S3, S4, S5⟩, S6, S7, S8⟩ := S
  obtain ⟨p', c1, c2, c3, c4⟩ := qf_pot S2 B (α := z - D) (by omega)
  refine qf_Min_of S1 c1 c2 ?_ ?_
  · rw [c4 4 (fun h => by have := h4 h; omega)]
    omega
  · intro h h0 hz4
    rw [S6 h]
    refine qf_sm_c w fun k hk => ?_
    have := S7 k hk
    rw [qf_pp_p (by omega), h0, hz4]
    congr 1
    omega
theorem qf_SS_s (N : qf_Net n F T u m) (S : qf_SS n F T u m f p D w wt wa) (B : qf_BR 5 8 n F T u m f p R q L r) (h4 : R 4) {A : Int} (hA : 1 ≤ A) {g : Nat → Int}
    (G : qf_SL 5 n F T u m f p R q r 4 A 0 g) (t1 : ∀ k, k < w → wt' k = wt k) (t2 : wt' w = q 4) (a1 : ∀ k, k < w → wa' k = wa k) (a2 : wa' w = A) :
    ∃ p' : Nat → Int, qf_SS n F T u m g p' (q 4) (w + 1) wt' wa' := by
  have SZ := fun z hz => qf_SS_z S B (z := z) hz
  have E := qf_Net_E N
  obtain ⟨⟨S1, S2, S3, S4, S5⟩, S6, S7, S8⟩ := S
  have d1 := qf_BR_e E B _ 4 (Nat.lt_succ_self _) (by omega) h4
  have d2 := qf_BR_3 E (fun l hl => ⟨(N.2.1 l hl).2.2.2.2.2.1, (N.2.1 l hl).2.2.2.2.2.2⟩) B _ 4 (Nat.lt_succ_self _) (by omega) h4
  have d3 := B.2.2.1 4 (by omega)
  have b1 := B.1.2.1
  obtain ⟨p', c1, c2, c3, c4⟩ := qf_pot S2 B (α := q 4 - D) (by omega)
  obtain ⟨_, G2, G3, G4⟩ := G
  have hS : ∀ z, z ≤ q 4 → qf_S (w + 1) wt' wa' z = qf_S w wt wa z := by
    intro z hz
    unfold qf_S
    rw [qf_smS, t2, a2, qf_pp_n (by omega), Int.mul_zero, Int.add_zero]
    exact qf_sm_c w fun k hk => by rw [t1 k hk, a1 k hk]
  refine ⟨p', ⟨G2, ?_, c2, ?_, by omega⟩, ?_, ?_, ?_⟩
  · intro l k hl hr
    rcases G4 l hl with h | ⟨h, _, _⟩
    · refine c1 l k hl ?_
      cases k
      · change 0 < u l - g l at hr
        show 0 < u l - f l
        omega
      · change 0 < g l at hr
        show 0 < f l
        omega
    · obtain ⟨x1, x2, x3, x4, x5⟩ := h
      have y1 := c3 _ x1 (by omega)
      have y2 := c3 _ x2 (by omega)
      cases k
      · show p' (T l) ≤ p' (F l) + m l
        omega
      · show p' (F l) ≤ p' (T l) + -m l
        omega
  · rw [c3 4 h4 (by omega)]
  · intro h
    rw [G3 h, S6 h, qf_smS, t2, a2, b1]
    congr 1
    · exact qf_sm_c w fun k hk => by rw [t1 k hk, a1 k hk]
    · congr 1
      omega
  · intro k hk
    by_cases e : k < w
    · have := S7 k e
      rw [a1 k e, t1 k e, t1 0 (by omega)]
      omega
    · have e2 : k = w := by omega
      subst e2
      rw [a2, t2]
      refine ⟨hA, ?_, by omega, by omega, by omega⟩
      by_cases e3 : k = 0
      · subst e3
        rw [t2]
        exact Int.le_refl _
      · have := S7 0 (by omega)
        rw [t1 0 (by omega)]
        omega
  · intro z h1 h2
    rw [hS z h2]
    by_cases e : z ≤ D
    · exact S8 z h1 e
    · exact SZ z (by omega) (fun _ => h2)
theorem qf_SS_e (N : qf_Net n F T u m) (S : qf_SS n F T u m f p D w wt wa) (B : qf_BR 5 8 n F T u m f p R q L r) (h4 : ¬ R 4) : qf_FW n F T u m w wt wa := by
  have SZ := fun z hz => qf_SS_z S B (z := z) hz
  have H33 := (qf_SS_33 N S).1
  have V := qf_val S
  obtain ⟨⟨S1, S2, S3, S4, S5⟩, S6, S7, S8⟩ := S
  obtain ⟨⟨b0, _, _⟩, B2, _, _⟩ := B
  refine ⟨?_, ?_, fun k hk => ?_, H33⟩
  · intro z h1
    by_cases e : z ≤ D
    · exact S8 z h1 e
    · exact SZ z (by omega) (fun h => absurd h h4)
  · obtain ⟨h, c1, c2⟩ : ∃ h : Nat → Int, (∀ v, R v → h v = 0) ∧ (∀ v, ¬ R v → h v = 1) := by
      classical
      exact ⟨fun v => if R v then 0 else 1, fun v h => if_pos h, fun v h => if_neg h⟩
    refine qf_Min_of (p := h) S1 ?_ (c1 0 b0) (c2 4 h4) ?_
    · intro l k hl hr
      have e : qf_co (fun _ => 0) l k = 0 := by cases k <;> rfl
      rw [e]
      by_cases h1 : R (qf_ta F T l k)
      · rw [c1 _ h1, c1 _ (B2 l k hl hr h1).1]
        omega
      · rw [c2 _ h1]
        by_cases h2 : R (qf_he F T l k)
        · rw [c1 _ h2]
          omega
        · rw [c2 _ h2]
          omega
    · intro g g0 g4
      have e := V g
      rw [g0, g4] at e
      have e2 : qf_ph n F T (fun _ => 0) f g = qf_sm (fun l => f l * (g (T l) - g (F l))) n := by
        refine qf_sm_c n fun l hl => ?_
        congr 1
        dsimp only
        omega
      rw [e2, e]
      omega
  · have := S7 k hk
    omega
/-- the sums are small -/
theorem qf_FW_b (W : qf_FW n F T u m w wt wa) {z : Int} (h0 : 0 ≤ z) (hz : z ≤ 13) : ∀ j, j ≤ w → 0 ≤ qf_S j wt wa z ∧ qf_S j wt wa z ≤ 429 ∧ 0 ≤ qf_sm wa j ∧ qf_sm wa j ≤ 33 := by
  obtain ⟨_, _, W3, W4⟩ := W
  have mono : ∀ d j, j + d = w → qf_sm wa j ≤ 33 := by
    intro d
    induction d with
    | zero =>
      intro j hj
      have e : j = w := by omega
      rw [e]
      exact W4
    | succ d ih =>
      intro j hj
      have h1 := ih (j + 1) (by omega)
      have h2 := W3 j (by omega)
      rw [qf_smS] at h1
      omega
  intro j hj
  have h1 := mono (w - j) j (by omega)
  have h2 : 0 ≤ qf_sm wa j := qf_sm_nn j fun i hi => by have := W3 i (by omega); omega
  have h3 : 0 ≤ qf_S j wt wa z := qf_sm_nn j fun i hi => Int.mul_nonneg (by have := W3 i (by omega); omega) (qf_pp_nn _)
  have h4 : qf_S j wt wa z ≤ 13 * qf_sm wa j := by
    rw [← qf_sm_mul]
    refine qf_sm_le j fun i hi => ?_
    have h := W3 i (by omega)
    rw [Int.mul_comm 13]
    refine Int.mul_le_mul_of_nonneg_left ?_ (by omega)
    unfold qf_pp
    split <;> omega
  omega
end
end
section
/-! 05: the component's search for quickest ways -/
def qf_R (V : Nat → Int32) : Nat → Prop := fun v => ¬ V v = 0
def qf_kI : Bool → Int32
  | true => 1
  | false => 0
def qf_ll (x : Int32) : Bool → Int32
  | true => x + 8
  | false => x
/-- the lines as they stand in the arrays -/
def qf_Lin (n : Nat) (A B C D : Nat → Int32) : Prop := (∀ l, l < n → vp_in (A l) 5 ∧ vp_in (B l) 5) ∧ qf_Net n (qf_N A) (qf_N B) (qf_I C) (qf_I D)
theorem qf_nar1 : vp_nar .boolean 1 = 1 := rfl
theorem qf_nar0 : vp_nar .boolean 0 = 0 := rfl
theorem qf_10 : ¬ (1 : Int32) = 0 := by decide
section
variable {n l : Nat} {k : Bool} {fw : Int32} {A B C D fl Q V L wt wa : Nat → Int32} {p : Nat → Int}
theorem qf_r141 {post : Int32 → SX → Prop} {x1 x4 x6 : Int32} (h4 : vp_in x4 5)
    (h : post 1 (nI n, fw, A, B, C, D, fl, upd Q x4.toNatClampNeg x6, upd V x4.toNatClampNeg 1, upd L x4.toNatClampNeg (qf_ll x1 k), wt, wa)) :
    wX_relax_141 post x1 (qf_kI k) x4 x6 (nI n) fw A B C D fl Q V L wt wa := by
  unfold wX_relax_141
  refine ⟨h4, fun a ea => ⟨h4, fun b eb => ?_⟩⟩
  rw [qf_nar1] at ea
  subst ea eb
  cases k
  · exact br_t rfl ⟨h4, fun c ec => by subst ec; exact h⟩
  · exact br_f qf_10 ⟨h4, fun c ec => by subst ec; exact h⟩
theorem qf_r95 {post : Int32 → SX → Prop} {x1 x3 x4 x5 z0 z1 : Int32} (h3 : vp_in x3 5) (h4 : vp_in x4 5)
    (hno : (¬ x5 = 0 → ¬ V x3.toNatClampNeg = 0 → x4 = 0 ∨ (¬ V x4.toNatClampNeg = 0 ∧ ¬ z1 + z0 < Q x4.toNatClampNeg)) → post 0 (nI n, fw, A, B, C, D, fl, Q, V, L, wt, wa))
    (hyes : ¬ x5 = 0 → ¬ V x3.toNatClampNeg = 0 → ¬ x4 = 0 → (V x4.toNatClampNeg = 0 ∨ z1 + z0 < Q x4.toNatClampNeg) →
      post 1 (nI n, fw, A, B, C, D, fl, upd Q x4.toNatClampNeg (z1 + z0), upd V x4.toNatClampNeg 1, upd L x4.toNatClampNeg (qf_ll x1 k), wt, wa)) :
    wX_relax_95 post x1 (qf_kI k) x3 x4 x5 z0 z1 (nI n) fw A B C D fl Q V L wt wa := by
  unfold wX_relax_95
  intro x6 e
  subst e
  exact ⟨h3, br_c (fun h => hno fun _ hr => absurd h hr) fun hV => br_c (fun h => hno fun h5 _ => absurd h h5) fun h5 =>
    br_c (fun h => hno fun _ _ => Or.inl h) fun h40 => ⟨h4, br_c (fun hV4 => qf_r141 h4 (hyes h5 hV h40 (Or.inl hV4))) fun hV4 =>
      ⟨h4, br_c (fun hlt => qf_r141 h4 (hyes h5 hV h40 (Or.inr hlt))) fun hlt => hno fun _ _ => Or.inr ⟨hV4, hlt⟩⟩⟩⟩
theorem qf_cl0 {x : Int32} {N : Nat} (h : vp_in x N) : x = 0 ↔ x.toNatClampNeg = 0 := by
  have h1 := qf_clI h
  rw [← Int32.toInt_inj, qf_i0]
  omega
/-- one call of relax, by pure facts -/
theorem qf_relax {post : Int32 → SX → Prop} (Ln : qf_Lin n A B C D) (Bd : qf_Bd n (qf_I C) (qf_I fl)) (hl : l < n)
    (hq : qf_R V (qf_ta (qf_N A) (qf_N B) l k) → -3000 ≤ qf_I Q (qf_ta (qf_N A) (qf_N B) l k) ∧ qf_I Q (qf_ta (qf_N A) (qf_N B) l k) ≤ 3000)
    (hno : (0 < qf_ro (qf_I C) (qf_I fl) l k → qf_R V (qf_ta (qf_N A) (qf_N B) l k) → qf_he (qf_N A) (qf_N B) l k = 0 ∨
      (qf_R V (qf_he (qf_N A) (qf_N B) l k) ∧ qf_I Q (qf_he (qf_N A) (qf_N B) l k) ≤ qf_I Q (qf_ta (qf_N A) (qf_N B) l k) + qf_co (qf_I D) l k)) →
      post 0 (nI n, fw, A, B, C, D, fl, Q, V, L, wt, wa))
    (hyes : 0 < qf_ro (qf_I C) (qf_I fl) l k → qf_R V (qf_ta (qf_N A) (qf_N B) l k) → qf_he (qf_N A) (qf_N B) l k ≠ 0 →
      ¬ (qf_R V (qf_he (qf_N A) (qf_N B) l k) ∧ qf_I Q (qf_he (qf_N A) (qf_N B) l k) ≤ qf_I Q (qf_ta (qf_N A) (qf_N B) l k) + qf_co (qf_I D) l k) →
      ∀ x y : Int32, x.toInt = qf_I Q (qf_ta (qf_N A) (qf_N B) l k) + qf_co (qf_I D) l k → y.toInt = qf_cd 8 l k →
      post 1 (nI n, fw, A, B, C, D, fl, upd Q (qf_he (qf_N A) (qf_N B) l k) x, upd V (qf_he (qf_N A) (qf_N B) l k) 1, upd L (qf_he (qf_N A) (qf_N B) l k) y, wt, wa)) :
    wpX_relax post (nI n, fw, A, B, C, D, fl, Q, V, L, wt, wa) (nI l) (qf_kI k) := by
  have N8 := Ln.2.1
  have N1 := Ln.2.2.1 l hl
  have hA := (Ln.1 l hl).1
  have hB := (Ln.1 l hl).2
  have h31 : l < 2 ^ 31 := by omega
  have h8 : vp_in (nI l) 8 := vp_in_nI (by omega) (by omega)
  have eC : (nI l).toNatClampNeg = l := nI_clamp h31
  have hb := Bd l hl
  have b1 : 0 ≤ (fl l).toInt := hb.1
  have b2 : (fl l).toInt ≤ (C l).toInt := hb.2
  have b3 : 0 ≤ (D l).toInt := N1.2.2.2.2.2.1
  have b4 : (D l).toInt ≤ 3 := N1.2.2.2.2.2.2
  have b5 : (C l).toInt ≤ 5 := N1.2.2.2.2.1
  have hA5 : vp_in (A (nI l).toNatClampNeg) 5 := by rw [eC]; exact hA
  have hB5 : vp_in (B (nI l).toNatClampNeg) 5 := by rw [eC]; exact hB
  cases k
  · have e1 : (C l - fl l).toInt = (C l).toInt - (fl l).toInt := qf_sub (by omega) (by omega)
    refine br_t rfl ⟨h8, br_t rfl ⟨h8, br_t rfl ⟨h8, h8, hA5, br_t rfl ⟨h8, ?_⟩⟩⟩⟩
    rw [eC]
    refine qf_r95 (k := false) hA hB ?_ ?_
    · intro H
      refine hno fun h1 h2 => ?_
      change 0 < (C l).toInt - (fl l).toInt at h1
      have h3 := hq h2
      change -3000 ≤ (Q (A l).toNatClampNeg).toInt ∧ (Q (A l).toNatClampNeg).toInt ≤ 3000 at h3
      rcases H (fun z => by rw [← Int32.toInt_inj, e1, qf_i0] at z; omega) h2 with h | ⟨h, h'⟩
      · exact Or.inl ((qf_cl0 hB).mp h)
      · refine Or.inr ⟨h, ?_⟩
        rw [Int32.lt_iff_toInt_lt, qf_add (by omega) (by omega)] at h'
        show (Q (B l).toNatClampNeg).toInt ≤ (Q (A l).toNatClampNeg).toInt + (D l).toInt
        omega
    · intro h5 hV h4 hd
      have h3 := hq hV
      change -3000 ≤ (Q (A l).toNatClampNeg).toInt ∧ (Q (A l).toNatClampNeg).toInt ≤ 3000 at h3
      have e2 : (Q (A l).toNatClampNeg + D l).toInt = (Q (A l).toNatClampNeg).toInt + (D l).toInt := qf_add (by omega) (by omega)
      refine hyes ?_ hV (fun z => h4 ((qf_cl0 hB).mpr z)) ?_ _ _ e2 ?_
      · show 0 < (C l).toInt - (fl l).toInt
        rw [← Int32.toInt_inj, e1, qf_i0] at h5
        omega
      · rintro ⟨g1, g2⟩
        rcases hd with h | h
        · exact g1 h
        · rw [Int32.lt_iff_toInt_lt, e2] at h
          change (Q (B l).toNatClampNeg).toInt ≤ (Q (A l).toNatClampNeg).toInt + (D l).toInt at g2
          omega
      · show (nI l).toInt = _
        exact nI_toInt h31
  · have e1 : (-(D l)).toInt = -(D l).toInt := qf_neg (by omega)
    refine br_f qf_10 ⟨h8, br_f qf_10 ⟨h8, br_f qf_10 ⟨h8, hB5, br_f qf_10 ⟨h8, ?_⟩⟩⟩⟩
    rw [eC]
    refine qf_r95 (k := true) hB hA ?_ ?_
    · intro H
      refine hno fun h1 h2 => ?_
      change 0 < (fl l).toInt at h1
      have h3 := hq h2
      change -3000 ≤ (Q (B l).toNatClampNeg).toInt ∧ (Q (B l).toNatClampNeg).toInt ≤ 3000 at h3
      rcases H (fun z => by rw [← Int32.toInt_inj, qf_i0] at z; omega) h2 with h | ⟨h, h'⟩
      · exact Or.inl ((qf_cl0 hA).mp h)
      · refine Or.inr ⟨h, ?_⟩
        rw [Int32.lt_iff_toInt_lt, qf_add (by omega) (by omega), e1] at h'
        show (Q (A l).toNatClampNeg).toInt ≤ (Q (B l).toNatClampNeg).toInt + -(D l).toInt
        omega
    · intro h5 hV h4 hd
      have h3 := hq hV
      change -3000 ≤ (Q (B l).toNatClampNeg).toInt ∧ (Q (B l).toNatClampNeg).toInt ≤ 3000 at h3
      have e2 : (Q (B l).toNatClampNeg + -(D l)).toInt = (Q (B l).toNatClampNeg).toInt + -(D l).toInt := by
        rw [← e1]
        exact qf_add (by omega) (by omega)
      refine hyes ?_ hV (fun z => h4 ((qf_cl0 hA).mpr z)) ?_ _ _ e2 ?_
      · show 0 < (fl l).toInt
        rw [← Int32.toInt_inj, qf_i0] at h5
        omega
      · rintro ⟨g1, g2⟩
        rcases hd with h | h
        · exact g1 h
        · rw [Int32.lt_iff_toInt_lt, e2] at h
          change (Q (A l).toNatClampNeg).toInt ≤ (Q (B l).toNatClampNeg).toInt + -(D l).toInt at g2
          omega
      · show (nI l + nI 8).toInt = (l : Int) + ((8 : Nat) : Int)
        rw [nI_add, nI_toInt (by omega)]
        omega
end
section
variable (n : Nat) (A B C D fl : Nat → Int32) (p : Nat → Int) (r c : Nat) (z : Int32) (Q V L : Nat → Int32)
/-- the search's state inside round r at clock c, z: whether something has changed in this round -/
def qf_BI : Prop := ∃ t : Nat → Nat, qf_BF n (qf_N A) (qf_N B) (qf_I C) (qf_I D) (qf_I fl) p c (qf_R V) (qf_I Q) (qf_I L) t ∧
  (z = 0 → ∀ v, v < 5 → qf_R V v → t v ≤ 16 * r) ∧ (¬ z = 0 → ∃ v, v < 5 ∧ qf_R V v ∧ 16 * r < t v)
end
section
variable {n l r c : Nat} {k : Bool} {fw : Int32} {A B C D fl Q V L wt wa : Nat → Int32} {p : Nat → Int} {z : Int32}
theorem qf_rx {post : Int32 → SX → Prop} (Ln : qf_Lin n A B C D) (Bd : qf_Bd n (qf_I C) (qf_I fl)) (Fe : qf_Fe n (qf_N A) (qf_N B) (qf_I C) (qf_I D) (qf_I fl) p) (hl : l < n)
    (I : qf_BI n A B C D fl p r c z Q V L) (hc : c = 16 * r + qf_ix l k) (hr : r < 50)
    (h0 : qf_BI n A B C D fl p r (c + 1) z Q V L → post 0 (nI n, fw, A, B, C, D, fl, Q, V, L, wt, wa))
    (h1 : ∀ Q' V' L' : Nat → Int32, qf_BI n A B C D fl p r (c + 1) 1 Q' V' L' → post 1 (nI n, fw, A, B, C, D, fl, Q', V', L', wt, wa)) :
    wpX_relax post (nI n, fw, A, B, C, D, fl, Q, V, L, wt, wa) (nI l) (qf_kI k) := by
  obtain ⟨t, I1, I2, I3⟩ := I
  have N8 := Ln.2.1
  have hi : qf_ix l k < 16 := by cases k <;> simp only [qf_ix] <;> omega
  have h16 : c % 16 = qf_ix l k := by omega
  have hta := qf_ta_lt (qf_Net_E Ln.2) hl k
  refine qf_relax Ln Bd hl ?_ ?_ ?_
  · intro h
    have h2 := I1.2.1 _ hta.1 h
    omega
  · intro H
    exact h0 ⟨t, qf_bf_no I1 h16 H, I2, I3⟩
  · intro g1 g2 g3 g4 x y hx hy
    obtain ⟨t', T1, T2, T3⟩ := qf_bf_yes (R' := qf_R (upd V (qf_he (qf_N A) (qf_N B) l k) 1)) (q' := qf_I (upd Q (qf_he (qf_N A) (qf_N B) l k) x)) (L' := qf_I (upd L (qf_he (qf_N A) (qf_N B) l k) y))
      Ln.2 Fe I1 hl h16 (by omega) g1 g2 g3 g4 (by
        intro v
        by_cases e : v = qf_he (qf_N A) (qf_N B) l k
        · unfold qf_R
          rw [e, pk_us]
          exact ⟨fun _ => Or.inl rfl, fun _ => qf_10⟩
        · unfold qf_R
          rw [pk_un e]
          exact ⟨fun h => Or.inr h, fun h => h.resolve_left e⟩)
      (qf_Is.trans hx) (fun v hv => qf_In hv) (qf_Is.trans hy) (fun v hv => qf_In hv)
    refine h1 _ _ _ ⟨t', T1, fun h => absurd h qf_10, fun _ => ⟨_, hta.2.1, ?_, by omega⟩⟩
    unfold qf_R
    rw [pk_us]
    exact qf_10
theorem qf_BI1 (I : qf_BI n A B C D fl p r c z Q V L) (hz : ¬ z = 0) : qf_BI n A B C D fl p r c 1 Q V L := by
  obtain ⟨t, I1, I2, I3⟩ := I
  exact ⟨t, I1, fun h => absurd h qf_10, fun _ => I3 hz⟩
theorem qf_q86 {post : SX → Prop} {J46 J60 : Int32 → Int32 → Int32 → Int32 → (Nat → Int32) → (Nat → Int32) → (Nat → Int32) → (Nat → Int32) → (Nat → Int32) → (Nat → Int32) → (Nat → Int32) → (Nat → Int32) → (Nat → Int32) → (Nat → Int32) → Prop} {x2 : Int32}
    (Ln : qf_Lin n A B C D) (Bd : qf_Bd n (qf_I C) (qf_I fl)) (Fe : qf_Fe n (qf_N A) (qf_N B) (qf_I C) (qf_I D) (qf_I fl) p) (hl : l < n)
    (I : qf_BI n A B C D fl p r (16 * r + 2 * l + 1) z Q V L) (hr : r < 50)
    (hJ : ∀ (z' : Int32) (Q' V' L' : Nat → Int32), qf_BI n A B C D fl p r (16 * r + 2 * (l + 1)) z' Q' V' L' → J60 z' (nI (l + 1)) (nI n) fw A B C D fl Q' V' L' wt wa) :
    wX_findQuickest_86 post J46 J60 x2 (nI l) z (nI n) fw A B C D fl Q V L wt wa := by
  unfold wX_findQuickest_86
  refine qf_rx (k := true) Ln Bd Fe hl I (by simp only [qf_ix]; omega) hr ?_ ?_
  · intro I'
    refine br_t rfl (br_c (fun hz => nm_r (nI_1 l) (hJ 0 _ _ _ ?_)) (fun hz => nm_r (nI_1 l) (hJ 1 _ _ _ (qf_BI1 I' hz))))
    subst hz
    exact I'
  · intro Q' V' L' I'
    exact br_f qf_10 (nm_r (nI_1 l) (hJ 1 _ _ _ I'))
theorem qf_q60 {post : SX → Prop} {J46 : Int32 → Int32 → Int32 → Int32 → (Nat → Int32) → (Nat → Int32) → (Nat → Int32) → (Nat → Int32) → (Nat → Int32) → (Nat → Int32) → (Nat → Int32) → (Nat → Int32) → (Nat → Int32) → (Nat → Int32) → Prop}
    (Ln : qf_Lin n A B C D) (Bd : qf_Bd n (qf_I C) (qf_I fl)) (Fe : qf_Fe n (qf_N A) (qf_N B) (qf_I C) (qf_I D) (qf_I fl) p) (hr : r < 50)
    (hJ : ∀ (z' : Int32) (Q' V' L' : Nat → Int32), qf_BI n A B C D fl p r (16 * r + 2 * n) z' Q' V' L' → J46 z' (nI (r + 1)) (nI n) fw A B C D fl Q' V' L' wt wa) :
    ∀ (d l : Nat) (z : Int32) (Q V L : Nat → Int32), l + d = n → qf_BI n A B C D fl p r (16 * r + 2 * l) z Q V L →
      wX_findQuickest_60 post J46 (nI r) (d + 1) z (nI l) (nI n) fw A B C D fl Q V L wt wa := by
  have N8 := Ln.2.1
  intro d
  induction d with
  | zero =>
    intro l z Q V L hl I
    have e : l = n := by omega
    subst e
    exact br_t (nI_le (Nat.le_refl _) (by omega)) (nm_r (nI_1 r) (hJ z Q V L I))
  | succ d ih =>
    intro l z Q V L hl I
    have hl2 : l < n := by omega
    refine br_f (nI_ge hl2 (by omega)) ?_
    refine qf_rx (k := false) Ln Bd Fe hl2 I rfl hr ?_ ?_
    · intro I'
      refine br_t rfl (br_c (fun hz => ?_) (fun hz => ?_))
      · subst hz
        exact qf_q86 Ln Bd Fe hl2 I' hr fun z' Q' V' L' I2 => ih (l + 1) z' Q' V' L' (by omega) I2
      · exact qf_q86 Ln Bd Fe hl2 (qf_BI1 I' hz) hr fun z' Q' V' L' I2 => ih (l + 1) z' Q' V' L' (by omega) I2
    · intro Q1 V1 L1 I'
      refine br_f qf_10 ?_
      exact qf_q86 Ln Bd Fe hl2 I' hr fun z' Q' V' L' I2 => ih (l + 1) z' Q' V' L' (by omega) I2
theorem qf_q46 {post : SX → Prop} (Ln : qf_Lin n A B C D) (Bd : qf_Bd n (qf_I C) (qf_I fl)) (Fe : qf_Fe n (qf_N A) (qf_N B) (qf_I C) (qf_I D) (qf_I fl) p) (hp : p 0 = 0)
    (hpost : ∀ (Q' V' L' : Nat → Int32) (k : Nat → Nat), qf_BR 5 8 n (qf_N A) (qf_N B) (qf_I C) (qf_I D) (qf_I fl) p (qf_R V') (qf_I Q') (qf_I L') k → post (nI n, fw, A, B, C, D, fl, Q', V', L', wt, wa)) :
    ∀ (d r : Nat) (z : Int32) (Q V L : Nat → Int32), r + d = 6 →
      (z = 0 → ∃ k : Nat → Nat, qf_BR 5 8 n (qf_N A) (qf_N B) (qf_I C) (qf_I D) (qf_I fl) p (qf_R V) (qf_I Q) (qf_I L) k) →
      (¬ z = 0 → ∃ t : Nat → Nat, qf_BF n (qf_N A) (qf_N B) (qf_I C) (qf_I D) (qf_I fl) p (16 * r) (qf_R V) (qf_I Q) (qf_I L) t ∧ (0 < r → ∃ v, v < 5 ∧ qf_R V v ∧ 16 * (r - 1) < t v)) →
      wX_findQuickest_46 post (d + 1) z (nI r) (nI n) fw A B C D fl Q V L wt wa := by
  have N8 := Ln.2.1
  intro d
  induction d with
  | zero =>
    intro r z Q V L hr h0 h1
    have e : r = 6 := by omega
    subst e
    refine br_t (nI_le (Nat.le_refl 6) (by omega)) ?_
    by_cases hz : z = 0
    · obtain ⟨k, hk⟩ := h0 hz
      exact hpost _ _ _ k hk
    · exfalso
      obtain ⟨t, B1, B2⟩ := h1 hz
      obtain ⟨v, v1, v2, v3⟩ := B2 (by omega)
      have := qf_bf_64 Ln.2 B1 v1 v2
      omega
  | succ d ih =>
    intro r z Q V L hr h0 h1
    refine br_f (nI_ge (b := 6) (by omega) (by omega)) (br_c ?_ ?_)
    · intro hz
      obtain ⟨k, hk⟩ := h0 hz
      exact hpost _ _ _ k hk
    · intro hz
      obtain ⟨t, B1, _⟩ := h1 hz
      refine ⟨n + 1, qf_q60 (r := r) Ln Bd Fe (by omega) ?_ n 0 0 Q V L (by omega) ?_⟩
      · intro z' Q' V' L' ⟨t', I1, I2, I3⟩
        have I4 := qf_bf_on (c' := 16 * (r + 1)) I1 rfl (by omega) N8
        refine ih (r + 1) z' Q' V' L' (by omega) ?_ ?_
        · intro hz'
          exact qf_bf_end (r := r) Ln.2 Fe hp I4 (by omega) (I2 hz')
        · intro hz'
          exact ⟨t', I4, fun _ => I3 hz'⟩
      · exact ⟨t, B1, fun _ v hv hR => (B1.2.1 v hv hR).1, fun h => absurd rfl h⟩
theorem qf_q2 {post : SX → Prop} (Ln : qf_Lin n A B C D) (Bd : qf_Bd n (qf_I C) (qf_I fl)) (Fe : qf_Fe n (qf_N A) (qf_N B) (qf_I C) (qf_I D) (qf_I fl) p) (hp : p 0 = 0)
    (hpost : ∀ (Q' V' L' : Nat → Int32) (k : Nat → Nat), qf_BR 5 8 n (qf_N A) (qf_N B) (qf_I C) (qf_I D) (qf_I fl) p (qf_R V') (qf_I Q') (qf_I L') k → post (nI n, fw, A, B, C, D, fl, Q', V', L', wt, wa)) :
    ∀ (d j : Nat) (Q V L : Nat → Int32), j + d = 5 → (∀ v, v < j → (qf_R V v ↔ v = 0)) → (0 < j → qf_I Q 0 = 0) →
      wX_findQuickest_2 post (nI n) fw (d + 1) (nI j) A B C D fl Q V L wt wa := by
  intro d
  induction d with
  | zero =>
    intro j Q V L hj h1 h2
    have e : j = 5 := by omega
    subst e
    refine br_t (nI_le (Nat.le_refl 5) (by omega)) ⟨7, ?_⟩
    refine qf_q46 Ln Bd Fe hp hpost 6 0 1 Q V L (by omega) (fun h => absurd h qf_10) (fun _ => ⟨fun _ => 0, qf_bf0 h1 (h2 (by omega)), fun h => absurd h (by omega)⟩)
  | succ d ih =>
    intro j Q V L hj h1 h2
    have hin : vp_in (nI j) 5 := vp_in_nI (by omega) (by omega)
    have eC : (nI j).toNatClampNeg = j := nI_clamp (by omega)
    refine br_f (nI_ge (b := 5) (by omega) (by omega)) (br_c ?_ ?_)
    · intro hz
      have e : j = 0 := (nI_eq (b := 0) (by omega) (by omega)).mp hz
      refine ⟨hin, fun a ea => ⟨hin, fun b eb => ⟨hin, fun c ec => nm_r (nI_1 j) ?_⟩⟩⟩
      rw [eC] at ea eb ec
      rw [qf_nar1] at ea
      subst ea eb ec
      refine ih (j + 1) _ _ _ (by omega) ?_ ?_
      · intro v hv
        have e2 : v = j := by omega
        unfold qf_R
        rw [e2, pk_us]
        exact ⟨fun _ => e, fun _ => qf_10⟩
      · intro _
        rw [e, qf_Is]
        rfl
    · intro hz
      have e : j ≠ 0 := fun h => hz (by rw [h]; rfl)
      refine ⟨hin, fun a ea => ⟨hin, fun b eb => ⟨hin, fun c ec => nm_r (nI_1 j) ?_⟩⟩⟩
      rw [eC] at ea eb ec
      rw [qf_nar0] at ea
      subst ea eb ec
      refine ih (j + 1) _ _ _ (by omega) ?_ ?_
      · intro v hv
        by_cases e2 : v = j
        · unfold qf_R
          rw [e2, pk_us]
          exact ⟨fun h => absurd rfl h, fun h => absurd h e⟩
        · have h3 := h1 v (by omega)
          unfold qf_R at h3 ⊢
          rw [pk_un e2]
          exact h3
      · intro _
        rw [qf_In (fun h => e h.symm)]
        exact h2 (by omega)
/-- findQuickest -/
theorem qf_quick {post : SX → Prop} (Ln : qf_Lin n A B C D) (Bd : qf_Bd n (qf_I C) (qf_I fl)) (Fe : qf_Fe n (qf_N A) (qf_N B) (qf_I C) (qf_I D) (qf_I fl) p) (hp : p 0 = 0)
    (hpost : ∀ (Q' V' L' : Nat → Int32) (k : Nat → Nat), qf_BR 5 8 n (qf_N A) (qf_N B) (qf_I C) (qf_I D) (qf_I fl) p (qf_R V') (qf_I Q') (qf_I L') k → post (nI n, fw, A, B, C, D, fl, Q', V', L', wt, wa)) :
    wpX_findQuickest post (nI n, fw, A, B, C, D, fl, Q, V, L, wt, wa) :=
  ⟨6, qf_q2 Ln Bd Fe hp hpost 5 0 Q V L (by omega) (fun v h => absurd h (by omega)) (fun h => absurd h (by omega))⟩
end
end
section
/-! 06: the component's ways: room of a way, sending, all ways -/
theorem qf_nIN {x : Int32} {N : Nat} (h : vp_in x N) (hN : N < 2 ^ 31) : x = nI x.toNatClampNeg := by
  obtain ⟨j, hj, e⟩ := vp_in_of h hN
  rw [e, nI_clamp (by omega)]
theorem qf_Lk {x : Int32} {l : Nat} {k : Bool} (hl : l < 8) (h : x.toInt = qf_cd 8 l k) : x = qf_ll (nI l) k := by
  apply Int32.toInt_inj.mp
  rw [h]
  cases k
  · show (l : Int) = (nI l).toInt
    rw [nI_toInt (by omega)]
  · show (l : Int) + ((8 : Nat) : Int) = (nI l + nI 8).toInt
    rw [nI_add, nI_toInt (by omega)]
    omega
theorem qf_L8 {l : Nat} : nI l + 8 - 8 = nI l := Int32.add_sub_cancel _ _
section
variable {n l v s d : Nat} {k : Bool} {fw : Int32} {A B C D fl Q V L wt wa : Nat → Int32} {p : Nat → Int} {r : Nat → Nat}
theorem qf_w57 {post : Int32 → Prop} {J : Int32 → Int32 → Int32 → Prop} {x : Int32} (Ln : qf_Lin n A B C D) (Bd : qf_Bd n (qf_I C) (qf_I fl)) (hl : l < n)
    (hJ : ∀ y : Int32, y.toInt ≤ x.toInt → y.toInt ≤ qf_ro (qf_I C) (qf_I fl) l k → (y = x ∨ y.toInt = qf_ro (qf_I C) (qf_I fl) l k) → J y (nI (qf_ta (qf_N A) (qf_N B) l k)) (nI (s + 1))) :
    wX_roomOfWay_57 post J x (nI s) (qf_kI k) (nI l) (nI n) fw A B C D fl Q V L wt wa := by
  have N8 := Ln.2.1
  have N1 := Ln.2.2.1 l hl
  have hA := (Ln.1 l hl).1
  have hB := (Ln.1 l hl).2
  have h8 : vp_in (nI l) 8 := vp_in_nI (by omega) (by omega)
  have eC : (nI l).toNatClampNeg = l := nI_clamp (by omega)
  have hb := Bd l hl
  have b1 : 0 ≤ (fl l).toInt := hb.1
  have b2 : (fl l).toInt ≤ (C l).toInt := hb.2
  have b5 : (C l).toInt ≤ 5 := N1.2.2.2.2.1
  cases k
  · have e1 : (C l - fl l).toInt = (C l).toInt - (fl l).toInt := qf_sub (by omega) (by omega)
    have hx : A (nI l).toNatClampNeg = nI (qf_ta (qf_N A) (qf_N B) l false) := by
      rw [eC]
      exact qf_nIN hA (by omega)
    refine br_t rfl ⟨h8, h8, ?_⟩
    rw [eC]
    refine qf_le (fun h => ?_) (fun h => ?_)
    · exact br_t rfl ⟨h8, nm_r hx (nm_r (nI_1 s) (hJ x (Int.le_refl _) (by show x.toInt ≤ (C l).toInt - (fl l).toInt; omega) (Or.inl rfl)))⟩
    · exact br_t rfl ⟨h8, nm_r hx (nm_r (nI_1 s) (hJ _ (by omega) (by show _ ≤ (C l).toInt - (fl l).toInt; omega) (Or.inr e1)))⟩
  · have hx : B (nI l).toNatClampNeg = nI (qf_ta (qf_N A) (qf_N B) l true) := by
      rw [eC]
      exact qf_nIN hB (by omega)
    refine br_f qf_10 ⟨h8, ?_⟩
    rw [eC]
    refine qf_le (fun h => ?_) (fun h => ?_)
    · exact br_f qf_10 ⟨h8, nm_r hx (nm_r (nI_1 s) (hJ x (Int.le_refl _) h (Or.inl rfl)))⟩
    · exact br_f qf_10 ⟨h8, nm_r hx (nm_r (nI_1 s) (hJ _ (by omega) (Int.le_refl _) (Or.inr rfl)))⟩
theorem qf_w7 {post : Int32 → Prop} (Ln : qf_Lin n A B C D) (Bd : qf_Bd n (qf_I C) (qf_I fl))
    (Br : qf_BR 5 8 n (qf_N A) (qf_N B) (qf_I C) (qf_I D) (qf_I fl) p (qf_R V) (qf_I Q) (qf_I L) r) :
    ∀ (d v s : Nat) (x : Int32), v < 5 → qf_R V v → r v ≤ d → s + d ≤ 4 → 1 ≤ x.toInt →
      (∀ y : Int32, 1 ≤ y.toInt → y.toInt ≤ x.toInt → qf_PO 8 n (qf_N A) (qf_N B) (qf_I C) (qf_I fl) (qf_I L) y.toInt d v → post y) →
      wX_roomOfWay_7 post (nI n) fw A B C D fl Q V L wt wa (d + 1) x (nI v) (nI s) := by
  have N8 := Ln.2.1
  intro d
  induction d with
  | zero =>
    intro v s x hv hR hd hs hx hpost
    by_cases e : v = 0
    · subst e
      exact br_f (nI_ge (b := 5) (by omega) (by omega)) (br_t rfl (hpost x hx (Int.le_refl _) rfl))
    · obtain ⟨l, k, _, _, _, _, _, _, _, h8⟩ := Br.2.2.2 v hv e hR
      omega
  | succ d ih =>
    intro v s x hv hR hd hs hx hpost
    refine br_f (nI_ge (b := 5) (by omega) (by omega)) ?_
    by_cases e : v = 0
    · subst e
      exact br_t rfl (hpost x hx (Int.le_refl _) (Or.inl rfl))
    · obtain ⟨l, k, hl, hL, hhe, hro, hRt, _, _, hrk⟩ := Br.2.2.2 v hv e hR
      have h5 : vp_in (nI v) 5 := vp_in_nI hv (by omega)
      have eV : (nI v).toNatClampNeg = v := nI_clamp (by omega)
      have eL : L v = qf_ll (nI l) k := qf_Lk (by omega) hL
      have hL' : (L v).toInt = qf_cd 8 l k := hL
      have K : wX_roomOfWay_57 post (wX_roomOfWay_7 post (nI n) fw A B C D fl Q V L wt wa (d + 1)) x (nI s) (qf_kI k) (nI l) (nI n) fw A B C D fl Q V L wt wa := by
        refine qf_w57 Ln Bd hl ?_
        intro y y1 y2 y3
        refine ih _ _ _ (qf_ta_lt (qf_Net_E Ln.2) hl k).1 hRt (by omega) (by omega) ?_ ?_
        · rcases y3 with h | h
          · rw [h]; exact hx
          · omega
        · intro y' g1 g2 g3
          exact hpost y' g1 (by omega) (Or.inr ⟨e, l, k, hl, hL, hhe, by omega, g3⟩)
      refine br_f (nI_ne0 (by omega) (by omega)) ⟨h5, ?_⟩
      rw [eV]
      cases k
      · refine br_t ?_ ?_
        · rw [Int32.lt_iff_toInt_lt, hL']
          show (l : Int) < 8
          omega
        · refine br_t rfl ⟨h5, ?_⟩
          rw [eV, eL]
          exact K
      · refine br_f ?_ ?_
        · rw [Int32.lt_iff_toInt_lt, hL']
          show ¬ (l : Int) + ((8 : Nat) : Int) < 8
          omega
        · refine br_f qf_10 ⟨h5, ?_⟩
          rw [eV, eL]
          show wX_roomOfWay_57 post _ x (nI s) 1 (nI l + 8 - 8) (nI n) fw A B C D fl Q V L wt wa
          rw [qf_L8]
          exact K
/-- roomOfWay -/
theorem qf_room {post : Int32 → Prop} (Ln : qf_Lin n A B C D) (Bd : qf_Bd n (qf_I C) (qf_I fl))
    (Br : qf_BR 5 8 n (qf_N A) (qf_N B) (qf_I C) (qf_I D) (qf_I fl) p (qf_R V) (qf_I Q) (qf_I L) r) (h4 : qf_R V 4)
    (hpost : ∀ y : Int32, 1 ≤ y.toInt → y.toInt ≤ 100 → qf_PO 8 n (qf_N A) (qf_N B) (qf_I C) (qf_I fl) (qf_I L) y.toInt 4 4 → post y) :
    wpX_roomOfWay post (nI n, fw, A, B, C, D, fl, Q, V, L, wt, wa) := by
  have h := Br.2.2.1 4 (by omega)
  refine ⟨5, qf_w7 Ln Bd Br 4 4 0 100 (by omega) h4 (by omega) (by omega) (by decide) ?_⟩
  intro y y1 y2 y3
  exact hpost y y1 y2 y3
theorem qf_s54 {post : SX → Prop} {J : Int32 → Int32 → (Nat → Int32) → (Nat → Int32) → (Nat → Int32) → (Nat → Int32) → (Nat → Int32) → (Nat → Int32) → (Nat → Int32) → (Nat → Int32) → (Nat → Int32) → (Nat → Int32) → Prop} {x : Int32}
    (Ln : qf_Lin n A B C D) (hl : l < n) (hx0 : 0 ≤ x.toInt) (hx : x.toInt ≤ 100) (hf : 0 ≤ (fl l).toInt ∧ (fl l).toInt ≤ 100)
    (hJ : ∀ g : Nat → Int32, qf_I g l = qf_I fl l + qf_sg x.toInt k → (∀ j, j ≠ l → qf_I g j = qf_I fl j) → J (nI (qf_ta (qf_N A) (qf_N B) l k)) (nI (s + 1)) A B C D g Q V L wt wa) :
    wX_send_54 post J x (nI s) (qf_kI k) (nI l) (nI n) fw A B C D fl Q V L wt wa := by
  have N8 := Ln.2.1
  have hA := (Ln.1 l hl).1
  have hB := (Ln.1 l hl).2
  have h8 : vp_in (nI l) 8 := vp_in_nI (by omega) (by omega)
  have eC : (nI l).toNatClampNeg = l := nI_clamp (by omega)
  cases k
  · have hx2 : A (nI l).toNatClampNeg = nI (qf_ta (qf_N A) (qf_N B) l false) := by
      rw [eC]
      exact qf_nIN hA (by omega)
    refine ⟨h8, br_t rfl ⟨h8, fun g eg => br_t rfl ⟨h8, nm_r hx2 (nm_r (nI_1 s) ?_)⟩⟩⟩
    rw [eC] at eg
    subst eg
    refine hJ _ ?_ (fun j hj => qf_In hj)
    rw [qf_Is]
    exact qf_add (by omega) (by omega)
  · have hx2 : B (nI l).toNatClampNeg = nI (qf_ta (qf_N A) (qf_N B) l true) := by
      rw [eC]
      exact qf_nIN hB (by omega)
    refine ⟨h8, br_f qf_10 ⟨h8, fun g eg => br_f qf_10 ⟨h8, nm_r hx2 (nm_r (nI_1 s) ?_)⟩⟩⟩
    rw [eC] at eg
    subst eg
    refine hJ _ ?_ (fun j hj => qf_In hj)
    have e1 : (-x).toInt = -x.toInt := qf_neg (by omega)
    rw [qf_Is]
    show (fl l + -x).toInt = (fl l).toInt + -x.toInt
    rw [← e1]
    exact qf_add (by omega) (by omega)
theorem qf_s4 {post : SX → Prop} {x : Int32} {f : Nat → Int} (Ln : qf_Lin n A B C D)
    (Br : qf_BR 5 8 n (qf_N A) (qf_N B) (qf_I C) (qf_I D) f p (qf_R V) (qf_I Q) (qf_I L) r) (hx1 : 1 ≤ x.toInt) (hx : x.toInt ≤ 100)
    (hpost : ∀ g : Nat → Int32, qf_SL 5 n (qf_N A) (qf_N B) (qf_I C) (qf_I D) f p (qf_R V) (qf_I Q) r 4 x.toInt 0 (qf_I g) → post (nI n, fw, A, B, C, D, g, Q, V, L, wt, wa)) :
    ∀ (d v s : Nat) (g : Nat → Int32), s + d ≤ 4 → qf_PO 8 n (qf_N A) (qf_N B) (qf_I C) f (qf_I L) x.toInt d v →
      qf_SL 5 n (qf_N A) (qf_N B) (qf_I C) (qf_I D) f p (qf_R V) (qf_I Q) r 4 x.toInt v (qf_I g) →
      wX_send_4 post x (nI n) fw (d + 1) (nI v) (nI s) A B C D g Q V L wt wa := by
  have N8 := Ln.2.1
  intro d
  induction d with
  | zero =>
    intro v s g hs hP hS
    change v = 0 at hP
    subst hP
    exact br_f (nI_ge (b := 5) (by omega) (by omega)) (br_t rfl (hpost g hS))
  | succ d ih =>
    intro v s g hs hP hS
    refine br_f (nI_ge (b := 5) (by omega) (by omega)) ?_
    rcases hP with hP | ⟨e, l, k, hl, hL, hhe, hro, hP⟩
    · subst hP
      exact br_t rfl (hpost g hS)
    · have hv : v < 5 := hS.1.1
      obtain ⟨l', k', hl', hL2, hhe', _, hRt, hq, hp, hrk⟩ := Br.2.2.2 v hv e hS.1.2.1
      obtain ⟨rfl, rfl⟩ := qf_cd_inj (by omega) (by omega) (hL.symm.trans hL2)
      have h5 : vp_in (nI v) 5 := vp_in_nI hv (by omega)
      have eV : (nI v).toNatClampNeg = v := nI_clamp (by omega)
      have eL : L v = qf_ll (nI l) k := qf_Lk (by omega) hL
      have hL' : (L v).toInt = qf_cd 8 l k := hL
      have hb := hS.2.1 l hl
      have hb2 : qf_I C l ≤ 5 := (Ln.2.2.1 l hl).2.2.2.2.1
      have K : wX_send_54 post (wX_send_4 post x (nI n) fw (d + 1)) x (nI s) (qf_kI k) (nI l) (nI n) fw A B C D g Q V L wt wa := by
        refine qf_s54 Ln hl (by omega) hx ⟨hb.1, Int.le_trans hb.2 (by omega)⟩ ?_
        intro g' g1 g2
        exact ih _ _ _ (by omega) hP (qf_SLs (qf_Net_E Ln.2) (by omega) hS hl hhe hro hRt hq hp hrk g1 g2).1
      refine br_f (nI_ne0 (by omega) (by omega)) ⟨h5, ?_⟩
      rw [eV]
      cases k
      · refine br_t ?_ ?_
        · rw [Int32.lt_iff_toInt_lt, hL']
          show (l : Int) < 8
          omega
        · refine br_t rfl ⟨h5, ?_⟩
          rw [eV, eL]
          exact K
      · refine br_f ?_ ?_
        · rw [Int32.lt_iff_toInt_lt, hL']
          show ¬ (l : Int) + ((8 : Nat) : Int) < 8
          omega
        · refine br_f qf_10 ⟨h5, ?_⟩
          rw [eV, eL]
          show wX_send_54 post _ x (nI s) 1 (nI l + 8 - 8) (nI n) fw A B C D g Q V L wt wa
          rw [qf_L8]
          exact K
/-- send -/
theorem qf_sendX {post : SX → Prop} {x : Int32} (Ln : qf_Lin n A B C D) (Bd : qf_Bd n (qf_I C) (qf_I fl))
    (Br : qf_BR 5 8 n (qf_N A) (qf_N B) (qf_I C) (qf_I D) (qf_I fl) p (qf_R V) (qf_I Q) (qf_I L) r) (h4 : qf_R V 4) (hx1 : 1 ≤ x.toInt) (hx : x.toInt ≤ 100)
    (hP : qf_PO 8 n (qf_N A) (qf_N B) (qf_I C) (qf_I fl) (qf_I L) x.toInt 4 4)
    (hpost : ∀ g : Nat → Int32, qf_SL 5 n (qf_N A) (qf_N B) (qf_I C) (qf_I D) (qf_I fl) p (qf_R V) (qf_I Q) r 4 x.toInt 0 (qf_I g) → post (nI n, fw, A, B, C, D, g, Q, V, L, wt, wa)) :
    wpX_send post (nI n, fw, A, B, C, D, fl, Q, V, L, wt, wa) x :=
  ⟨5, qf_s4 Ln Br hx1 hx hpost 4 4 0 fl (by omega) hP (qf_SL0 (by omega) h4 Bd)⟩
end
section
variable {n : Nat} {A B C D : Nat → Int32}
theorem qf_w30 {post : SX → Prop} (Ln : qf_Lin n A B C D)
    (hpost : ∀ (w : Nat) (fl Q V L wt wa : Nat → Int32), w ≤ 33 → qf_FW n (qf_N A) (qf_N B) (qf_I C) (qf_I D) w (qf_I wt) (qf_I wa) → post (nI n, nI w, A, B, C, D, fl, Q, V, L, wt, wa)) :
    ∀ (d w : Nat) (p : Nat → Int) (E : Int) (x : Int32) (fl Q V L wt wa : Nat → Int32), w + d = 34 → ¬ x = 0 →
      qf_SS n (qf_N A) (qf_N B) (qf_I C) (qf_I D) (qf_I fl) p E w (qf_I wt) (qf_I wa) →
      wX_findWays_30 post (d + 2) x (nI w) (nI n) (nI w) A B C D fl Q V L wt wa := by
  intro d
  induction d with
  | zero =>
    intro w p E x fl Q V L wt wa hw hx S
    have := qf_SS_33 Ln.2 S
    omega
  | succ d ih =>
    intro w p E x fl Q V L wt wa hw hx S
    have hw33 := qf_SS_33 Ln.2 S
    have Bd := S.1.1
    refine br_f (nI_ge (b := 36) (by omega) (by omega)) (br_f hx ?_)
    refine qf_quick Ln Bd S.1.2.1 S.1.2.2.1 ?_
    intro Q' V' L' r Br
    refine nm_e (br_c ?_ ?_)
    · intro h4
      have W := qf_SS_e Ln.2 S Br (fun h => h h4)
      refine nm_r (nI_1 w) (br_c (fun _ => ?_) (fun _ => br_t h4 ?_))
      · exact hpost w fl Q' V' L' wt wa (by omega) W
      · exact hpost w fl Q' V' L' wt wa (by omega) W
    · intro h4
      refine qf_room Ln Bd Br h4 ?_
      intro y y1 y2 hP
      have hin : vp_in (nI w) 40 := vp_in_nI (by omega) (by omega)
      have eC : (nI w).toNatClampNeg = w := nI_clamp (by omega)
      refine ⟨hin, fun a ea => ⟨hin, fun b eb => nm_r (nI_1 w) ?_⟩⟩
      rw [eC] at ea eb
      subst ea eb
      refine qf_sendX Ln Bd Br h4 y1 y2 hP ?_
      intro g G
      obtain ⟨p', S'⟩ := qf_SS_s (wt' := qf_I (upd wt w (Q' 4))) (wa' := qf_I (upd wa w y)) Ln.2 S Br h4 y1 G
        (fun k hk => qf_In (by omega)) qf_Is (fun k hk => qf_In (by omega)) qf_Is
      exact nm_r (nI_1 w) (ih (w + 1) p' _ _ g Q' V' L' _ _ (by omega) h4 S')
theorem qf_w7f {post : SX → Prop} (Ln : qf_Lin n A B C D)
    (hpost : ∀ (w : Nat) (fl Q V L wt wa : Nat → Int32), w ≤ 33 → qf_FW n (qf_N A) (qf_N B) (qf_I C) (qf_I D) w (qf_I wt) (qf_I wa) → post (nI n, nI w, A, B, C, D, fl, Q, V, L, wt, wa)) :
    ∀ (d j : Nat) (fl Q V L wt wa : Nat → Int32), j + d = 8 → (∀ l, l < j → qf_I fl l = 0) → wX_findWays_7 post (nI n) 0 (d + 1) (nI j) A B C D fl Q V L wt wa := by
  have N8 := Ln.2.1
  intro d
  induction d with
  | zero =>
    intro j fl Q V L wt wa hj hf
    have e : j = 8 := by omega
    subst e
    exact br_t (nI_le (Nat.le_refl 8) (by omega)) ⟨36, qf_w30 Ln hpost 34 0 _ _ 1 fl Q V L wt wa (by omega) qf_10 (qf_SS0 Ln.2 fun l hl => hf l (by omega))⟩
  | succ d ih =>
    intro j fl Q V L wt wa hj hf
    have hin : vp_in (nI j) 8 := vp_in_nI (by omega) (by omega)
    have eC : (nI j).toNatClampNeg = j := nI_clamp (by omega)
    refine br_f (nI_ge (b := 8) (by omega) (by omega)) ⟨hin, fun a ea => nm_r (nI_1 j) ?_⟩
    rw [eC] at ea
    subst ea
    refine ih (j + 1) _ Q V L wt wa (by omega) ?_
    intro l hl
    by_cases e : l = j
    · rw [e, qf_Is]
      rfl
    · rw [qf_In e]
      exact hf l (by omega)
/-- findWays -/
theorem qf_ways {post : SX → Prop} {fw : Int32} {fl Q V L wt wa : Nat → Int32} (Ln : qf_Lin n A B C D)
    (hpost : ∀ (w : Nat) (fl Q V L wt wa : Nat → Int32), w ≤ 33 → qf_FW n (qf_N A) (qf_N B) (qf_I C) (qf_I D) w (qf_I wt) (qf_I wa) → post (nI n, nI w, A, B, C, D, fl, Q, V, L, wt, wa)) :
    wpX_findWays post (nI n, fw, A, B, C, D, fl, Q, V, L, wt, wa) :=
  ⟨9, qf_w7f Ln hpost 8 0 fl Q V L wt wa (by omega) (fun l h => absurd h (by omega))⟩
end
end
section
/-! 07: the component's sums -/
/-- the first moment from t on, of d moments, at which a is x at least -/
def qf_q (a : Nat → Int) (x : Int) : Nat → Nat → Int32
  | 0, _ => -1
  | d + 1, t => if a t < x then qf_q a x d (t + 1) else nI t
theorem qf_q_no {a : Nat → Int} {x : Int} : ∀ d t, (∀ s, a s < x) → qf_q a x d t = -1 := by
  intro d
  induction d with
  | zero => intro t _; rfl
  | succ d ih =>
    intro t h
    unfold qf_q
    rw [if_pos (h t)]
    exact ih (t + 1) h
theorem qf_q_at {a : Nat → Int} {x : Int} {e : Nat} (h1 : ∀ s, s < e → a s < x) (h2 : x ≤ a e) : ∀ d t, t ≤ e → e < t + d → qf_q a x d t = nI e := by
  intro d
  induction d with
  | zero => intro t _ _; omega
  | succ d ih =>
    intro t h3 h4
    unfold qf_q
    by_cases e2 : t = e
    · subst e2
      rw [if_neg (by omega)]
    · rw [if_pos (h1 t (by omega))]
      exact ih (t + 1) (by omega) (by omega)
section
variable {n w : Nat} {fw : Int32} {A B C D fl Q V L wt wa : Nat → Int32}
theorem qf_sm4 {post : Int32 → Prop} {t : Nat} (ht : t ≤ 12) (hw : w ≤ 33) (W : qf_FW n (qf_N A) (qf_N B) (qf_I C) (qf_I D) w (qf_I wt) (qf_I wa))
    (hpost : ∀ y : Int32, y.toInt = qf_S w (qf_I wt) (qf_I wa) ((t : Int) + 1) → post y) :
    ∀ (d j : Nat) (x : Int32), j + d = w → x.toInt = qf_S j (qf_I wt) (qf_I wa) ((t : Int) + 1) →
      wX_sumFor_4 post (nI t) (nI n) (nI w) A B C D fl Q V L wt wa (d + 1) x (nI j) := by
  have b := qf_FW_b W (z := (t : Int) + 1) (by omega) (by omega)
  have W3 := W.2.2.1
  intro d
  induction d with
  | zero =>
    intro j x hj hx
    have e : j = w := by omega
    subst e
    exact br_t (nI_le (Nat.le_refl _) (by omega)) (hpost x hx)
  | succ d ih =>
    intro j x hj hx
    have hin : vp_in (nI j) 40 := vp_in_nI (by omega) (by omega)
    have eC : (nI j).toNatClampNeg = j := nI_clamp (by omega)
    have eT : (nI t).toInt = (t : Int) := nI_toInt (by omega)
    have b1 := b j (by omega)
    have b2 := b (j + 1) (by omega)
    have w3 := W3 j (by omega)
    have eS : qf_S (j + 1) (qf_I wt) (qf_I wa) ((t : Int) + 1) = qf_S j (qf_I wt) (qf_I wa) ((t : Int) + 1) + qf_I wa j * qf_pp ((t : Int) + 1 - qf_I wt j) := rfl
    refine br_f (nI_ge (by omega) (by omega)) ⟨hin, ?_⟩
    rw [eC]
    refine qf_lt (fun h => ?_) (fun h => ?_)
    · rw [eT] at h
      change (t : Int) < qf_I wt j at h
      refine nm_e (nm_r (nI_1 j) (ih (j + 1) _ (by omega) ?_))
      rw [Int32.add_zero, hx, eS, qf_pp_n (by omega), Int.mul_zero, Int.add_zero]
    · rw [eT] at h
      change qf_I wt j ≤ (t : Int) at h
      refine ⟨hin, hin, nm_e (nm_r (nI_1 j) (ih (j + 1) _ (by omega) ?_))⟩
      have e1 : (nI t - wt j).toInt = (t : Int) - qf_I wt j := by
        rw [← eT]
        exact qf_sub (by rw [eT]; show _ ≤ (t : Int) - qf_I wt j; omega) (by rw [eT]; show (t : Int) - qf_I wt j ≤ _; omega)
      have e2 : (nI t - wt j + 1).toInt = (t : Int) + 1 - qf_I wt j := by
        rw [qf_add (by rw [e1, qf_i1]; omega) (by rw [e1, qf_i1]; omega), e1, qf_i1]
        omega
      rw [qf_pp_p (by omega)] at eS
      have e3 : (wa j * (nI t - wt j + 1)).toInt = qf_I wa j * ((t : Int) + 1 - qf_I wt j) := by
        rw [← e2]
        exact qf_mul (by rw [e2]; show _ ≤ qf_I wa j * _; omega) (by rw [e2]; show qf_I wa j * _ ≤ _; omega)
      rw [qf_add (by rw [e3, hx]; omega) (by rw [e3, hx]; omega), e3, hx, eS]
/-- sumFor -/
theorem qf_sum {post : Int32 → Prop} {t : Nat} (ht : t ≤ 12) (hw : w ≤ 33) (W : qf_FW n (qf_N A) (qf_N B) (qf_I C) (qf_I D) w (qf_I wt) (qf_I wa))
    (hpost : ∀ y : Int32, y.toInt = qf_S w (qf_I wt) (qf_I wa) ((t : Int) + 1) → post y) :
    wpX_sumFor post (nI n, nI w, A, B, C, D, fl, Q, V, L, wt, wa) (nI t) :=
  ⟨w + 1, qf_sm4 ht hw W hpost w 0 0 (by omega) rfl⟩
theorem qf_quX {post : Int32 → SX → Prop} {x : Int32} (hw : w ≤ 33) (W : qf_FW n (qf_N A) (qf_N B) (qf_I C) (qf_I D) w (qf_I wt) (qf_I wa)) :
    ∀ d t : Nat, t + d = 13 → post (qf_q (fun t => qf_S w (qf_I wt) (qf_I wa) ((t : Int) + 1)) x.toInt d t) (nI n, nI w, A, B, C, D, fl, Q, V, L, wt, wa) →
      wX_quickest_6 post x (nI n) (nI w) A B C D fl Q V L wt wa (d + 1) (nI t) := by
  intro d
  induction d with
  | zero =>
    intro t ht h
    exact br_t (nI_lt (a := 12) (by omega) (by omega)) h
  | succ d ih =>
    intro t ht h
    refine br_f (nI_nlt (a := 12) (by omega) (by omega)) (qf_sum (by omega) hw W ?_)
    intro y hy
    unfold qf_q at h
    refine qf_lt (fun h1 => nm_r (nI_1 t) (ih (t + 1) (by omega) ?_)) (fun h1 => ?_)
    · rw [if_pos (by rw [← hy]; exact h1)] at h
      exact h
    · rw [if_neg (by rw [← hy]; omega)] at h
      exact h
theorem qf_st8 {post : Int32 → SX → Prop} (hw : w ≤ 33) (W : qf_FW n (qf_N A) (qf_N B) (qf_I C) (qf_I D) w (qf_I wt) (qf_I wa))
    (hpost : ∀ y : Int32, y.toInt = qf_sm (qf_I wa) w → post y (nI n, nI w, A, B, C, D, fl, Q, V, L, wt, wa)) :
    ∀ (d j : Nat) (x : Int32), j + d = w → x.toInt = qf_sm (qf_I wa) j →
      wX_steady_8 post (nI n) (nI w) A B C D fl Q V L wt wa (d + 1) x (nI j) := by
  have b := qf_FW_b W (z := 0) (by omega) (by omega)
  intro d
  induction d with
  | zero =>
    intro j x hj hx
    have e : j = w := by omega
    subst e
    exact br_t (nI_le (Nat.le_refl _) (by omega)) (hpost x hx)
  | succ d ih =>
    intro j x hj hx
    have hin : vp_in (nI j) 40 := vp_in_nI (by omega) (by omega)
    have eC : (nI j).toNatClampNeg = j := nI_clamp (by omega)
    have b1 := b j (by omega)
    have b2 := b (j + 1) (by omega)
    have eS : qf_sm (qf_I wa) (j + 1) = qf_sm (qf_I wa) j + (wa j).toInt := rfl
    refine br_f (nI_ge (by omega) (by omega)) ⟨hin, ?_⟩
    rw [eC]
    refine nm_e (nm_r (nI_1 j) (ih (j + 1) _ (by omega) ?_))
    rw [qf_add (by rw [hx]; omega) (by rw [hx]; omega), hx, eS]
/-- the first way's time is the first moment at which one has arrived -/
theorem qf_fst (W : qf_FW n (qf_N A) (qf_N B) (qf_I C) (qf_I D) w (qf_I wt) (qf_I wa)) :
    qf_q (fun t => qf_S w (qf_I wt) (qf_I wa) ((t : Int) + 1)) 1 13 0 = if w = 0 then -1 else wt 0 := by
  obtain ⟨_, _, W3, _⟩ := W
  by_cases e : w = 0
  · rw [if_pos e]
    refine qf_q_no 13 0 ?_
    intro s
    try dsimp only
    rw [e]
    show (0 : Int) < 1
    omega
  · rw [if_neg e]
    have h0 := W3 0 (by omega)
    have e1 : wt 0 = nI (qf_I wt 0).toNat := by
      apply Int32.toInt_inj.mp
      rw [nI_toInt (by omega)]
      show qf_I wt 0 = _
      omega
    rw [e1]
    refine qf_q_at ?_ ?_ 13 0 (by omega) (by omega)
    · intro s hs
      try dsimp only
      have : qf_S w (qf_I wt) (qf_I wa) ((s : Int) + 1) = 0 := by
        unfold qf_S
        rw [qf_sm_c (g := fun _ => 0) w, qf_sm_z]
        intro k hk
        have := W3 k hk
        rw [qf_pp_n (by omega), Int.mul_zero]
      omega
    · try dsimp only
      have h1 : qf_sm (fun _ => 0) w < qf_S w (qf_I wt) (qf_I wa) (((qf_I wt 0).toNat : Int) + 1) := by
        refine qf_sm_lt (k := 0) w (by omega) ?_ ?_
        · intro k hk
          exact Int.mul_nonneg (by have := W3 k hk; omega) (qf_pp_nn _)
        · try dsimp only
          rw [qf_pp_p (by omega)]
          have e2 : ((qf_I wt 0).toNat : Int) + 1 - qf_I wt 0 = 1 := by omega
          rw [e2]
          omega
      rw [qf_sm_z] at h1
      omega
end
end
section
/-! 08: the copies for the moments (pure): cuts of the copies are cuts by times -/
section
variable (n : Nat) (F T tm : Nat → Nat) (u : Nat → Int) (Z : Nat)
/-- the sum of h over the copies of the first i lines; over the waiting at the first i places, for last moment l -/
def qf_HL (h : Nat → Nat → Int → Int) (i : Nat) : Int := qf_sm (fun l => qf_sm (fun j => h (13 * F l + j) (13 * T l + j + tm l) (u l)) (Z - tm l)) i
def qf_HW (l : Nat) (h : Nat → Nat → Int → Int) (i : Nat) : Int := qf_sm (fun q => qf_sm (fun j => h (13 * q + j) (13 * q + j + 1) 100000) l) i
end
section
variable (E : Nat) (s t : Nat → Nat) (r g : Nat → Int) (z : Nat) (v : Int)
/-- g is a flow of v from copy 0 to copy z -/
def qf_YS : Prop := (∀ e, e < E → 0 ≤ g e ∧ g e ≤ r e ∧ g e ≤ v) ∧ ∀ h : Nat → Int, qf_ph E s t (fun _ => 0) g h = v * (h z - h 0)
end
theorem qf_cnt1 (b c : Int) : ∀ k : Nat, qf_sm (fun j => if b ≤ (j : Int) ∧ (j : Int) < c then 1 else 0) k ≤ qf_pp ((if c ≤ (k : Int) then c else (k : Int)) - b) := by
  intro k
  induction k with
  | zero => exact qf_pp_nn _
  | succ k ih =>
    rw [qf_smS]
    try dsimp only
    unfold qf_pp at ih ⊢
    omega
theorem qf_cnt2 {b c : Int} (hb : 0 ≤ b) : ∀ k : Nat, qf_sm (fun j => if b ≤ (j : Int) ∧ (j : Int) < c then 1 else 0) k = qf_pp ((if c ≤ (k : Int) then c else (k : Int)) - b) := by
  intro k
  induction k with
  | zero =>
    rw [qf_sm0, qf_pp_n]
    split <;> omega
  | succ k ih =>
    rw [qf_smS, ih]
    try dsimp only
    unfold qf_pp
    omega
/-- the step of one line's copies -/
theorem qf_stp (a b c : Int) (j : Nat) : qf_pp ((if (j : Int) + c < a then 1 else 0) - (if (j : Int) < b then 1 else 0)) = if b ≤ (j : Int) ∧ (j : Int) < a - c then 1 else 0 := by
  unfold qf_pp
  by_cases h1 : (j : Int) + c < a <;> by_cases h2 : (j : Int) < b
  · rw [if_pos h1, if_pos h2, if_neg (c := b ≤ (j : Int) ∧ (j : Int) < a - c) (by omega)]; decide
  · rw [if_pos h1, if_neg h2, if_pos (c := b ≤ (j : Int) ∧ (j : Int) < a - c) (by omega)]; decide
  · rw [if_neg h1, if_pos h2, if_neg (c := b ≤ (j : Int) ∧ (j : Int) < a - c) (by omega)]; decide
  · rw [if_neg h1, if_neg h2, if_neg (c := b ≤ (j : Int) ∧ (j : Int) < a - c) (by omega)]; decide
theorem qf_up {P : Nat → Prop} : ∀ Z : Nat, (∀ j, j + 1 < Z → P j → P (j + 1)) → ∃ k, k ≤ Z ∧ (∀ j, j < k → ¬ P j) ∧ (∀ j, k ≤ j → j < Z → P j) := by
  intro Z
  induction Z with
  | zero => intro _; exact ⟨0, by omega, fun j h => by omega, fun j _ h => by omega⟩
  | succ Z ih =>
    intro h
    obtain ⟨k, k1, k2, k3⟩ := ih (fun j hj => h j (by omega))
    by_cases e : k < Z
    · refine ⟨k, by omega, k2, ?_⟩
      intro j h1 h2
      by_cases e2 : j < Z
      · exact k3 j h1 e2
      · obtain ⟨i, rfl⟩ : ∃ i, j = i + 1 := ⟨j - 1, by omega⟩
        exact h i (by omega) (k3 i (by omega) (by omega))
    · by_cases e2 : P Z
      · refine ⟨Z, by omega, fun j hj => k2 j (by omega), ?_⟩
        intro j h1 h2
        have e3 : j = Z := by omega
        rw [e3]
        exact e2
      · refine ⟨Z + 1, by omega, ?_, fun j h1 h2 => by omega⟩
        intro j hj
        by_cases e3 : j < k
        · exact k2 j e3
        · have e4 : j = Z := by omega
          rw [e4]
          exact e2
section
variable {n : Nat} {F T tm : Nat → Nat} {u : Nat → Int} {last : Nat} {E : Nat} {s t : Nat → Nat} {r g : Nat → Int} {v : Int}
theorem qf_dm {a b : Nat} (h : b < 13) : (13 * a + b) / 13 = a ∧ (13 * a + b) % 13 = b := by omega
/-- every h gives a bound -/
theorem qf_Y_le (hn : ∀ l, l < n → F l < 5 ∧ T l < 5 ∧ 0 ≤ u l) (hz : last ≤ 12) (H : ∀ h : Nat → Nat → Int → Int, qf_sm (fun e => h (s e) (t e) (r e)) E = qf_HL F T tm u (last + 1) h n + qf_HW last h 5)
    (Y : qf_YS E s t r g (52 + last) v) (h : Nat → Int) (h0 : h 0 = 0) (h4 : h 4 = (last : Int) + 1) : v ≤ qf_cut n F T u (fun l => (tm l : Int)) h := by
  obtain ⟨d, hd⟩ : ∃ d : Nat → Int, ∀ a b : Nat, b < 13 → d (13 * a + b) = if (b : Int) < h a then 1 else 0 :=
    ⟨fun c => if ((c % 13 : Nat) : Int) < h (c / 13) then 1 else 0, fun a b hb => by (try dsimp only); rw [(qf_dm hb).1, (qf_dm hb).2]⟩
  have e0 : d 0 = 0 := by
    rw [show (0 : Nat) = 13 * 0 + 0 from rfl, hd 0 0 (by omega), h0]
    rfl
  have e4 : d (52 + last) = 1 := by
    rw [show 52 + last = 13 * 4 + last from rfl, hd 4 last (by omega), h4, if_pos (by omega)]
  have e1 := Y.2 d
  rw [e0, e4] at e1
  have e2 : qf_ph E s t (fun _ => 0) g d ≤ qf_sm (fun e => r e * qf_pp (d (t e) - d (s e))) E := by
    refine qf_sm_le E fun e he => ?_
    have hb := Y.1 e he
    have := qf_mle (x := d (t e) - d (s e)) hb.1 hb.2.1
    have e3 : d (t e) - 0 - d (s e) = d (t e) - d (s e) := by omega
    try dsimp only
    rw [e3]
    exact this
  have e3 := H (fun a b x => x * qf_pp (d b - d a))
  try dsimp only at e3
  rw [e3] at e2
  have w0 : qf_HW last (fun a b x => x * qf_pp (d b - d a)) 5 = 0 := by
    unfold qf_HW
    rw [qf_sm_c (g := fun _ => 0) 5, qf_sm_z]
    intro q hq
    rw [qf_sm_c (g := fun _ => 0) last, qf_sm_z]
    intro j hj
    try dsimp only
    rw [hd q j (by omega), show 13 * q + j + 1 = 13 * q + (j + 1) from rfl, hd q (j + 1) (by omega), qf_pp_n, Int.mul_zero]
    split <;> split <;> omega
  have l0 : qf_HL F T tm u (last + 1) (fun a b x => x * qf_pp (d b - d a)) n ≤ qf_cut n F T u (fun l => (tm l : Int)) h := by
    refine qf_sm_le n fun l hl => ?_
    try dsimp only
    have hl2 := hn l hl
    rw [qf_sm_mul]
    refine Int.mul_le_mul_of_nonneg_left ?_ hl2.2.2
    rw [qf_sm_c (g := fun j => if h (F l) ≤ (j : Int) ∧ (j : Int) < h (T l) - (tm l : Int) then 1 else 0)]
    · refine Int.le_trans (qf_cnt1 _ _ _) ?_
      unfold qf_pp
      omega
    · intro j hj
      rw [hd (F l) j (by omega), Nat.add_assoc, hd (T l) (j + tm l) (by omega), Int.natCast_add]
      exact qf_stp _ _ _ _
  rw [w0] at e2
  omega
/-- a closed set of copies gives times -/
theorem qf_Y_ge {R : Nat → Prop} (hz : last ≤ 12) (H : ∀ h : Nat → Nat → Int → Int, qf_sm (fun e => h (s e) (t e) (r e)) E = qf_HL F T tm u (last + 1) h n + qf_HW last h 5)
    (hn : ∀ l, l < n → F l < 5 ∧ T l < 5) (Y : qf_YS E s t r g (52 + last) v) (h0 : R 0) (h4 : ¬ R (52 + last)) (hc1 : ∀ e, e < E → R (s e) → g e < r e → R (t e)) (hc2 : ∀ e, e < E → R (t e) → 0 < g e → R (s e))
    (hw : ∀ q j, q < 5 → j < last → R (13 * q + j) → R (13 * q + j + 1)) :
    ∃ h : Nat → Int, h 0 = 0 ∧ h 4 = (last : Int) + 1 ∧ qf_cut n F T u (fun l => (tm l : Int)) h = v := by
  obtain ⟨k, hk⟩ : ∃ k : Nat → Nat, ∀ q, q < 5 → k q ≤ last + 1 ∧ (∀ j, j < k q → ¬ R (13 * q + j)) ∧ (∀ j, k q ≤ j → j < last + 1 → R (13 * q + j)) := by
    have h : ∀ q : Nat, ∃ k : Nat, q < 5 → k ≤ last + 1 ∧ (∀ j, j < k → ¬ R (13 * q + j)) ∧ (∀ j, k ≤ j → j < last + 1 → R (13 * q + j)) := by
      intro q
      by_cases e : q < 5
      · obtain ⟨k, hk⟩ := qf_up (P := fun j => R (13 * q + j)) (last + 1) (fun j hj hP => hw q j e (by omega) hP)
        exact ⟨k, fun _ => hk⟩
      · exact ⟨0, fun h => absurd h e⟩
    exact ⟨fun q => Classical.choose (h q), fun q hq => Classical.choose_spec (h q) hq⟩
  obtain ⟨d, d1, d2⟩ : ∃ d : Nat → Int, (∀ c, R c → d c = 0) ∧ (∀ c, ¬ R c → d c = 1) := by
    classical
    exact ⟨fun c => if R c then 0 else 1, fun c h => if_pos h, fun c h => if_neg h⟩
  have hd : ∀ a b : Nat, a < 5 → b < last + 1 → d (13 * a + b) = if (b : Int) < (k a : Int) then 1 else 0 := by
    intro a b ha hb
    by_cases e : b < k a
    · rw [d2 _ ((hk a ha).2.1 b e), if_pos (by omega)]
    · rw [d1 _ ((hk a ha).2.2 b (by omega) hb), if_neg (by omega)]
  have k0 : k 0 = 0 := by
    by_cases e : 0 < k 0
    · exact absurd h0 ((hk 0 (by omega)).2.1 0 e)
    · omega
  have k4 : k 4 = last + 1 := by
    have h1 := (hk 4 (by omega)).1
    by_cases e : k 4 ≤ last
    · exact absurd ((hk 4 (by omega)).2.2 last e (by omega)) h4
    · omega
  refine ⟨fun q => (k q : Int), by dsimp only; omega, by dsimp only; omega, ?_⟩
  have e1 := Y.2 d
  rw [d1 0 h0, d2 _ h4] at e1
  have e2 : qf_ph E s t (fun _ => 0) g d = qf_sm (fun e => r e * qf_pp (d (t e) - d (s e))) E := by
    refine qf_sm_c E fun e he => ?_
    have hb := Y.1 e he
    have e3 : d (t e) - 0 - d (s e) = d (t e) - d (s e) := by omega
    try dsimp only
    rw [e3]
    refine qf_meq hb.1 hb.2.1 ?_ ?_
    · intro hlt
      by_cases c1 : R (s e)
      · rw [d1 _ c1, d1 _ (hc1 e he c1 hlt)]
        omega
      · rw [d2 _ c1]
        by_cases c2 : R (t e)
        · rw [d1 _ c2]
          omega
        · rw [d2 _ c2]
          omega
    · intro hlt
      by_cases c1 : R (t e)
      · rw [d1 _ c1, d1 _ (hc2 e he c1 hlt)]
        omega
      · rw [d2 _ c1]
        by_cases c2 : R (s e)
        · rw [d1 _ c2]
          omega
        · rw [d2 _ c2]
          omega
  have e3 := H (fun a b x => x * qf_pp (d b - d a))
  try dsimp only at e3
  rw [e3] at e2
  have w0 : qf_HW last (fun a b x => x * qf_pp (d b - d a)) 5 = 0 := by
    unfold qf_HW
    rw [qf_sm_c (g := fun _ => 0) 5, qf_sm_z]
    intro q hq
    rw [qf_sm_c (g := fun _ => 0) last, qf_sm_z]
    intro j hj
    try dsimp only
    rw [hd q j hq (by omega), show 13 * q + j + 1 = 13 * q + (j + 1) from rfl, hd q (j + 1) hq (by omega), qf_pp_n, Int.mul_zero]
    split <;> split <;> omega
  have l0 : qf_HL F T tm u (last + 1) (fun a b x => x * qf_pp (d b - d a)) n = qf_cut n F T u (fun l => (tm l : Int)) (fun q => (k q : Int)) := by
    refine qf_sm_c n fun l hl => ?_
    try dsimp only
    have hl2 := hn l hl
    have kT := (hk (T l) hl2.2).1
    rw [qf_sm_mul]
    congr 1
    rw [qf_sm_c (g := fun j => if (k (F l) : Int) ≤ (j : Int) ∧ (j : Int) < (k (T l) : Int) - (tm l : Int) then 1 else 0)]
    · rw [qf_cnt2 (by omega)]
      unfold qf_pp
      omega
    · intro j hj
      rw [hd (F l) j hl2.1 (by omega), Nat.add_assoc, hd (T l) (j + tm l) hl2.2 (by omega), Int.natCast_add]
      exact qf_stp _ _ _ _
  rw [w0] at e2
  omega
end
theorem qf_Min_m {n : Nat} {F T : Nat → Nat} {u m m' : Nat → Int} {z v : Int} (h : ∀ l, l < n → m l = m' l) (M : qf_Min n F T u m z v) : qf_Min n F T u m' z v := by
  have e : ∀ g : Nat → Int, qf_cut n F T u m g = qf_cut n F T u m' g := fun g => qf_sm_c n fun l hl => by rw [h l hl]
  obtain ⟨⟨g, g0, g4, ge⟩, M2⟩ := M
  refine ⟨⟨g, g0, g4, by rw [← e g]; exact ge⟩, fun g' h0 h4 => by rw [← e g']; exact M2 g' h0 h4⟩
end
section
/-! 09: the reference builds the copies -/
def qf_tm (D : Nat → Int32) : Bool → Nat → Nat
  | true => qf_N D
  | false => fun _ => 0
section
variable (E : Nat) (st en ro gl : Nat → Int32) (H : (Nat → Nat → Int → Int) → Int) (P : Nat → Nat → Prop)
/-- the edges so far: each within, no flow, their sums, the waiting edges among them -/
def qf_EB : Prop := (∀ e, e < E → vp_in (st e) 65 ∧ vp_in (en e) 65 ∧ qf_N st e ≠ qf_N en e ∧ 1 ≤ qf_I ro e ∧ qf_I ro e ≤ 100000 ∧ qf_I gl e = 0) ∧
  (∀ h : Nat → Nat → Int → Int, qf_sm (fun e => h (qf_N st e) (qf_N en e) (qf_I ro e)) E = H h) ∧
  (∀ a b, P a b → ∃ e, e < E ∧ qf_N st e = a ∧ qf_N en e = b ∧ qf_I ro e = 100000)
end
section
variable {E a b n : Nat} {st en ro gl A B C D cm qu : Nat → Int32} {H H' : (Nat → Nat → Int → Int) → Int} {P P' : Nat → Nat → Prop} {x : Int32}
theorem qf_EBm (B0 : qf_EB E st en ro gl H P) (hH : ∀ h, H h = H' h) (hP : ∀ a b, P' a b → P a b) : qf_EB E st en ro gl H' P' :=
  ⟨B0.1, fun h => (B0.2.1 h).trans (hH h), fun a b h => B0.2.2 a b (hP a b h)⟩
theorem qf_EBs (B0 : qf_EB E st en ro gl H P) (ha : a < 65) (hb : b < 65) (hab : a ≠ b) (hx : 1 ≤ x.toInt) (hx2 : x.toInt ≤ 100000) :
    qf_EB (E + 1) (upd st E (nI a)) (upd en E (nI b)) (upd ro E x) (upd gl E 0) (fun h => H h + h a b x.toInt) (fun c d => P c d ∨ (x.toInt = 100000 ∧ c = a ∧ d = b)) := by
  obtain ⟨B1, B2, B3⟩ := B0
  have sa : qf_N (upd st E (nI a)) E = a := by rw [qf_Ns, nI_clamp (by omega)]
  have sb : qf_N (upd en E (nI b)) E = b := by rw [qf_Ns, nI_clamp (by omega)]
  refine ⟨?_, ?_, ?_⟩
  · intro e he
    by_cases e1 : e = E
    · subst e1
      rw [sa, sb, pk_us, pk_us, qf_Is, qf_Is]
      exact ⟨vp_in_nI ha (by omega), vp_in_nI hb (by omega), hab, hx, hx2, rfl⟩
    · rw [pk_un e1, pk_un e1, qf_Nn e1, qf_Nn e1, qf_In e1, qf_In e1]
      exact B1 e (by omega)
  · intro h
    rw [qf_smS, sa, sb, qf_Is]
    dsimp only
    rw [← B2 h]
    congr 1
    refine qf_sm_c E fun e he => ?_
    have e1 : e ≠ E := by omega
    rw [qf_Nn e1, qf_Nn e1, qf_In e1]
  · intro c d h
    rcases h with h | ⟨h1, h2, h3⟩
    · obtain ⟨e, e0, e2, e3, e4⟩ := B3 c d h
      have e1 : e ≠ E := by omega
      exact ⟨e, by omega, by rw [qf_Nn e1]; exact e2, by rw [qf_Nn e1]; exact e3, by rw [qf_In e1]; exact e4⟩
    · exact ⟨E, by omega, by rw [sa]; exact h2.symm, by rw [sb]; exact h3.symm, by rw [qf_Is]; exact h1⟩
theorem qf_edge {post : SY → Prop} (hE : E < 170) (B0 : qf_EB E st en ro gl H P) (ha : a < 65) (hb : b < 65) (hab : a ≠ b) (hx : 1 ≤ x.toInt) (hx2 : x.toInt ≤ 100000)
    (hpost : ∀ st' en' ro' gl' : Nat → Int32, qf_EB (E + 1) st' en' ro' gl' (fun h => H h + h a b x.toInt) (fun c d => P c d ∨ (x.toInt = 100000 ∧ c = a ∧ d = b)) →
      post (nI n, nI (E + 1), A, B, C, D, st', en', ro', gl', cm, qu)) :
    wpY_edge post (nI n, nI E, A, B, C, D, st, en, ro, gl, cm, qu) (nI a) (nI b) x := by
  have hin : vp_in (nI E) 170 := vp_in_nI hE (by omega)
  have eC : (nI E).toNatClampNeg = E := nI_clamp (by omega)
  refine ⟨hin, fun s1 e1 => ⟨hin, fun s2 e2 => ⟨hin, fun s3 e3 => ⟨hin, fun s4 e4 => nm_r (nI_1 E) ?_⟩⟩⟩⟩
  rw [eC] at e1 e2 e3 e4
  subst e1 e2 e3 e4
  exact hpost _ _ _ _ (qf_EBs B0 ha hb hab hx hx2)
end
section
variable {n last i q : Nat} {A B C D cm qu : Nat → Int32} {tb : Bool}
theorem qf_13 (a b : Nat) : (13 : Int32) * nI a + nI b = nI (13 * a + b) := by
  show nI 13 * nI a + nI b = _
  rw [pk_mul, nI_add]
theorem qf_tm3 (Ln : qf_Lin n A B C D) (hi : i < n) : qf_tm D tb i ≤ 3 := by
  have h := Ln.2.2.1 i hi
  cases tb
  · exact Nat.zero_le 3
  · have h1 : 0 ≤ (D i).toInt := h.2.2.2.2.2.1
    have h2 : (D i).toInt ≤ 3 := h.2.2.2.2.2.2
    have h3 := qf_clI (n := 4) (qf_in h1 (by omega))
    show (D i).toNatClampNeg ≤ 3
    omega
theorem qf_b34 {post : SY → Prop} {J : Int32 → Int32 → Int32 → (Nat → Int32) → (Nat → Int32) → (Nat → Int32) → (Nat → Int32) → (Nat → Int32) → (Nat → Int32) → (Nat → Int32) → (Nat → Int32) → (Nat → Int32) → (Nat → Int32) → Prop} {x2 : Int32}
    (Ln : qf_Lin n A B C D) (hi : i < n) (hlast : last ≤ 12)
    (hJ : ∀ (E : Nat) (st en ro gl : Nat → Int32), E ≤ 13 * (i + 1) → qf_EB E st en ro gl (fun h => qf_HL (qf_N A) (qf_N B) (qf_tm D tb) (qf_I C) (last + 1) h (i + 1)) (fun _ _ => False) →
      J (nI (i + 1)) (nI n) (nI E) A B C D st en ro gl cm qu) :
    ∀ (d j E : Nat) (st en ro gl : Nat → Int32), j + d = last + 1 - qf_tm D tb i → E ≤ 13 * i + j →
      qf_EB E st en ro gl (fun h => qf_HL (qf_N A) (qf_N B) (qf_tm D tb) (qf_I C) (last + 1) h i + qf_sm (fun j => h (13 * qf_N A i + j) (13 * qf_N B i + j + qf_tm D tb i) (qf_I C i)) j) (fun _ _ => False) →
      wY_build_34 post J (nI last) x2 (nI i) (nI (qf_tm D tb i)) (d + 1) (nI j) (nI n) (nI E) A B C D st en ro gl cm qu := by
  have N8 := Ln.2.1
  have N1 := Ln.2.2.1 i hi
  have hA := (Ln.1 i hi).1
  have hB := (Ln.1 i hi).2
  have h8 : vp_in (nI i) 8 := vp_in_nI (by omega) (by omega)
  have eC : (nI i).toNatClampNeg = i := nI_clamp (by omega)
  have ht := qf_tm3 (tb := tb) Ln hi
  have eA : A i = nI (qf_N A i) := qf_nIN hA (by omega)
  have eB : B i = nI (qf_N B i) := qf_nIN hB (by omega)
  have b1 : 1 ≤ (C i).toInt := N1.2.2.2.1
  have b2 : (C i).toInt ≤ 5 := N1.2.2.2.2.1
  intro d
  induction d with
  | zero =>
    intro j E st en ro gl hj hE hB0
    refine br_t ?_ (nm_r (nI_1 i) (hJ E st en ro gl (by omega) (qf_EBm hB0 (fun h => ?_) (fun _ _ h => h))))
    · rw [nI_add]
      exact nI_lt (by omega) (by omega)
    · have e : j = last + 1 - qf_tm D tb i := by omega
      rw [e]
      rfl
  | succ d ih =>
    intro j E st en ro gl hj hE hB0
    refine br_f ?_ ⟨h8, h8, h8, ?_⟩
    · rw [nI_add]
      exact nI_nlt (by omega) (by omega)
    · rw [eC, eA, eB, qf_13, qf_13, nI_add]
      refine qf_edge (by omega) hB0 (by omega) (by omega) (by omega) b1 (by omega) ?_
      intro st' en' ro' gl' hB1
      refine nm_r (nI_1 j) (ih (j + 1) (E + 1) st' en' ro' gl' (by omega) (by omega) (qf_EBm hB1 (fun h => ?_) (fun _ _ h => Or.inl h)))
      rw [qf_smS]
      exact Int.add_assoc _ _ _
theorem qf_b102 {post : SY → Prop} {J : Int32 → Int32 → Int32 → (Nat → Int32) → (Nat → Int32) → (Nat → Int32) → (Nat → Int32) → (Nat → Int32) → (Nat → Int32) → (Nat → Int32) → (Nat → Int32) → (Nat → Int32) → (Nat → Int32) → Prop}
    {G : (Nat → Nat → Int → Int) → Int} (hn : n ≤ 8) (hq : q < 5) (hlast : last ≤ 12)
    (hJ : ∀ (E : Nat) (st en ro gl : Nat → Int32), E ≤ 13 * n + 12 * (q + 1) → qf_EB E st en ro gl (fun h => G h + qf_HW last h (q + 1)) (fun a b => ∃ c j, c < q + 1 ∧ j < last ∧ a = 13 * c + j ∧ b = 13 * c + j + 1) →
      J (nI (q + 1)) (nI n) (nI E) A B C D st en ro gl cm qu) :
    ∀ (d j E : Nat) (st en ro gl : Nat → Int32), j + d = last → E ≤ 13 * n + 12 * q + j →
      qf_EB E st en ro gl (fun h => G h + (qf_HW last h q + qf_sm (fun j => h (13 * q + j) (13 * q + j + 1) 100000) j)) (fun a b => ∃ c k, (c < q ∧ k < last ∨ c = q ∧ k < j) ∧ a = 13 * c + k ∧ b = 13 * c + k + 1) →
      wY_build_102 post J (nI last) (nI q) (d + 1) (nI j) (nI n) (nI E) A B C D st en ro gl cm qu := by
  intro d
  induction d with
  | zero =>
    intro j E st en ro gl hj hE hB0
    have e : j = last := by omega
    subst e
    refine br_t (nI_le (Nat.le_refl _) (by omega)) (nm_r (nI_1 q) (hJ E st en ro gl (by omega) (qf_EBm hB0 (fun h => rfl) ?_)))
    rintro a b ⟨c, k, h1, h2, h3, h4⟩
    exact ⟨c, k, by omega, h3, h4⟩
  | succ d ih =>
    intro j E st en ro gl hj hE hB0
    refine br_f (nI_ge (by omega) (by omega)) ?_
    rw [qf_13, nI_1 (13 * q + j)]
    refine qf_edge (by omega) hB0 (by omega) (by omega) (by omega) (by decide) (by decide) ?_
    intro st' en' ro' gl' hB1
    refine nm_r (nI_1 j) (ih (j + 1) (E + 1) st' en' ro' gl' (by omega) (by omega) (qf_EBm hB1 (fun h => ?_) ?_))
    · rw [qf_smS]
      show G h + (qf_HW last h q + _) + h (13 * q + j) (13 * q + j + 1) 100000 = _
      omega
    · rintro a b ⟨c, k, h1, h2, h3⟩
      by_cases e : c = q ∧ k = j
      · obtain ⟨rfl, rfl⟩ := e
        exact Or.inr ⟨by decide, h2, h3⟩
      · exact Or.inl ⟨c, k, by omega, h2, h3⟩
theorem qf_b94 {post : SY → Prop} {G : (Nat → Nat → Int → Int) → Int} (hn : n ≤ 8) (hlast : last ≤ 12)
    (hpost : ∀ (E : Nat) (st en ro gl : Nat → Int32), E < 170 → qf_EB E st en ro gl (fun h => G h + qf_HW last h 5) (fun a b => ∃ c j, c < 5 ∧ j < last ∧ a = 13 * c + j ∧ b = 13 * c + j + 1) →
      post (nI n, nI E, A, B, C, D, st, en, ro, gl, cm, qu)) :
    ∀ (d q E : Nat) (st en ro gl : Nat → Int32), q + d = 5 → E ≤ 13 * n + 12 * q →
      qf_EB E st en ro gl (fun h => G h + qf_HW last h q) (fun a b => ∃ c j, c < q ∧ j < last ∧ a = 13 * c + j ∧ b = 13 * c + j + 1) →
      wY_build_94 post (nI last) (d + 1) (nI q) (nI n) (nI E) A B C D st en ro gl cm qu := by
  intro d
  induction d with
  | zero =>
    intro q E st en ro gl hq hE hB0
    have e : q = 5 := by omega
    subst e
    exact br_t (nI_le (Nat.le_refl 5) (by omega)) (hpost E st en ro gl (by omega) hB0)
  | succ d ih =>
    intro q E st en ro gl hq hE hB0
    refine br_f (nI_ge (b := 5) (by omega) (by omega)) ⟨last + 1, ?_⟩
    refine qf_b102 (G := G) hn (by omega) hlast ?_ last 0 E st en ro gl (by omega) (by omega) (qf_EBm hB0 (fun h => ?_) ?_)
    · intro E' st' en' ro' gl' hE' hB1
      exact ih (q + 1) E' st' en' ro' gl' (by omega) hE' hB1
    · rw [qf_sm0, Int.add_zero]
    · rintro a b ⟨c, k, h1, h2, h3⟩
      exact ⟨c, k, by omega, by omega, h2, h3⟩
theorem qf_b7 {post : SY → Prop} (Ln : qf_Lin n A B C D) (hlast : last ≤ 12)
    (hpost : ∀ (E : Nat) (st en ro gl : Nat → Int32), E < 170 → qf_EB E st en ro gl (fun h => qf_HL (qf_N A) (qf_N B) (qf_tm D tb) (qf_I C) (last + 1) h n + qf_HW last h 5) (fun a b => ∃ c j, c < 5 ∧ j < last ∧ a = 13 * c + j ∧ b = 13 * c + j + 1) →
      post (nI n, nI E, A, B, C, D, st, en, ro, gl, cm, qu)) :
    ∀ (d i E : Nat) (st en ro gl : Nat → Int32), i + d = n → E ≤ 13 * i →
      qf_EB E st en ro gl (fun h => qf_HL (qf_N A) (qf_N B) (qf_tm D tb) (qf_I C) (last + 1) h i) (fun _ _ => False) →
      wY_build_7 post (nI last) (qf_kI tb) (d + 1) (nI i) (nI n) (nI E) A B C D st en ro gl cm qu := by
  have N8 := Ln.2.1
  intro d
  induction d with
  | zero =>
    intro i E st en ro gl hi hE hB0
    have e : i = n := by omega
    subst e
    refine br_t (nI_le (Nat.le_refl _) (by omega)) ⟨6, ?_⟩
    refine qf_b94 N8 hlast hpost 5 0 E st en ro gl (by omega) (by omega) (qf_EBm hB0 (fun h => ?_) ?_)
    · show _ = _ + (0 : Int)
      rw [Int.add_zero]
    · rintro a b ⟨c, k, h1, _⟩
      omega
  | succ d ih =>
    intro i E st en ro gl hi hE hB0
    have hi2 : i < n := by omega
    have K : wY_build_34 post (wY_build_7 post (nI last) (qf_kI tb) (d + 1)) (nI last) (qf_kI tb) (nI i) (nI (qf_tm D tb i)) (last + 1 - qf_tm D tb i + 1) (nI 0) (nI n) (nI E) A B C D st en ro gl cm qu := by
      refine qf_b34 Ln hi2 hlast ?_ _ 0 E st en ro gl (by omega) (by omega) (qf_EBm hB0 (fun h => ?_) (fun _ _ h => h))
      · intro E' st' en' ro' gl' hE' hB1
        exact ih (i + 1) E' st' en' ro' gl' (by omega) hE' hB1
      · show _ = _ + (0 : Int)
        rw [Int.add_zero]
    refine br_f (nI_ge hi2 (by omega)) ?_
    cases tb
    · exact br_t rfl ⟨_, K⟩
    · refine br_f qf_10 ⟨vp_in_nI (by omega) (by omega), nm_r (e' := nI (qf_tm D true i)) ?_ ⟨_, K⟩⟩
      rw [nI_clamp (by omega)]
      have h := Ln.2.2.1 i hi2
      have h1 : 0 ≤ (D i).toInt := h.2.2.2.2.2.1
      have h2 : (D i).toInt ≤ 3 := h.2.2.2.2.2.2
      exact qf_nIN (N := 4) (qf_in h1 (by omega)) (by omega)
/-- build -/
theorem qf_build {post : SY → Prop} {fe : Int32} {st en ro gl : Nat → Int32} (Ln : qf_Lin n A B C D) (hlast : last ≤ 12)
    (hpost : ∀ (E : Nat) (st en ro gl : Nat → Int32), E < 170 → qf_EB E st en ro gl (fun h => qf_HL (qf_N A) (qf_N B) (qf_tm D tb) (qf_I C) (last + 1) h n + qf_HW last h 5) (fun a b => ∃ c j, c < 5 ∧ j < last ∧ a = 13 * c + j ∧ b = 13 * c + j + 1) →
      post (nI n, nI E, A, B, C, D, st, en, ro, gl, cm, qu)) :
    wpY_build post (nI n, fe, A, B, C, D, st, en, ro, gl, cm, qu) (nI last) (qf_kI tb) :=
  ⟨n + 1, qf_b7 Ln hlast hpost n 0 0 st en ro gl (by omega) (by omega) ⟨fun e h => absurd h (by omega), fun h => rfl, fun _ _ h => h.elim⟩⟩
end
end
section
/-! 10: the reference looks for a way with room -/
def qf_RC (cm : Nat → Int32) : Nat → Prop := fun c => 0 ≤ qf_I cm c
section
variable (E : Nat) (st en ro gl : Nat → Int32) (k : Nat) (cm qu : Nat → Int32) (r : Nat → Nat)
def qf_PB (v : Nat) : Prop := ∃ (e : Nat) (b : Bool), e < E ∧ qf_I cm v = qf_cd 200 e b ∧ qf_he (qf_N st) (qf_N en) e b = v ∧ 0 < qf_ro (qf_I ro) (qf_I gl) e b ∧
  qf_RC cm (qf_ta (qf_N st) (qf_N en) e b) ∧ r (qf_ta (qf_N st) (qf_N en) e b) < r v
/-- k copies are in the queue, and they are the reached ones -/
def qf_QI : Prop := (k ≤ 65 ∧ (k : Int) = qf_sm (fun c => if 0 ≤ qf_I cm c then 1 else 0) 65) ∧ qf_RC cm 0 ∧
  (∀ j, j < k → vp_in (qu j) 65 ∧ qf_RC cm (qf_N qu j)) ∧ (∀ c, c < 65 → qf_RC cm c → ∃ j, j < k ∧ qf_N qu j = c) ∧ (∀ c, r c < k) ∧
  (∀ c, c < 65 → c ≠ 0 → qf_RC cm c → qf_PB E st en ro gl cm r c)
/-- the arcs from the first i copies of the queue, and the first e from the next, are looked at -/
def qf_Se (i e : Nat) : Prop := ∀ (j e' : Nat) (b : Bool), e' < E → (j < i ∨ (j = i ∧ e' < e)) → 0 < qf_ro (qf_I ro) (qf_I gl) e' b → qf_ta (qf_N st) (qf_N en) e' b = qf_N qu j → qf_RC cm (qf_he (qf_N st) (qf_N en) e' b)
def qf_EE : Prop := E < 170 ∧ ∀ e, e < E → vp_in (st e) 65 ∧ vp_in (en e) 65 ∧ qf_N st e ≠ qf_N en e
end
section
variable {E : Nat} {st en ro gl : Nat → Int32} {k e i : Nat} {b : Bool} {cm qu : Nat → Int32} {r : Nat → Nat} {y : Int32}
theorem qf_EE_E (X : qf_EE E st en) : qf_Ends 65 E (qf_N st) (qf_N en) :=
  ⟨by omega, fun e he => ⟨(qf_clI (X.2 e he).1).2, (qf_clI (X.2 e he).2.1).2, (X.2 e he).2.2⟩⟩
theorem qf_cd0 (o l : Nat) (b : Bool) : 0 ≤ qf_cd o l b := by
  cases b <;> simp only [qf_cd] <;> omega
theorem qf_RCu {c v : Nat} (hy : 0 ≤ y.toInt) : qf_RC (upd cm c y) v ↔ (v = c ∨ qf_RC cm v) := by
  unfold qf_RC
  by_cases h : v = c
  · subst h
    rw [qf_Is]
    exact ⟨fun _ => Or.inl rfl, fun _ => hy⟩
  · rw [qf_In h]
    exact ⟨fun z => Or.inr z, fun z => z.resolve_left h⟩
theorem qf_Qadd (X : qf_EE E st en) (Q : qf_QI E st en ro gl k cm qu r) (he : e < E) (hi : i < k) (hta : qf_ta (qf_N st) (qf_N en) e b = qf_N qu i) (hro : 0 < qf_ro (qf_I ro) (qf_I gl) e b)
    (hnew : ¬ qf_RC cm (qf_he (qf_N st) (qf_N en) e b)) (hy : y.toInt = qf_cd 200 e b) :
    k < 65 ∧ ∃ r' : Nat → Nat, qf_QI E st en ro gl (k + 1) (upd cm (qf_he (qf_N st) (qf_N en) e b) y) (upd qu k (nI (qf_he (qf_N st) (qf_N en) e b))) r' := by
  obtain ⟨⟨q1, q2⟩, q3, q4, q5, q6, q7⟩ := Q
  obtain ⟨a1, a2, a3⟩ := qf_ta_lt (qf_EE_E X) he b
  have hy0 : 0 ≤ y.toInt := by rw [hy]; exact qf_cd0 _ _ _
  have hN : qf_N (upd qu k (nI (qf_he (qf_N st) (qf_N en) e b))) k = qf_he (qf_N st) (qf_N en) e b := by rw [qf_Ns, nI_clamp (by omega)]
  have cnt : qf_sm (fun c => if 0 ≤ qf_I (upd cm (qf_he (qf_N st) (qf_N en) e b) y) c then 1 else 0) 65 = (k : Int) + 1 := by
    rw [qf_sm_u (f := fun c => if 0 ≤ qf_I cm c then 1 else 0) (k := qf_he (qf_N st) (qf_N en) e b) 65 a2, ← q2]
    · rw [qf_Is, if_pos hy0, if_neg (c := 0 ≤ qf_I cm (qf_he (qf_N st) (qf_N en) e b)) hnew]
      omega
    · intro c _ hc
      rw [qf_In hc]
  have k65 : k < 65 := by
    have h : qf_sm (fun c => if 0 ≤ qf_I (upd cm (qf_he (qf_N st) (qf_N en) e b) y) c then 1 else 0) 65 ≤ qf_sm (fun _ => 1) 65 := by
      refine qf_sm_le 65 fun c _ => ?_
      try dsimp only
      split <;> omega
    rw [cnt, qf_sm_k] at h
    omega
  refine ⟨k65, fun c => if c = qf_he (qf_N st) (qf_N en) e b then k else r c, ⟨by omega, by rw [cnt]; omega⟩, (qf_RCu hy0).mpr (Or.inr q3), ?_, ?_, ?_, ?_⟩
  · intro j hj
    by_cases e1 : j = k
    · subst e1
      rw [hN, pk_us]
      exact ⟨vp_in_nI a2 (by omega), (qf_RCu hy0).mpr (Or.inl rfl)⟩
    · have h := q4 j (by omega)
      rw [pk_un e1, qf_Nn e1]
      exact ⟨h.1, (qf_RCu hy0).mpr (Or.inr h.2)⟩
  · intro c hc hR
    by_cases e1 : c = qf_he (qf_N st) (qf_N en) e b
    · exact ⟨k, by omega, hN.trans e1.symm⟩
    · obtain ⟨j, j1, j2⟩ := q5 c hc (((qf_RCu hy0).mp hR).resolve_left e1)
      exact ⟨j, by omega, by rw [qf_Nn (by omega)]; exact j2⟩
  · intro c
    have := q6 c
    try dsimp only
    split <;> omega
  · intro c hc hc0 hR
    have q6i := q6 (qf_N qu i)
    by_cases e1 : c = qf_he (qf_N st) (qf_N en) e b
    · subst e1
      refine ⟨e, b, he, ?_, rfl, hro, (qf_RCu hy0).mpr (Or.inr (by rw [hta]; exact (q4 i hi).2)), ?_⟩
      · rw [qf_Is]
        exact hy
      · try dsimp only
        rw [if_pos rfl, if_neg a3]
        exact q6 _
    · have hRc := ((qf_RCu hy0).mp hR).resolve_left e1
      obtain ⟨e2, b2, g1, g2, g3, g4, g5, g6⟩ := q7 c hc hc0 hRc
      refine ⟨e2, b2, g1, ?_, g3, g4, (qf_RCu hy0).mpr (Or.inr g5), ?_⟩
      · rw [qf_In e1]
        exact g2
      · have e3 : qf_ta (qf_N st) (qf_N en) e2 b2 ≠ qf_he (qf_N st) (qf_N en) e b := by
          intro z
          rw [z] at g5
          exact hnew g5
        try dsimp only
        rw [if_neg e1, if_neg e3]
        exact g6
theorem qf_Sadd (S : qf_Se E st en ro gl cm qu i e) {c : Nat} {x : Int32} (hi : i < k) (hy : 0 ≤ y.toInt)
    (hn : ∀ b : Bool, 0 < qf_ro (qf_I ro) (qf_I gl) e b → qf_ta (qf_N st) (qf_N en) e b = qf_N qu i → qf_he (qf_N st) (qf_N en) e b = c ∨ qf_RC cm (qf_he (qf_N st) (qf_N en) e b)) :
    qf_Se E st en ro gl (upd cm c y) (upd qu k x) i (e + 1) := by
  intro j e' b he hj hro hta
  rw [qf_Nn (by omega)] at hta
  by_cases h : j = i ∧ e' = e
  · obtain ⟨rfl, rfl⟩ := h
    exact (qf_RCu hy).mpr (hn b hro hta)
  · exact (qf_RCu hy).mpr (Or.inr (S j e' b he (by omega) hro hta))
theorem qf_Sno (S : qf_Se E st en ro gl cm qu i e)
    (hn : ∀ b : Bool, 0 < qf_ro (qf_I ro) (qf_I gl) e b → qf_ta (qf_N st) (qf_N en) e b = qf_N qu i → qf_RC cm (qf_he (qf_N st) (qf_N en) e b)) :
    qf_Se E st en ro gl cm qu i (e + 1) := by
  intro j e' b he hj hro hta
  by_cases h : j = i ∧ e' = e
  · obtain ⟨rfl, rfl⟩ := h
    exact hn b hro hta
  · exact S j e' b he (by omega) hro hta
end
theorem qf_clE {x y : Int32} {N : Nat} (hx : vp_in x N) (hy : vp_in y N) : x = y ↔ x.toNatClampNeg = y.toNatClampNeg := by
  have h1 := qf_clI hx
  have h2 := qf_clI hy
  rw [← Int32.toInt_inj]
  omega
section
variable {n E : Nat} {A B C D st en ro gl : Nat → Int32} {k e i : Nat} {cm qu : Nat → Int32} {r : Nat → Nat} {x1 z : Int32} {post : Int32 → SY → Prop}
  {J41 J49 : Int32 → Int32 → (Nat → Int32) → (Nat → Int32) → (Nat → Int32) → (Nat → Int32) → (Nat → Int32) → (Nat → Int32) → (Nat → Int32) → (Nat → Int32) → (Nat → Int32) → (Nat → Int32) → Prop}
theorem qf_s217 {x3 y : Int32} {c : Nat} (hc : c < 65) (hk : k < 65) (h : J49 (nI (k + 1)) (nI (e + 1)) A B C D st en ro gl (upd cm c y) (upd qu k (nI c))) :
    wY_search_217 post J41 J49 x1 (nI k) x3 (nI e) (nI c) y (nI c) (nI n) (nI E) A B C D st en ro gl cm qu := by
  unfold wY_search_217
  refine ⟨vp_in_nI hc (by omega), fun a ea => ⟨vp_in_nI hk (by omega), fun b eb => nm_r (nI_1 k) (nm_r (nI_1 e) ?_)⟩⟩
  rw [nI_clamp (by omega)] at ea eb
  subst ea eb
  exact h
theorem qf_s111 (X : qf_EE E st en) (he : e < E) (hi : i < 65) (hq : vp_in (qu i) 65)
    (h1 : qf_ta (qf_N st) (qf_N en) e true = qf_N qu i → 0 < qf_ro (qf_I ro) (qf_I gl) e true → ¬ qf_RC cm (qf_he (qf_N st) (qf_N en) e true) → wY_search_159 post J41 J49 x1 (nI k) (nI i) (nI e) z 1 (nI n) (nI E) A B C D st en ro gl cm qu)
    (h0 : (0 < qf_ro (qf_I ro) (qf_I gl) e true → qf_ta (qf_N st) (qf_N en) e true = qf_N qu i → qf_RC cm (qf_he (qf_N st) (qf_N en) e true)) → wY_search_159 post J41 J49 x1 (nI k) (nI i) (nI e) z 0 (nI n) (nI E) A B C D st en ro gl cm qu) :
    wY_search_111 post J41 J49 x1 (nI k) (nI i) (nI e) z (nI n) (nI E) A B C D st en ro gl cm qu := by
  have hE := X.1
  have hx := X.2 e he
  have h170 : vp_in (nI e) 170 := vp_in_nI (by omega) (by omega)
  have h65 : vp_in (nI i) 65 := vp_in_nI hi (by omega)
  have eE : (nI e).toNatClampNeg = e := nI_clamp (by omega)
  have eI : (nI i).toNatClampNeg = i := nI_clamp (by omega)
  unfold wY_search_111
  refine ⟨h170, h65, ?_⟩
  rw [eE, eI]
  refine br_c (fun h => ⟨h170, qf_le (fun g => ?_) (fun g => ⟨h170, hx.1, qf_le (fun g2 => ?_) (fun g2 => ?_)⟩)⟩) (fun h => ?_)
  · exact h0 fun a _ => by
      change 0 < (gl e).toInt at a
      rw [qf_i0] at g
      omega
  · exact h0 fun _ _ => by
      show 0 ≤ (cm (st e).toNatClampNeg).toInt
      rw [qf_i0] at g2
      exact g2
  · refine h1 ((qf_clE hx.2.1 hq).mp h) ?_ ?_
    · show 0 < (gl e).toInt
      rw [qf_i0] at g
      exact g
    · show ¬ 0 ≤ (cm (st e).toNatClampNeg).toInt
      rw [qf_i0] at g2
      omega
  · exact h0 fun _ a => absurd ((qf_clE hx.2.1 hq).mpr a) h
/-- one edge -/
theorem qf_s49s {n0 : Nat} (X : qf_EE E st en) (he : e < E) (hk : k ≤ 65) (hi : i < k) (hq : vp_in (qu i) 65)
    (hno : (∀ b : Bool, 0 < qf_ro (qf_I ro) (qf_I gl) e b → qf_ta (qf_N st) (qf_N en) e b = qf_N qu i → qf_RC cm (qf_he (qf_N st) (qf_N en) e b)) →
      wY_search_49 post J41 x1 (nI i) (nI n) (nI E) n0 (nI k) (nI (e + 1)) A B C D st en ro gl cm qu)
    (hyes : ∀ (b : Bool) (y : Int32), qf_ta (qf_N st) (qf_N en) e b = qf_N qu i → 0 < qf_ro (qf_I ro) (qf_I gl) e b → ¬ qf_RC cm (qf_he (qf_N st) (qf_N en) e b) → y.toInt = qf_cd 200 e b →
      k < 65 ∧ wY_search_49 post J41 x1 (nI i) (nI n) (nI E) n0 (nI (k + 1)) (nI (e + 1)) A B C D st en ro gl (upd cm (qf_he (qf_N st) (qf_N en) e b) y) (upd qu k (nI (qf_he (qf_N st) (qf_N en) e b)))) :
    wY_search_49 post J41 x1 (nI i) (nI n) (nI E) (n0 + 1) (nI k) (nI e) A B C D st en ro gl cm qu := by
  have hE := X.1
  have hx := X.2 e he
  have h170 : vp_in (nI e) 170 := vp_in_nI (by omega) (by omega)
  have h65 : vp_in (nI i) 65 := vp_in_nI (by omega) (by omega)
  have eE : (nI e).toNatClampNeg = e := nI_clamp (by omega)
  have eI : (nI i).toNatClampNeg = i := nI_clamp (by omega)
  have eS : st (nI e).toNatClampNeg = nI (qf_N st e) := by rw [eE]; exact qf_nIN hx.1 (by omega)
  have eN : en (nI e).toNatClampNeg = nI (qf_N en e) := by rw [eE]; exact qf_nIN hx.2.1 (by omega)
  have hS := (qf_clI hx.1).2
  have hN := (qf_clI hx.2.1).2
  have ON : qf_ta (qf_N st) (qf_N en) e false = qf_N qu i → 0 < qf_ro (qf_I ro) (qf_I gl) e false → ¬ qf_RC cm (qf_he (qf_N st) (qf_N en) e false) →
      ∀ zb : Int32, wY_search_159 post J41 (wY_search_49 post J41 x1 (nI i) (nI n) (nI E) n0) x1 (nI k) (nI i) (nI e) 1 zb (nI n) (nI E) A B C D st en ro gl cm qu := by
    intro a1 a2 a3 zb
    have h := hyes false (nI e) a1 a2 a3 (nI_toInt (by omega))
    refine br_f qf_10 ⟨h170, ?_⟩
    rw [eN]
    exact br_f qf_10 (br_f qf_10 (qf_s217 hN h.1 h.2))
  have OFF : (0 < qf_ro (qf_I ro) (qf_I gl) e false → qf_ta (qf_N st) (qf_N en) e false = qf_N qu i → qf_RC cm (qf_he (qf_N st) (qf_N en) e false)) →
      wY_search_110 post J41 (wY_search_49 post J41 x1 (nI i) (nI n) (nI E) n0) x1 (nI k) (nI i) (nI e) (nI n) (nI E) A B C D st en ro gl cm qu := by
    intro a0
    refine qf_s111 X he (by omega) hq ?_ ?_
    · intro a1 a2 a3
      have ey : (200 + nI e : Int32).toInt = qf_cd 200 e true := by
        show (nI 200 + nI e).toInt = (e : Int) + ((200 : Nat) : Int)
        rw [nI_add, nI_toInt (by omega)]
        omega
      have h := hyes true (200 + nI e) a1 a2 a3 ey
      refine br_t rfl ⟨h170, ?_⟩
      rw [eS]
      exact br_t rfl (br_f qf_10 (br_t rfl (qf_s217 hS h.1 h.2)))
    · intro a1
      refine br_t rfl ⟨h170, br_t rfl (br_t rfl (nm_r (nI_1 e) (hno ?_)))⟩
      intro b
      cases b
      · exact a0
      · exact a1
  refine br_f (nI_ge he (by omega)) ⟨h170, h65, ?_⟩
  rw [eE, eI]
  refine br_c (fun h => ⟨h170, h170, qf_le (fun g => ?_) (fun g => ⟨h170, hx.2.1, qf_le (fun g2 => ?_) (fun g2 => ?_)⟩)⟩) (fun h => ?_)
  · exact OFF fun a _ => by
      change 0 < (ro e).toInt - (gl e).toInt at a
      omega
  · exact OFF fun _ _ => by
      show 0 ≤ (cm (en e).toNatClampNeg).toInt
      rw [qf_i0] at g2
      exact g2
  · have on := ON ((qf_clE hx.1 hq).mp h) (by show 0 < (ro e).toInt - (gl e).toInt; omega) (by
      show ¬ 0 ≤ (cm (en e).toNatClampNeg).toInt
      rw [qf_i0] at g2
      omega)
    exact qf_s111 X he (by omega) hq (fun _ _ _ => on 1) (fun _ => on 0)
  · exact OFF fun _ a => absurd ((qf_clE hx.1 hq).mpr a) h
end
section
variable {n E : Nat} {A B C D st en ro gl : Nat → Int32} {zz : Nat} {post : Int32 → SY → Prop}
theorem qf_s49 {i : Nat} {x1 : Int32} {J41 : Int32 → Int32 → (Nat → Int32) → (Nat → Int32) → (Nat → Int32) → (Nat → Int32) → (Nat → Int32) → (Nat → Int32) → (Nat → Int32) → (Nat → Int32) → (Nat → Int32) → (Nat → Int32) → Prop}
    (X : qf_EE E st en) (hJ : ∀ (k : Nat) (cm qu : Nat → Int32) (r : Nat → Nat), i < k → qf_QI E st en ro gl k cm qu r → qf_Se E st en ro gl cm qu i E → J41 (nI k) (nI (i + 1)) A B C D st en ro gl cm qu) :
    ∀ (d e k : Nat) (cm qu : Nat → Int32) (r : Nat → Nat), e + d = E → i < k → qf_QI E st en ro gl k cm qu r → qf_Se E st en ro gl cm qu i e →
      wY_search_49 post J41 x1 (nI i) (nI n) (nI E) (d + 1) (nI k) (nI e) A B C D st en ro gl cm qu := by
  have hE := X.1
  intro d
  induction d with
  | zero =>
    intro e k cm qu r he hi Q S
    have e1 : e = E := by omega
    subst e1
    exact br_t (nI_le (Nat.le_refl _) (by omega)) (nm_r (nI_1 i) (hJ k cm qu r hi Q S))
  | succ d ih =>
    intro e k cm qu r he hi Q S
    have he2 : e < E := by omega
    refine qf_s49s X he2 Q.1.1 hi (Q.2.2.1 i hi).1 ?_ ?_
    · intro hn
      exact ih (e + 1) k cm qu r (by omega) hi Q (qf_Sno S hn)
    · intro b y a1 a2 a3 hy
      obtain ⟨k65, r', Q'⟩ := qf_Qadd X Q he2 hi a1 a2 a3 hy
      refine ⟨k65, ih (e + 1) (k + 1) _ _ r' (by omega) (by omega) Q' (qf_Sadd S hi (by rw [hy]; exact qf_cd0 _ _ _) ?_)⟩
      intro b' c1 c2
      by_cases e1 : b' = b
      · subst e1
        exact Or.inl rfl
      · exfalso
        have h := (X.2 e he2).2.2
        have e2 : qf_ta (qf_N st) (qf_N en) e b = qf_ta (qf_N st) (qf_N en) e b' := a1.trans c2.symm
        cases b <;> cases b'
        · exact e1 rfl
        · exact h e2
        · exact h e2.symm
        · exact e1 rfl
theorem qf_s41 (X : qf_EE E st en) (hz : zz < 65)
    (hpost : ∀ (cm qu : Nat → Int32) (r : Nat → Nat), qf_BR 65 200 E (qf_N st) (qf_N en) (qf_I ro) (fun _ => 0) (qf_I gl) (fun _ => 0) (qf_RC cm) (fun _ => 0) (qf_I cm) r →
      (¬ qf_RC cm zz → post 0 (nI n, nI E, A, B, C, D, st, en, ro, gl, cm, qu)) ∧ (qf_RC cm zz → post 1 (nI n, nI E, A, B, C, D, st, en, ro, gl, cm, qu))) :
    ∀ (d i k : Nat) (cm qu : Nat → Int32) (r : Nat → Nat), i + d = 65 → i ≤ k → qf_QI E st en ro gl k cm qu r → qf_Se E st en ro gl cm qu i 0 →
      wY_search_41 post (nI zz) (nI n) (nI E) (d + 1) (nI k) (nI i) A B C D st en ro gl cm qu := by
  have fin : ∀ (n0 i k : Nat) (cm qu : Nat → Int32) (r : Nat → Nat), i ≤ 65 → i = k → qf_QI E st en ro gl k cm qu r → qf_Se E st en ro gl cm qu i 0 →
      wY_search_41 post (nI zz) (nI n) (nI E) (n0 + 1) (nI k) (nI i) A B C D st en ro gl cm qu := by
    intro n0 i k cm qu r hi hik Q S
    subst hik
    obtain ⟨⟨q1, q2⟩, q3, q4, q5, q6, q7⟩ := Q
    have H := hpost cm qu r ⟨⟨q3, rfl, rfl⟩, ?_, ?_, ?_⟩
    · refine br_t (nI_le (Nat.le_refl _) (by omega)) ⟨vp_in_nI hz (by omega), ?_⟩
      rw [nI_clamp (by omega)]
      refine qf_lt (fun h => H.1 ?_) (fun h => H.2 ?_)
      · rw [qf_i0] at h
        show ¬ 0 ≤ (cm zz).toInt
        omega
      · rw [qf_i0] at h
        exact h
    · intro e b he hro hR
      have e0 : qf_co (fun _ => 0) e b = 0 := by cases b <;> rfl
      obtain ⟨j, j1, j2⟩ := q5 _ (qf_ta_lt (qf_EE_E X) he b).1 hR
      exact ⟨S j e b he (Or.inl j1) hro j2.symm, by rw [e0]; exact Int.le_refl _⟩
    · intro v _
      have := q6 v
      omega
    · intro v hv hv0 hR
      obtain ⟨e, b, g1, g2, g3, g4, g5, g6⟩ := q7 v hv hv0 hR
      have e0 : qf_co (fun _ => 0) e b = 0 := by cases b <;> rfl
      exact ⟨e, b, g1, g2, g3, g4, g5, by rw [e0]; rfl, Int.le_refl _, g6⟩
  intro d
  induction d with
  | zero =>
    intro i k cm qu r hi hik Q S
    have := Q.1.1
    exact fin 0 i k cm qu r (by omega) (by omega) Q S
  | succ d ih =>
    intro i k cm qu r hi hik Q S
    by_cases h : i = k
    · exact fin (d + 1) i k cm qu r (by omega) h Q S
    · have := Q.1.1
      refine br_f (nI_ge (by omega) (by omega)) ⟨E + 1, ?_⟩
      refine qf_s49 X ?_ E 0 k cm qu r (by omega) (by omega) Q S
      intro k' cm' qu' r' hk' Q' S'
      refine ih (i + 1) k' cm' qu' r' (by omega) (by omega) Q' ?_
      intro j e' b he' hj hro hta
      exact S' j e' b he' (by omega) hro hta
/-- search -/
theorem qf_search {cm qu : Nat → Int32} (X : qf_EE E st en) (hz : zz < 65)
    (hpost : ∀ (cm qu : Nat → Int32) (r : Nat → Nat), qf_BR 65 200 E (qf_N st) (qf_N en) (qf_I ro) (fun _ => 0) (qf_I gl) (fun _ => 0) (qf_RC cm) (fun _ => 0) (qf_I cm) r →
      (¬ qf_RC cm zz → post 0 (nI n, nI E, A, B, C, D, st, en, ro, gl, cm, qu)) ∧ (qf_RC cm zz → post 1 (nI n, nI E, A, B, C, D, st, en, ro, gl, cm, qu))) :
    wpY_search post (nI n, nI E, A, B, C, D, st, en, ro, gl, cm, qu) (nI zz) := by
  have H : ∀ (d j : Nat) (cm : Nat → Int32), j + d = 65 → (∀ c, c < j → qf_I cm c = -1) → wY_search_2 post (nI zz) (nI n) (nI E) (d + 1) (nI j) A B C D st en ro gl cm qu := by
    intro d
    induction d with
    | zero =>
      intro j cm hj hc
      have e : j = 65 := by omega
      subst e
      refine br_t (nI_le (Nat.le_refl 65) (by omega)) (nm_e (nm_e ⟨66, ?_⟩))
      have h9 : (999 : Int32).toInt = 999 := by decide
      have h99 : 0 ≤ (999 : Int32).toInt := by omega
      have R1 : ∀ c, c < 65 → (qf_RC (upd cm 0 999) c ↔ c = 0) := by
        intro c hc65
        rw [qf_RCu h99]
        have : ¬ qf_RC cm c := by
          unfold qf_RC
          rw [hc c hc65]
          omega
        exact ⟨fun h => h.resolve_right this, fun h => Or.inl h⟩
      have N0 : qf_N (upd qu 0 0) 0 = 0 := by rw [qf_Ns]; rfl
      refine qf_s41 (r := fun _ => 0) X hz hpost 65 0 1 (upd cm 0 999) (upd qu 0 0) (by omega) (by omega) ⟨⟨by omega, ?_⟩, (R1 0 (by omega)).mpr rfl, ?_, ?_, ?_, ?_⟩ ?_
      · rw [qf_sm_u (f := fun _ => 0) (k := 0) 65 (by omega), qf_sm_z]
        · rw [qf_Is, if_pos h99]
          rfl
        · intro c hc65 hc0
          exact if_neg (fun h => hc0 ((R1 c hc65).mp h))
      · intro j hj
        have e : j = 0 := by omega
        subst e
        rw [N0, pk_us]
        exact ⟨vp_in_nI (n := 0) (by omega) (by omega), (R1 0 (by omega)).mpr rfl⟩
      · intro c hc65 hR
        exact ⟨0, by omega, N0.trans ((R1 c hc65).mp hR).symm⟩
      · intro c
        exact Nat.zero_lt_one
      · intro c hc65 hc0 hR
        exact absurd ((R1 c hc65).mp hR) hc0
      · intro j e' b _ hj
        omega
    | succ d ih =>
      intro j cm hj hc
      have eC : (nI j).toNatClampNeg = j := nI_clamp (by omega)
      refine br_f (nI_ge (b := 65) (by omega) (by omega)) ⟨vp_in_nI (by omega) (by omega), fun a ea => nm_r (nI_1 j) ?_⟩
      rw [eC] at ea
      subst ea
      refine ih (j + 1) _ (by omega) ?_
      intro c hc2
      by_cases e : c = j
      · rw [e, qf_Is]
        rfl
      · rw [qf_In e]
        exact hc c (by omega)
  exact ⟨66, H 65 0 cm (by omega) (fun c h => absurd h (by omega))⟩
end
end
section
/-! 11: the reference sends, and its flow is the least cut -/
def qf_mt (D : Nat → Int32) : Bool → Nat → Int
  | true => qf_I D
  | false => fun _ => 0
section
variable {n E last : Nat} {tb : Bool} {A B C D st en ro gl cm qu : Nat → Int32} {r : Nat → Nat} {zz : Nat}
theorem qf_ys2 {post : SY → Prop} {f : Nat → Int} (X : qf_EE E st en) (hro : ∀ e, e < E → qf_I ro e ≤ 100000)
    (Br : qf_BR 65 200 E (qf_N st) (qf_N en) (qf_I ro) (fun _ => 0) f (fun _ => 0) (qf_RC cm) (fun _ => 0) (qf_I cm) r)
    (hpost : ∀ g : Nat → Int32, qf_SL 65 E (qf_N st) (qf_N en) (qf_I ro) (fun _ => 0) f (fun _ => 0) (qf_RC cm) (fun _ => 0) r zz 1 0 (qf_I g) → post (nI n, nI E, A, B, C, D, st, en, ro, g, cm, qu)) :
    ∀ (d v : Nat) (g : Nat → Int32), qf_PO 200 E (qf_N st) (qf_N en) (qf_I ro) f (qf_I cm) 1 d v →
      qf_SL 65 E (qf_N st) (qf_N en) (qf_I ro) (fun _ => 0) f (fun _ => 0) (qf_RC cm) (fun _ => 0) r zz 1 v (qf_I g) →
      wY_send_2 post (nI n) (nI E) (d + 1) (nI v) A B C D st en ro g cm qu := by
  have hE := X.1
  intro d
  induction d with
  | zero =>
    intro v g hP hS
    change v = 0 at hP
    subst hP
    exact br_t rfl (hpost g hS)
  | succ d ih =>
    intro v g hP hS
    rcases hP with hP | ⟨e0, e, b, he, hL, hhe, hr1, hP⟩
    · subst hP
      exact br_t rfl (hpost g hS)
    · have hv : v < 65 := hS.1.1
      obtain ⟨e', b', he', hL2, hhe', _, hRt, hq, hp, hrk⟩ := Br.2.2.2 v hv e0 hS.1.2.1
      obtain ⟨rfl, rfl⟩ := qf_cd_inj (by omega) (by omega) (hL.symm.trans hL2)
      have h65 : vp_in (nI v) 65 := vp_in_nI hv (by omega)
      have eV : (nI v).toNatClampNeg = v := nI_clamp (by omega)
      have h170 : vp_in (nI e) 170 := vp_in_nI (by omega) (by omega)
      have eE : (nI e).toNatClampNeg = e := nI_clamp (by omega)
      have hb := hS.2.1 e he
      have hb2 := hro e he
      have b1 : 0 ≤ (g e).toInt := hb.1
      have b2 : (g e).toInt ≤ 100000 := Int.le_trans hb.2 hb2
      have hL' : (cm v).toInt = qf_cd 200 e b := hL
      have hx := X.2 e he
      have K : ∀ g' : Nat → Int32, qf_I g' e = qf_I g e + qf_sg 1 b → (∀ j, j ≠ e → qf_I g' j = qf_I g j) →
          wY_send_2 post (nI n) (nI E) (d + 1) (nI (qf_ta (qf_N st) (qf_N en) e b)) A B C D st en ro g' cm qu := by
        intro g' g1 g2
        exact ih _ _ hP (qf_SLs (qf_EE_E X) (by omega) hS he hhe hr1 hRt hq hp hrk g1 g2).1
      refine br_f (nI_ne0 (by omega) (by omega)) ⟨h65, ?_⟩
      rw [eV]
      cases b
      · have e1 : cm v = nI e := by
          apply Int32.toInt_inj.mp
          rw [hL', nI_toInt (by omega)]
          rfl
        refine nm_r e1 (br_f (nI_ge (b := 200) (by omega) (by omega)) ⟨h170, h170, fun g' eg => ⟨h170, ?_⟩⟩)
        rw [eE] at eg
        rw [eE]
        subst eg
        refine nm_r (qf_nIN hx.1 (by omega)) (K _ ?_ (fun j hj => qf_In hj))
        rw [qf_Is]
        show (g e + 1).toInt = (g e).toInt + 1
        rw [qf_add (by rw [qf_i1]; omega) (by rw [qf_i1]; omega), qf_i1]
      · have e1 : cm v = nI (e + 200) := by
          apply Int32.toInt_inj.mp
          rw [hL', nI_toInt (by omega)]
          show (e : Int) + ((200 : Nat) : Int) = _
          omega
        have e2 : nI (e + 200) - 200 = nI e := by
          show nI (e + 200) - nI 200 = nI e
          rw [pk_sub (by omega)]
          congr 1
        refine nm_r e1 (br_t (nI_le (a := 200) (by omega) (by omega)) ?_)
        rw [e2]
        refine ⟨h170, h170, fun g' eg => ⟨h170, ?_⟩⟩
        rw [eE] at eg
        rw [eE]
        subst eg
        refine nm_r (qf_nIN hx.2.1 (by omega)) (K _ ?_ (fun j hj => qf_In hj))
        rw [qf_Is]
        show (g e - 1).toInt = (g e).toInt + -1
        rw [qf_sub (by rw [qf_i1]; omega) (by rw [qf_i1]; omega), qf_i1]
        omega
/-- send -/
theorem qf_sendY {post : SY → Prop} (X : qf_EE E st en) (hro : ∀ e, e < E → qf_I ro e ≤ 100000) (Bd : qf_Bd E (qf_I ro) (qf_I gl))
    (Br : qf_BR 65 200 E (qf_N st) (qf_N en) (qf_I ro) (fun _ => 0) (qf_I gl) (fun _ => 0) (qf_RC cm) (fun _ => 0) (qf_I cm) r) (hz : zz < 65) (hR : qf_RC cm zz)
    (hpost : ∀ g : Nat → Int32, qf_SL 65 E (qf_N st) (qf_N en) (qf_I ro) (fun _ => 0) (qf_I gl) (fun _ => 0) (qf_RC cm) (fun _ => 0) r zz 1 0 (qf_I g) → post (nI n, nI E, A, B, C, D, st, en, ro, g, cm, qu)) :
    wpY_send post (nI n, nI E, A, B, C, D, st, en, ro, gl, cm, qu) (nI zz) :=
  ⟨65, qf_ys2 X hro Br hpost 64 zz gl (qf_PO_of (qf_EE_E X) Br 64 zz hz hR (by have := Br.2.2.1 zz hz; omega)) (qf_SL0 hz hR Bd)⟩
theorem qf_y14 {post : Int32 → SY → Prop} (Ln : qf_Lin n A B C D) (hlast : last ≤ 12) (X : qf_EE E st en) (hro : ∀ e, e < E → 1 ≤ qf_I ro e ∧ qf_I ro e ≤ 100000)
    (H : ∀ h : Nat → Nat → Int → Int, qf_sm (fun e => h (qf_N st e) (qf_N en e) (qf_I ro e)) E = qf_HL (qf_N A) (qf_N B) (qf_tm D tb) (qf_I C) (last + 1) h n + qf_HW last h 5)
    (hW : ∀ a b, (∃ c j, c < 5 ∧ j < last ∧ a = 13 * c + j ∧ b = 13 * c + j + 1) → ∃ e, e < E ∧ qf_N st e = a ∧ qf_N en e = b ∧ qf_I ro e = 100000)
    (hpost : ∀ (s : Nat) (gl cm qu : Nat → Int32), s ≤ 429 → qf_Min n (qf_N A) (qf_N B) (qf_I C) (fun l => (qf_tm D tb l : Int)) ((last : Int) + 1) (s : Int) → post (nI s) (nI n, nI E, A, B, C, D, st, en, ro, gl, cm, qu)) :
    ∀ (d s : Nat) (gl cm qu : Nat → Int32), s + d = 1000 → qf_YS E (qf_N st) (qf_N en) (qf_I ro) (qf_I gl) (52 + last) (s : Int) →
      wY_flow_14 post (nI (52 + last)) (d + 1) (nI s) (nI n) (nI E) A B C D st en ro gl cm qu := by
  have N1 := Ln.2.2.1
  have LE : ∀ (s : Nat) (gl : Nat → Int32), qf_YS E (qf_N st) (qf_N en) (qf_I ro) (qf_I gl) (52 + last) (s : Int) → s ≤ 429 := by
    intro s gl Y
    have h := qf_Y_le (fun l hl => ⟨(N1 l hl).1, (N1 l hl).2.1, by have := N1 l hl; omega⟩) hlast H Y (fun q => if q = 4 then (last : Int) + 1 else 0) rfl rfl
    have h2 : qf_cut n (qf_N A) (qf_N B) (qf_I C) (fun l => (qf_tm D tb l : Int)) (fun q => if q = 4 then (last : Int) + 1 else 0) ≤ 13 * qf_sm (qf_I C) n := by
      rw [← qf_sm_mul]
      refine qf_sm_le n fun l hl => ?_
      have := N1 l hl
      rw [Int.mul_comm 13]
      refine Int.mul_le_mul_of_nonneg_left ?_ (by omega)
      try dsimp only
      unfold qf_pp
      split <;> split <;> split <;> omega
    have := Ln.2.2.2
    omega
  intro d
  induction d with
  | zero =>
    intro s gl cm qu hs Y
    have := LE s gl Y
    omega
  | succ d ih =>
    intro s gl cm qu hs Y
    have s4 := LE s gl Y
    have Bd : qf_Bd E (qf_I ro) (qf_I gl) := fun e he => ⟨(Y.1 e he).1, (Y.1 e he).2.1⟩
    refine br_f (nI_ge (b := 1000) (by omega) (by omega)) (qf_search X (by omega) ?_)
    intro cm' qu' r' Br
    refine ⟨fun hn => ?_, fun hy => ?_⟩
    · refine br_t rfl (hpost s gl cm' qu' s4 ⟨?_, ?_⟩)
      · have c := Br.2.1
        refine qf_Y_ge (R := qf_RC cm') hlast H (fun l hl => ⟨(N1 l hl).1, (N1 l hl).2.1⟩) Y Br.1.1 hn ?_ ?_ ?_
        · intro e he hR hlt
          exact (c e false he (by show 0 < qf_I ro e - qf_I gl e; omega) hR).1
        · intro e he hR hlt
          exact (c e true he hlt hR).1
        · intro q j hq hj hR
          obtain ⟨e, he, g1, g2, g3⟩ := hW (13 * q + j) (13 * q + j + 1) ⟨q, j, hq, hj, rfl, rfl⟩
          have hy := (Y.1 e he).2.2
          have h2 := (c e false he (by show 0 < qf_I ro e - qf_I gl e; omega) (by show qf_RC cm' (qf_N st e); rw [g1]; exact hR)).1
          change qf_RC cm' (qf_N en e) at h2
          rw [g2] at h2
          exact h2
      · intro h h0 h4
        exact qf_Y_le (fun l hl => ⟨(N1 l hl).1, (N1 l hl).2.1, by have := N1 l hl; omega⟩) hlast H Y h h0 h4
    · refine br_f qf_10 (qf_sendY X (fun e he => (hro e he).2) Bd Br (by omega) hy ?_)
      intro g G
      refine nm_r (nI_1 s) (ih (s + 1) g cm' qu' (by omega) ⟨?_, ?_⟩)
      · intro e he
        have h1 := G.2.1 e he
        have h2 := Y.1 e he
        refine ⟨h1.1, h1.2, ?_⟩
        rcases G.2.2.2 e he with h | ⟨_, h, _⟩
        · rw [h]
          omega
        · omega
      · intro h
        rw [G.2.2.1 h, Y.2 h, Int.natCast_add, Int.add_mul]
        congr 1
        dsimp only
        omega
/-- flow -/
theorem qf_flowY {post : Int32 → SY → Prop} {fe : Int32} (Ln : qf_Lin n A B C D) (hlast : last ≤ 12)
    (hpost : ∀ (s E : Nat) (st en ro gl cm qu : Nat → Int32), s ≤ 429 → qf_Min n (qf_N A) (qf_N B) (qf_I C) (qf_mt D tb) ((last : Int) + 1) (s : Int) → post (nI s) (nI n, nI E, A, B, C, D, st, en, ro, gl, cm, qu)) :
    wpY_flow post (nI n, fe, A, B, C, D, st, en, ro, gl, cm, qu) (nI last) (qf_kI tb) := by
  unfold wpY_flow
  dsimp only
  refine qf_build Ln hlast ?_
  intro E st en ro gl hE EB
  obtain ⟨E1, E2, E3⟩ := EB
  refine nm_r (e' := nI (52 + last)) (nI_add 52 last) ⟨1001, ?_⟩
  refine qf_y14 (tb := tb) Ln hlast ⟨hE, fun e he => ⟨(E1 e he).1, (E1 e he).2.1, (E1 e he).2.2.1⟩⟩ (fun e he => ⟨(E1 e he).2.2.2.1, (E1 e he).2.2.2.2.1⟩) E2 E3 ?_ 1000 0 gl cm qu (by omega) ⟨?_, ?_⟩
  · intro s gl cm qu hs M
    refine hpost s E st en ro gl cm qu hs (qf_Min_m ?_ M)
    intro l hl
    cases tb
    · rfl
    · have h1 : 0 ≤ (D l).toInt := (Ln.2.2.1 l hl).2.2.2.2.2.1
      have h2 : (D l).toInt ≤ 3 := (Ln.2.2.1 l hl).2.2.2.2.2.2
      exact (qf_clI (n := 4) (qf_in h1 (by omega))).1
  · intro e he
    have h := E1 e he
    have h2 := h.2.2.2.2.2
    omega
  · intro h
    have e0 : qf_ph E (qf_N st) (qf_N en) (fun _ => 0) (qf_I gl) h = 0 := by
      unfold qf_ph
      rw [qf_sm_c (g := fun _ => 0) E, qf_sm_z]
      intro e he
      rw [(E1 e he).2.2.2.2.2, Int.zero_mul]
    rw [e0]
    exact (Int.zero_mul _).symm
theorem qf_quY {post : Int32 → SY → Prop} {x : Int32} {a : Nat → Int} (Ln : qf_Lin n A B C D) (ha : ∀ t : Nat, t ≤ 12 → qf_Min n (qf_N A) (qf_N B) (qf_I C) (qf_I D) ((t : Int) + 1) (a t)) :
    ∀ (d t : Nat) (fe : Int32) (st en ro gl cm qu : Nat → Int32), t + d = 13 → (∀ (fe : Int32) (st en ro gl cm qu : Nat → Int32), post (qf_q a x.toInt d t) (nI n, fe, A, B, C, D, st, en, ro, gl, cm, qu)) →
      wY_quickest_2 post x (d + 1) (nI t) (nI n) fe A B C D st en ro gl cm qu := by
  intro d
  induction d with
  | zero =>
    intro t fe st en ro gl cm qu ht h
    exact br_t (nI_lt (a := 12) (by omega) (by omega)) (h fe st en ro gl cm qu)
  | succ d ih =>
    intro t fe st en ro gl cm qu ht h
    refine br_f (nI_nlt (a := 12) (by omega) (by omega)) (qf_flowY (tb := true) Ln (by omega) ?_)
    intro s E st' en' ro' gl' cm' qu' hs M
    have es : (s : Int) = a t := qf_Min_u M (ha t (by omega))
    have eI : (nI s).toInt = a t := by rw [nI_toInt (by omega)]; exact es
    unfold qf_q at h
    refine qf_lt (fun h1 => nm_r (nI_1 t) (ih (t + 1) _ st' en' ro' gl' cm' qu' (by omega) ?_)) (fun h1 => ?_)
    · rw [if_pos (by rw [← eI]; exact h1)] at h
      exact h
    · rw [if_neg (by rw [← eI]; omega)] at h
      exact h _ st' en' ro' gl' cm' qu'
end
end
section
/-! 12: the relation, adding and dropping lines -/
section
variable (n : Nat) (A B C D : Nat → Int32)
def qf_Ro : Prop := n ≤ 8 ∧ ∀ l, l < n → vp_in (A l) 5 ∧ vp_in (B l) 5 ∧ ¬ A l = B l ∧ 1 ≤ (C l).toInt ∧ (C l).toInt ≤ 4 ∧ 0 ≤ (D l).toInt ∧ (D l).toInt ≤ 3
end
/-- both hold the same lines; all else is made anew in every call -/
def i_Rel (_ : Nat) (u : SX) (v : SY) : Prop := ∃ (n : Nat) (fw fe : Int32) (A B C D fl Q V L wt wa st en ro gl cm qu : Nat → Int32),
  u = (nI n, fw, A, B, C, D, fl, Q, V, L, wt, wa) ∧ v = (nI n, fe, A, B, C, D, st, en, ro, gl, cm, qu) ∧ qf_Ro n A B C D
theorem i_up {k : Nat} {u : SX} {v : SY} (h : i_Rel k u v) : i_Rel (k + 5) u v := h
section
variable {n k j : Nat} {fw fe : Int32} {A B C D fl Q V L wt wa st en ro gl cm qu : Nat → Int32}
theorem qf_rel (h : qf_Ro n A B C D) : i_Rel k (nI n, fw, A, B, C, D, fl, Q, V, L, wt, wa) (nI n, fe, A, B, C, D, st, en, ro, gl, cm, qu) :=
  ⟨n, fw, fe, A, B, C, D, fl, Q, V, L, wt, wa, st, en, ro, gl, cm, qu, rfl, rfl, h⟩
theorem qf_RoS (h : qf_Ro n A B C D) : qf_sm (qf_I C) n ≤ 32 := by
  have h1 : qf_sm (qf_I C) n ≤ qf_sm (fun _ => 4) n := qf_sm_le n fun l hl => (h.2 l hl).2.2.2.2.1
  rw [qf_sm_k] at h1
  have := h.1
  omega
theorem qf_RoL (h : qf_Ro n A B C D) : qf_Lin n A B C D := by
  have h3 := qf_RoS h
  refine ⟨fun l hl => ⟨(h.2 l hl).1, (h.2 l hl).2.1⟩, h.1, ?_, by omega⟩
  intro l hl
  obtain ⟨h1, h2, h4, h5, h6, h7, h8⟩ := h.2 l hl
  refine ⟨(qf_clI h1).2, (qf_clI h2).2, fun z => h4 ((qf_clE h1 h2).mpr z), h5, ?_, h7, h8⟩
  show (C l).toInt ≤ 5
  omega
theorem qf_RoW (h : qf_Ro n A B C D) (hj : j < n) : qf_Lin n A B (upd C j (C j + 1)) D := by
  have h3 := qf_RoS h
  obtain ⟨L1, L2, L3, L4⟩ := qf_RoL h
  have c4 := (h.2 j hj).2.2.2.2.1
  have c1 := (h.2 j hj).2.2.2.1
  have e : (C j + 1).toInt = (C j).toInt + 1 := by rw [qf_add (by rw [qf_i1]; omega) (by rw [qf_i1]; omega), qf_i1]
  refine ⟨L1, L2, ?_, ?_⟩
  · intro l hl
    have h1 := L3 l hl
    by_cases e1 : l = j
    · subst e1
      rw [qf_Is, e]
      refine ⟨h1.1, h1.2.1, h1.2.2.1, by omega, by omega, h1.2.2.2.2.2⟩
    · rw [qf_In e1]
      exact h1
  · rw [qf_sm_u (f := qf_I C) (k := j) n hj (fun i _ hi => qf_In hi), qf_Is, e]
    show qf_sm (qf_I C) n + ((C j).toInt + 1 - (C j).toInt) ≤ 33
    omega
theorem qf_back : upd (upd C j (C j + 1)) j (upd C j (C j + 1) j - 1) = C := by
  funext i
  by_cases e : i = j
  · subst e
    rw [pk_us, pk_us]
    exact Int32.add_sub_cancel _ _
  · rw [pk_un e, pk_un e]
end
theorem i_vc0 : wpX_init (fun u => wpY_init (fun v => i_Rel 0 u v)) :=
  qf_rel (n := 0) (k := 0) ⟨by omega, fun l h => absurd h (by omega)⟩
/-- what may be added -/
def qf_G (n : Nat) (a b c d : Int32) : Prop := n < 8 ∧ 0 ≤ a.toInt ∧ a.toInt ≤ 4 ∧ 0 ≤ b.toInt ∧ b.toInt ≤ 4 ∧ ¬ a = b ∧ 1 ≤ c.toInt ∧ c.toInt ≤ 4 ∧ 0 ≤ d.toInt ∧ d.toInt ≤ 3
theorem qf_i3 : (3 : Int32).toInt = 3 := by decide
theorem qf_i4 : (4 : Int32).toInt = 4 := by decide
theorem qf_i12 : (12 : Int32).toInt = 12 := by decide
section
variable {n : Nat} {fw fe a b c d : Int32} {A B C D fl Q V L wt wa st en ro gl cm qu : Nat → Int32}
theorem qf_a28 {post : Int32 → SX → Prop} (hn : n ≤ 8) (h1 : 0 ≤ a.toInt ∧ a.toInt ≤ 4 ∧ 0 ≤ b.toInt ∧ b.toInt ≤ 4 ∧ ¬ a = b) (hb : ¬ qf_G n a b c d → post (-1) (nI n, fw, A, B, C, D, fl, Q, V, L, wt, wa))
    (hg : qf_G n a b c d → post (nI (n + 1)) (nI (n + 1), fw, upd A n a, upd B n b, upd C n c, upd D n d, fl, Q, V, L, wt, wa)) :
    wX_add_28 post a b c d 1 (nI n) fw A B C D fl Q V L wt wa := by
  have i0 := qf_i0
  have i1 := qf_i1
  have i3 := qf_i3
  have i4 := qf_i4
  unfold wX_add_28
  refine pk_le 8 n (fun h => hb fun g => ?_) (fun h => br_f qf_10 (qf_lt (fun h2 => hb fun g => ?_) (fun h2 => qf_lt (fun h3 => hb fun g => ?_) (fun h3 =>
    qf_lt (fun h4 => hb fun g => ?_) (fun h4 => qf_le (fun h5 => ?_) (fun h5 => hb fun g => ?_))))))
  · have := g.1; omega
  · have := g.2.2.2.2.2.2; omega
  · have := g.2.2.2.2.2.2; omega
  · have := g.2.2.2.2.2.2; omega
  · have hin : vp_in (nI n) 8 := vp_in_nI (by omega) (by omega)
    have eC : (nI n).toNatClampNeg = n := nI_clamp (by omega)
    refine ⟨hin, fun x ex => ⟨hin, fun y ey => ⟨hin, fun z ez => ⟨hin, fun w ew => nm_r (nI_1 n) ?_⟩⟩⟩⟩
    rw [eC] at ex ey ez ew
    subst ex ey ez ew
    exact hg ⟨by omega, h1.1, h1.2.1, h1.2.2.1, h1.2.2.2.1, h1.2.2.2.2, by omega, by omega, by omega, by omega⟩
  · have := g.2.2.2.2.2.2; omega
theorem qf_addX {post : Int32 → SX → Prop} (hn : n ≤ 8) (hb : ¬ qf_G n a b c d → post (-1) (nI n, fw, A, B, C, D, fl, Q, V, L, wt, wa))
    (hg : qf_G n a b c d → post (nI (n + 1)) (nI (n + 1), fw, upd A n a, upd B n b, upd C n c, upd D n d, fl, Q, V, L, wt, wa)) :
    wpX_add post (nI n, fw, A, B, C, D, fl, Q, V, L, wt, wa) a b c d := by
  have i0 := qf_i0
  have i4 := qf_i4
  have K : ¬ qf_G n a b c d → wX_add_27 post a b c d (nI n) fw A B C D fl Q V L wt wa := fun h => br_c (fun _ => hb h) (fun _ => br_t rfl (hb h))
  refine qf_lt (fun h => K fun g => ?_) (fun h1 => qf_lt (fun h => K fun g => ?_) (fun h2 => qf_lt (fun h => K fun g => ?_) (fun h3 => qf_lt (fun h => K fun g => ?_) (fun h4 =>
    br_c (fun h => K fun g => g.2.2.2.2.2.1 h) (fun h5 => qf_a28 hn ⟨by omega, by omega, by omega, by omega, h5⟩ hb hg)))))
  · have := g.2.1; omega
  · have := g.2.2.1; omega
  · have := g.2.2.2.1; omega
  · have := g.2.2.2.2.1; omega
theorem qf_bp {post : Int32 → Prop} (h1 : (¬ (0 ≤ a.toInt ∧ a.toInt ≤ 4)) → post 1) (h0 : 0 ≤ a.toInt → a.toInt ≤ 4 → post 0) : wpY_badPlace post a := by
  have i0 := qf_i0
  have i4 := qf_i4
  exact qf_lt (fun h => h1 (by omega)) (fun h => qf_le (fun h' => h0 (by omega) (by omega)) (fun h' => h1 (by omega)))
theorem qf_bm {post : Int32 → Prop} (h1 : (¬ (0 ≤ a.toInt ∧ a.toInt ≤ 12)) → post 1) (h0 : 0 ≤ a.toInt → a.toInt ≤ 12 → post 0) : wpY_badMoment post a := by
  have i0 := qf_i0
  have i12 := qf_i12
  exact qf_lt (fun h => h1 (by omega)) (fun h => qf_le (fun h' => h0 (by omega) (by omega)) (fun h' => h1 (by omega)))
theorem qf_addY {post : Int32 → SY → Prop} (hn : n ≤ 8) (hb : ¬ qf_G n a b c d → post (-1) (nI n, fe, A, B, C, D, st, en, ro, gl, cm, qu))
    (hg : qf_G n a b c d → post (nI (n + 1)) (nI (n + 1), fe, upd A n a, upd B n b, upd C n c, upd D n d, st, en, ro, gl, cm, qu)) :
    wpY_add post (nI n, fe, A, B, C, D, st, en, ro, gl, cm, qu) a b c d := by
  have i0 := qf_i0
  have i1 := qf_i1
  have i3 := qf_i3
  have i4 := qf_i4
  refine pk_eq n 8 (fun h => hb fun g => by have := g.1; omega) (fun h => ?_)
  refine qf_bp (fun h1 => br_f qf_10 (hb fun g => h1 ⟨g.2.1, g.2.2.1⟩)) (fun a1 a2 => br_t rfl ?_)
  refine qf_bp (fun h1 => br_f qf_10 (hb fun g => h1 ⟨g.2.2.2.1, g.2.2.2.2.1⟩)) (fun b1 b2 => br_t rfl ?_)
  refine br_c (fun h => hb fun g => g.2.2.2.2.2.1 h) (fun h1 => qf_lt (fun h2 => hb fun g => ?_) (fun h2 => qf_lt (fun h3 => hb fun g => ?_) (fun h3 =>
    qf_lt (fun h4 => hb fun g => ?_) (fun h4 => qf_le (fun h5 => ?_) (fun h5 => hb fun g => ?_)))))
  · have := g.2.2.2.2.2.2; omega
  · have := g.2.2.2.2.2.2; omega
  · have := g.2.2.2.2.2.2; omega
  · have hin : vp_in (nI n) 8 := vp_in_nI (by omega) (by omega)
    have eC : (nI n).toNatClampNeg = n := nI_clamp (by omega)
    refine ⟨hin, fun x ex => ⟨hin, fun y ey => ⟨hin, fun z ez => ⟨hin, fun w ew => nm_r (nI_1 n) ?_⟩⟩⟩⟩
    rw [eC] at ex ey ez ew
    subst ex ey ez ew
    exact hg ⟨by omega, a1, a2, b1, b2, h1, by omega, by omega, by omega, by omega⟩
  · have := g.2.2.2.2.2.2; omega
theorem qf_RoA (h : qf_Ro n A B C D) (g : qf_G n a b c d) : qf_Ro (n + 1) (upd A n a) (upd B n b) (upd C n c) (upd D n d) := by
  obtain ⟨g1, g2, g3, g4, g5, g6, g7, g8, g9, g10⟩ := g
  refine ⟨by omega, ?_⟩
  intro l hl
  by_cases e : l = n
  · subst e
    rw [pk_us, pk_us, pk_us, pk_us]
    exact ⟨qf_in g2 (by omega), qf_in g4 (by omega), g6, g7, g8, g9, g10⟩
  · rw [pk_un e, pk_un e, pk_un e, pk_un e]
    exact h.2 l (by omega)
end
theorem i_vc_add {k : Nat} {u : SX} {v : SY} (I : i_Rel k u v) (hk : k + 5 ≤ 2560) (v1 : Int32) (v2 : Int32) (v3 : Int32) (v4 : Int32) : wpX_add (fun r u' => wpY_add (fun r' v' => r' = r ∧ i_Rel (k + 5) u' v') v v1 v2 v3 v4) u v1 v2 v3 v4 := by
  obtain ⟨n, fw, fe, A, B, C, D, fl, Q, V, L, wt, wa, st, en, ro, gl, cm, qu, rfl, rfl, h⟩ := I
  refine qf_addX h.1 (fun g => ?_) (fun g => ?_)
  · exact qf_addY h.1 (fun _ => ⟨rfl, qf_rel h⟩) (fun g' => absurd g' g)
  · exact qf_addY h.1 (fun g' => absurd g g') (fun _ => ⟨rfl, qf_rel (qf_RoA h g)⟩)
theorem qf_RoD {n i : Nat} {A B C D : Nat → Int32} (h : qf_Ro n A B C D) (hi : i + 1 < n) : qf_Ro n (upd A i (A (i + 1))) (upd B i (B (i + 1))) (upd C i (C (i + 1))) (upd D i (D (i + 1))) := by
  refine ⟨h.1, ?_⟩
  intro l hl
  by_cases e : l = i
  · subst e
    rw [pk_us, pk_us, pk_us, pk_us]
    exact h.2 _ hi
  · rw [pk_un e, pk_un e, pk_un e, pk_un e]
    exact h.2 l hl
/-- dropping: both shift alike -/
theorem qf_dr {m : Nat} (hm : m < 8) : ∀ (d i : Nat) (A B C D : Nat → Int32), i + d = m → qf_Ro (m + 1) A B C D → ∃ A' B' C' D' : Nat → Int32, qf_Ro (m + 1) A' B' C' D' ∧
    (∀ (post : Int32 → SX → Prop) (fw : Int32) (fl Q V L wt wa : Nat → Int32), post (nI m) (nI m, fw, A', B', C', D', fl, Q, V, L, wt, wa) → wX_drop_26 post (nI m) fw (d + 1) (nI i) A B C D fl Q V L wt wa) ∧
    (∀ (post : Int32 → SY → Prop) (fe : Int32) (st en ro gl cm qu : Nat → Int32), post (nI m) (nI m, fe, A', B', C', D', st, en, ro, gl, cm, qu) → wY_drop_26 post (nI m) fe (d + 1) (nI i) A B C D st en ro gl cm qu) := by
  intro d
  induction d with
  | zero =>
    intro i A B C D hi h
    have hle : nI m ≤ nI i := nI_le (by omega) (by omega)
    exact ⟨A, B, C, D, h, fun post fw fl Q V L wt wa hp => br_t hle hp, fun post fe st en ro gl cm qu hp => br_t hle hp⟩
  | succ d ih =>
    intro i A B C D hi h
    obtain ⟨A', B', C', D', h', hX, hY⟩ := ih (i + 1) _ _ _ _ (by omega) (qf_RoD h (i := i) (by omega))
    have hge : ¬ nI m ≤ nI i := nI_ge (by omega) (by omega)
    have h0 : vp_in (nI i) 8 := vp_in_nI (by omega) (by omega)
    have h1 : vp_in (nI i + 1) 8 := by rw [nI_1]; exact vp_in_nI (by omega) (by omega)
    have e0 : (nI i).toNatClampNeg = i := nI_clamp (by omega)
    have e1 : (nI i + 1).toNatClampNeg = i + 1 := by rw [nI_1]; exact nI_clamp (by omega)
    refine ⟨A', B', C', D', h', fun post fw fl Q V L wt wa hp => ?_, fun post fe st en ro gl cm qu hp => ?_⟩
    · refine br_f hge ⟨h1, h0, fun a ea => ⟨h1, h0, fun b eb => ⟨h1, h0, fun c ec => ⟨h1, h0, fun d ed => nm_r (nI_1 i) ?_⟩⟩⟩⟩
      rw [e0, e1] at ea eb ec ed
      subst ea eb ec ed
      exact hX post fw fl Q V L wt wa hp
    · refine br_f hge ⟨h1, h0, fun a ea => ⟨h1, h0, fun b eb => ⟨h1, h0, fun c ec => ⟨h1, h0, fun d ed => nm_r (nI_1 i) ?_⟩⟩⟩⟩
      rw [e0, e1] at ea eb ec ed
      subst ea eb ec ed
      exact hY post fe st en ro gl cm qu hp
theorem i_vc_drop {k : Nat} {u : SX} {v : SY} (I : i_Rel k u v) (hk : k + 5 ≤ 2560) (v1 : Int32) : wpX_drop (fun r u' => wpY_drop (fun r' v' => r' = r ∧ i_Rel (k + 5) u' v') v v1) u v1 := by
  obtain ⟨n, fw, fe, A, B, C, D, fl, Q, V, L, wt, wa, st, en, ro, gl, cm, qu, rfl, rfl, h⟩ := I
  have h8 := h.1
  by_cases h0 : v1 < 0
  · exact br_t h0 (br_t h0 ⟨rfl, qf_rel h⟩)
  · by_cases h1 : v1 < nI n
    · obtain ⟨i, hi, rfl⟩ := nI_of h0
      rw [nI_ltI hi (by omega)] at h1
      obtain ⟨m, rfl⟩ : ∃ m, n = m + 1 := ⟨n - 1, by omega⟩
      obtain ⟨A', B', C', D', h', hX, hY⟩ := qf_dr (m := m) (by omega) (m - i) i A B C D (by omega) h
      have hlt : nI i < nI (m + 1) := nI_lt h1 (by omega)
      refine br_f h0 (br_t hlt (nm_r (nI_pred m) ⟨m - i + 1, hX _ fw fl Q V L wt wa ?_⟩))
      exact br_f h0 (br_t hlt (nm_r (nI_pred m) ⟨m - i + 1, hY _ fe st en ro gl cm qu ⟨rfl, qf_rel ⟨by omega, fun l hl => h'.2 l (by omega)⟩⟩⟩))
    · exact br_f h0 (br_f h1 (br_f h0 (br_f h1 ⟨rfl, qf_rel h⟩)))
end
section
/-! 13: the calls that answer -/
theorem qf_t12 {x : Int32} (h0 : ¬ x < 0) (h1 : x ≤ 12) : ∃ t : Nat, t ≤ 12 ∧ x = nI t := nI_of2 qf_i12 h0 h1
theorem qf_ans {n w s t : Nat} {A B C D wt wa : Nat → Int32} {y : Int32} (W : qf_FW n (qf_N A) (qf_N B) (qf_I C) (qf_I D) w (qf_I wt) (qf_I wa)) (hy : y.toInt = qf_S w (qf_I wt) (qf_I wa) ((t : Int) + 1))
    (hs : s ≤ 429) (M : qf_Min n (qf_N A) (qf_N B) (qf_I C) (qf_mt D true) ((t : Int) + 1) (s : Int)) : nI s = y := by
  apply Int32.toInt_inj.mp
  rw [nI_toInt (by omega), hy]
  exact qf_Min_u M (W.1 _ (by omega))
theorem i_vc_arrived {k : Nat} {u : SX} {v : SY} (I : i_Rel k u v) (hk : k + 5 ≤ 2560) (v1 : Int32) : wpX_arrived (fun r u' => wpY_arrived (fun r' v' => r' = r ∧ i_Rel (k + 5) u' v') v v1) u v1 := by
  obtain ⟨n, fw, fe, A, B, C, D, fl, Q, V, L, wt, wa, st, en, ro, gl, cm, qu, rfl, rfl, h⟩ := I
  have Ln := qf_RoL h
  unfold wpX_arrived wpY_arrived
  dsimp only
  by_cases h0 : v1 < 0
  · exact br_t h0 (br_t h0 (br_f qf_10 ⟨rfl, qf_rel h⟩))
  · by_cases h1 : v1 ≤ 12
    · obtain ⟨t, ht, rfl⟩ := qf_t12 h0 h1
      refine br_f h0 (br_t h1 (qf_ways Ln ?_))
      intro w fl' Q' V' L' wt' wa' hw W
      refine qf_sum ht hw W ?_
      intro y hy
      refine br_f h0 (br_t h1 (br_t rfl (qf_flowY (tb := true) Ln ht ?_)))
      intro s E st' en' ro' gl' cm' qu' hs M
      exact ⟨qf_ans W hy hs M, qf_rel h⟩
    · exact br_f h0 (br_f h1 (br_f h0 (br_f h1 (br_f qf_10 ⟨rfl, qf_rel h⟩))))
theorem i_vc_quickest {k : Nat} {u : SX} {v : SY} (I : i_Rel k u v) (hk : k + 5 ≤ 2560) (v1 : Int32) : wpX_quickest (fun r u' => wpY_quickest (fun r' v' => r' = r ∧ i_Rel (k + 5) u' v') v v1) u v1 := by
  obtain ⟨n, fw, fe, A, B, C, D, fl, Q, V, L, wt, wa, st, en, ro, gl, cm, qu, rfl, rfl, h⟩ := I
  have Ln := qf_RoL h
  unfold wpX_quickest wpY_quickest
  dsimp only
  refine qf_ways Ln ?_
  intro w fl' Q' V' L' wt' wa' hw W
  refine ⟨14, qf_quX hw W 13 0 (by omega) ?_⟩
  refine ⟨14, qf_quY Ln (fun t _ => W.1 _ (by omega)) 13 0 fe st en ro gl cm qu (by omega) ?_⟩
  intro fe' st' en' ro' gl' cm' qu'
  exact ⟨rfl, qf_rel h⟩
theorem i_vc_first {k : Nat} {u : SX} {v : SY} (I : i_Rel k u v) (hk : k + 5 ≤ 2560) : wpX_first (fun r u' => wpY_first (fun r' v' => r' = r ∧ i_Rel (k + 5) u' v') v) u := by
  obtain ⟨n, fw, fe, A, B, C, D, fl, Q, V, L, wt, wa, st, en, ro, gl, cm, qu, rfl, rfl, h⟩ := I
  have Ln := qf_RoL h
  unfold wpX_first wpY_first wpY_quickest
  dsimp only
  refine qf_ways Ln ?_
  intro w fl' Q' V' L' wt' wa' hw W
  have F := qf_fst W
  refine pk_eq w 0 (fun e => ?_) (fun e => ?_)
  · rw [if_pos e] at F
    refine ⟨14, qf_quY Ln (fun t _ => W.1 _ (by omega)) 13 0 fe st en ro gl cm qu (by omega) ?_⟩
    intro fe' st' en' ro' gl' cm' qu'
    exact ⟨F, qf_rel h⟩
  · rw [if_neg e] at F
    refine ⟨14, qf_quY Ln (fun t _ => W.1 _ (by omega)) 13 0 fe st en ro gl cm qu (by omega) ?_⟩
    intro fe' st' en' ro' gl' cm' qu'
    exact ⟨F, qf_rel h⟩
theorem i_vc_gain {k : Nat} {u : SX} {v : SY} (I : i_Rel k u v) (hk : k + 5 ≤ 2560) (v1 : Int32) (v2 : Int32) : wpX_gain (fun r u' => wpY_gain (fun r' v' => r' = r ∧ i_Rel (k + 5) u' v') v v1 v2) u v1 v2 := by
  obtain ⟨n, fw, fe, A, B, C, D, fl, Q, V, L, wt, wa, st, en, ro, gl, cm, qu, rfl, rfl, h⟩ := I
  have Ln := qf_RoL h
  have h8 := h.1
  unfold wpX_gain wpY_gain
  dsimp only
  by_cases h0 : v2 < 0
  · exact br_t h0 (br_t h0 (br_f qf_10 ⟨rfl, qf_rel h⟩))
  · by_cases h1 : 12 < v2
    · have h1' : ¬ v2 ≤ 12 := Int32.not_le.mpr h1
      exact br_f h0 (br_t h1 (br_f h0 (br_f h1' (br_f qf_10 ⟨rfl, qf_rel h⟩))))
    · have h1' : v2 ≤ 12 := Int32.not_lt.mp h1
      obtain ⟨t, ht, rfl⟩ := qf_t12 h0 h1'
      by_cases g0 : v1 < 0
      · exact br_f h0 (br_f h1 (br_t g0 (br_f h0 (br_t h1' (br_t rfl (br_t g0 ⟨rfl, qf_rel h⟩))))))
      · by_cases g1 : v1 < nI n
        · obtain ⟨j, hj, rfl⟩ := nI_of g0
          have hjn : j < n := (nI_ltI hj (by omega)).mp g1
          have LW := qf_RoW h hjn
          have hin : vp_in (nI j) 8 := vp_in_nI (by omega) (by omega)
          have eC : (nI j).toNatClampNeg = j := nI_clamp hj
          refine br_f h0 (br_f h1 (br_f g0 (br_t g1 (qf_ways Ln ?_))))
          intro w fl1 Q1 V1 L1 wt1 wa1 hw W
          refine qf_sum ht hw W ?_
          intro y hy
          refine ⟨hin, hin, fun c ec => ?_⟩
          rw [eC] at ec
          subst ec
          refine qf_ways LW ?_
          intro w2 fl2 Q2 V2 L2 wt2 wa2 hw2 W2
          refine qf_sum ht hw2 W2 ?_
          intro y2 hy2
          refine ⟨hin, hin, fun c2 ec2 => ?_⟩
          rw [eC, qf_back] at ec2
          subst ec2
          refine br_f h0 (br_t h1' (br_t rfl (br_f g0 (br_t g1 (qf_flowY (tb := true) Ln ht ?_)))))
          intro s E st' en' ro' gl' cm' qu' hs M
          refine ⟨hin, hin, fun c3 ec3 => ?_⟩
          rw [eC] at ec3
          subst ec3
          refine qf_flowY (tb := true) LW ht ?_
          intro s2 E2 st2 en2 ro2 gl2 cm2 qu2 hs2 M2
          refine ⟨hin, hin, fun c4 ec4 => ?_⟩
          rw [eC, qf_back] at ec4
          subst ec4
          refine ⟨?_, qf_rel h⟩
          rw [qf_ans W hy hs M, qf_ans W2 hy2 hs2 M2]
        · exact br_f h0 (br_f h1 (br_f g0 (br_f g1 (br_f h0 (br_t h1' (br_t rfl (br_f g0 (br_f g1 ⟨rfl, qf_rel h⟩))))))))
theorem i_vc_steady {k : Nat} {u : SX} {v : SY} (I : i_Rel k u v) (hk : k + 5 ≤ 2560) : wpX_steady (fun r u' => wpY_steady (fun r' v' => r' = r ∧ i_Rel (k + 5) u' v') v) u := by
  obtain ⟨n, fw, fe, A, B, C, D, fl, Q, V, L, wt, wa, st, en, ro, gl, cm, qu, rfl, rfl, h⟩ := I
  have Ln := qf_RoL h
  unfold wpX_steady wpY_steady
  dsimp only
  refine qf_ways Ln ?_
  intro w fl' Q' V' L' wt' wa' hw W
  refine ⟨w + 1, qf_st8 hw W ?_ w 0 0 (by omega) rfl⟩
  intro y hy
  refine qf_flowY (tb := false) (last := 0) Ln (by omega) ?_
  intro s E st' en' ro' gl' cm' qu' hs M
  refine ⟨?_, qf_rel h⟩
  apply Int32.toInt_inj.mp
  rw [nI_toInt (by omega), hy]
  exact qf_Min_u M W.2.1
end
