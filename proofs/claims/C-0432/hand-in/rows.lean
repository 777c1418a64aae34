section
/-! rows of the kit, pasted -/
theorem pk_us {f : Nat → Int32} {k : Nat} {x : Int32} : upd f k x k = x := if_pos rfl
theorem pk_un {f : Nat → Int32} {k j : Nat} {x : Int32} (h : j ≠ k) : upd f k x j = f j := if_neg h
theorem pk_sub {a b : Nat} (h : b ≤ a) : nI a - nI b = nI (a - b) := by
  obtain ⟨c, rfl⟩ : ∃ c, a = c + b := ⟨a - b, by omega⟩
  rw [← nI_add, Int32.add_sub_cancel, Nat.add_sub_cancel]
theorem pk_m1 (n : Nat) : nI (n + 1) + (-1) = nI n := by
  rw [← nI_1, Int32.add_assoc, show (1 : Int32) + (-1) = 0 from rfl, Int32.add_zero]
theorem pk_mul (a b : Nat) : nI a * nI b = nI (a * b) := (Int32.ofNat_mul a b).symm
theorem pk_le {x y : Int32} {A B : Prop} (a b : Nat) (f : a ≤ b → A) (g : b < a → B) (hx : x = nI a := by rfl) (hy : y = nI b := by rfl) (ha : a < 2 ^ 31 := by omega) (hb : b < 2 ^ 31 := by omega) : (x ≤ y → A) ∧ (¬ x ≤ y → B) := by
  subst hx hy
  rw [nI_leI ha hb]
  exact ⟨f, fun z => g (by omega)⟩
theorem pk_lt {x y : Int32} {A B : Prop} (a b : Nat) (f : a < b → A) (g : b ≤ a → B) (hx : x = nI a := by rfl) (hy : y = nI b := by rfl) (ha : a < 2 ^ 31 := by omega) (hb : b < 2 ^ 31 := by omega) : (x < y → A) ∧ (¬ x < y → B) := by
  subst hx hy
  rw [nI_ltI ha hb]
  exact ⟨f, fun z => g (by omega)⟩
theorem pk_eq {x y : Int32} {A B : Prop} (a b : Nat) (f : a = b → A) (g : a ≠ b → B) (hx : x = nI a := by rfl) (hy : y = nI b := by rfl) (ha : a < 2 ^ 31 := by omega) (hb : b < 2 ^ 31 := by omega) : (x = y → A) ∧ (¬ x = y → B) := by
  subst hx hy
  rw [nI_eq ha hb]
  exact ⟨f, g⟩
theorem pk_in {x : Int32} (n N : Nat) (h : n < N) (hx : x = nI n := by rfl) (hN : N < 2 ^ 31 := by omega) : vp_in x N := by
  subst hx
  exact vp_in_nI h hN
theorem pk_cl {x : Int32} (n : Nat) (hx : x = nI n := by rfl) (h : n < 2 ^ 31 := by omega) : x.toNatClampNeg = n := by
  subst hx
  exact nI_clamp h
theorem pk_tn {n : Nat} (h : n < 2 ^ 32) : (nI n).toBitVec.toNat = n := Nat.mod_eq_of_lt h
theorem pk_and (x : Int32) {m : Int32} (k : Nat) (hm : m.toBitVec.toNat = 2 ^ k - 1) : x &&& m = nI (x.toBitVec.toNat % 2 ^ k) := by
  apply Int32.toBitVec_inj.mp
  apply BitVec.eq_of_toNat_eq
  rw [Int32.toBitVec_and, BitVec.toNat_and, hm, Nat.and_two_pow_sub_one_eq_mod]
  show _ = (BitVec.ofNat 32 _).toNat
  rw [BitVec.toNat_ofNat]
  exact (Nat.mod_eq_of_lt (Nat.lt_of_le_of_lt (Nat.mod_le _ _) x.toBitVec.isLt)).symm
theorem pk_andN {n : Nat} (h : n < 2 ^ 32) {m : Int32} (k : Nat) (hm : m.toBitVec.toNat = 2 ^ k - 1) : nI n &&& m = nI (n % 2 ^ k) := by
  rw [pk_and _ k hm, pk_tn h]
theorem ek_if {c d A B : Prop} (e : c ↔ d) (f : d → A) (g : ¬ d → B) : (c → A) ∧ (¬ c → B) :=
  ⟨fun z => f (e.mp z), fun z => g (fun y => z (e.mpr y))⟩
theorem nx_and (a b : Nat) : nI a &&& nI b = nI (a &&& b) := by
  apply Int32.toBitVec_inj.1
  show BitVec.ofNat 32 a &&& BitVec.ofNat 32 b = BitVec.ofNat 32 (a &&& b)
  apply BitVec.eq_of_getLsbD_eq
  intro i hi
  simp [hi]
end
section
/-! sums over the first n naturals, Int32 against Int -/
def ca_sm (f : Nat → Int) : Nat → Int
  | 0 => 0
  | n + 1 => ca_sm f n + f n
theorem ca_sm_s (f : Nat → Int) (n : Nat) : ca_sm f (n + 1) = ca_sm f n + f n := rfl
theorem ca_sm_congr {f g : Nat → Int} {n : Nat} (h : ∀ i, i < n → f i = g i) : ca_sm f n = ca_sm g n := by
  induction n with
  | zero => rfl
  | succ n ih => rw [ca_sm_s, ca_sm_s, ih (fun i hi => h i (by omega)), h n (by omega)]
theorem ca_sm_le {f g : Nat → Int} {n : Nat} (h : ∀ i, i < n → f i ≤ g i) : ca_sm f n ≤ ca_sm g n := by
  induction n with
  | zero => exact Int.le_refl 0
  | succ n ih =>
    rw [ca_sm_s, ca_sm_s]
    have a := ih (fun i hi => h i (by omega))
    have b := h n (by omega)
    omega
theorem ca_sm_add (f g : Nat → Int) (n : Nat) : ca_sm (fun i => f i + g i) n = ca_sm f n + ca_sm g n := by
  induction n with
  | zero => rfl
  | succ n ih => rw [ca_sm_s, ca_sm_s, ca_sm_s, ih]; omega
theorem ca_sm_sub (f g : Nat → Int) (n : Nat) : ca_sm (fun i => f i - g i) n = ca_sm f n - ca_sm g n := by
  induction n with
  | zero => rfl
  | succ n ih => rw [ca_sm_s, ca_sm_s, ca_sm_s, ih]; omega
theorem ca_sm_z {f : Nat → Int} {n : Nat} (h : ∀ i, i < n → f i = 0) : ca_sm f n = 0 := by
  induction n with
  | zero => rfl
  | succ n ih => rw [ca_sm_s, ih (fun i hi => h i (by omega)), h n (by omega)]; rfl
theorem ca_sm_nn {f : Nat → Int} {n : Nat} (h : ∀ i, i < n → 0 ≤ f i) : 0 ≤ ca_sm f n := by
  have a := ca_sm_le (f := fun _ => 0) (g := f) (n := n) h
  rw [ca_sm_z (f := fun _ => 0) (fun _ _ => rfl)] at a
  exact a
theorem ca_sm_upd {f g : Nat → Int} {n k : Nat} (hk : k < n) (h : ∀ i, i < n → i ≠ k → g i = f i) : ca_sm g n = ca_sm f n + (g k - f k) := by
  induction n with
  | zero => omega
  | succ n ih =>
    rw [ca_sm_s, ca_sm_s]
    by_cases e : k = n
    · subst e
      rw [ca_sm_congr (f := g) (g := f) (fun i hi => h i (by omega) (by omega))]
      omega
    · rw [ih (by omega) (fun i hi => h i (by omega)), h n (by omega) (fun z => e z.symm)]
      omega
theorem ca_sm_one {f : Nat → Int} {n k : Nat} (hk : k < n) (h : ∀ i, i < n → i ≠ k → f i = 0) : ca_sm f n = f k := by
  have a := ca_sm_upd (f := fun _ => 0) (g := f) hk h
  rw [ca_sm_z (f := fun _ => 0) (fun _ _ => rfl)] at a
  have b : ca_sm f n = 0 + (f k - 0) := a
  omega
theorem ca_sm_app (f : Nat → Int) (n m : Nat) : ca_sm f (n + m) = ca_sm f n + ca_sm (fun i => f (n + i)) m := by
  induction m with
  | zero =>
    show ca_sm f n = ca_sm f n + 0
    omega
  | succ m ih =>
    show ca_sm f (n + m) + f (n + m) = _
    rw [ih, ca_sm_s]
    omega
theorem ca_sm_25 (f : Nat → Int) : ca_sm f 25 = ca_sm f 13 + ca_sm (fun v => f (13 + v)) 6 + ca_sm (fun v => f (19 + v)) 6 := by
  have a : ca_sm f 25 = ca_sm f 19 + ca_sm (fun v => f (19 + v)) 6 := ca_sm_app f 19 6
  have b : ca_sm f 19 = ca_sm f 13 + ca_sm (fun v => f (13 + v)) 6 := ca_sm_app f 13 6
  omega
theorem ca_sm_tight {f g : Nat → Int} {n : Nat} (h : ∀ i, i < n → f i ≤ g i) (e : ca_sm g n ≤ ca_sm f n) : ∀ i, i < n → f i = g i := by
  induction n with
  | zero => intro i hi; omega
  | succ n ih =>
    rw [ca_sm_s, ca_sm_s] at e
    have a := ca_sm_le (f := f) (g := g) (n := n) (fun i hi => h i (by omega))
    have b := h n (by omega)
    intro i hi
    by_cases z : i = n
    · subst z; omega
    · exact ih (fun i hi => h i (by omega)) (by omega) i (by omega)
theorem ca_z : (0 : Int32).toInt = 0 := by decide
theorem ca_leI {x y : Int32} {a b : Int} (hx : x.toInt = a) (hy : y.toInt = b) : x ≤ y ↔ a ≤ b := by
  rw [Int32.le_iff_toInt_le, hx, hy]
theorem ca_ltI {x y : Int32} {a b : Int} (hx : x.toInt = a) (hy : y.toInt = b) : x < y ↔ a < b := by
  rw [Int32.lt_iff_toInt_lt, hx, hy]
theorem ca_eqI {x y : Int32} {a b : Int} (hx : x.toInt = a) (hy : y.toInt = b) : x = y ↔ a = b := by
  rw [← Int32.toInt_inj, hx, hy]
theorem ca_addI {x y : Int32} {a b : Int} (hx : x.toInt = a) (hy : y.toInt = b) (h1 : -2000000000 ≤ a + b) (h2 : a + b ≤ 2000000000) : (x + y).toInt = a + b := by
  subst hx hy
  exact Jvm.Kit.i32_add (by omega) (by omega)
theorem ca_subI {x y : Int32} {a b : Int} (hx : x.toInt = a) (hy : y.toInt = b) (h1 : -2000000000 ≤ a - b) (h2 : a - b ≤ 2000000000) : (x - y).toInt = a - b := by
  subst hx hy
  exact Jvm.Kit.i32_sub (by omega) (by omega)
theorem ca_negI {x : Int32} {a : Int} (hx : x.toInt = a) (h1 : -2000000000 ≤ a) : (-x).toInt = -a := by
  subst hx
  exact Jvm.Kit.i32_neg (by omega)
theorem ca_ge0 {x : Int32} : ¬ x < 0 ↔ 0 ≤ x := Int32.not_lt
theorem ca_nIn {x : Int32} (h0 : 0 ≤ x.toInt) : x = nI x.toInt.toNat := by
  obtain ⟨j, hj, e⟩ := nI_of (x := x) (by rw [ca_ltI rfl ca_z]; omega)
  have e2 : x.toInt = (j : Int) := by rw [e, nI_toInt hj]
  rw [e2]
  exact e
end
section
/-! net inflow into a set, the lack of a set, closed sets: no program in sight -/
def ca_ni (S : Nat → Bool) (a b : Nat) (x : Int) : Int := (if S b = true then x else 0) - (if S a = true then x else 0)
def ca_nt (S : Nat → Bool) (T H : Nat → Nat) (F : Nat → Int) (n : Nat) : Int := ca_sm (fun e => ca_ni S (T e) (H e) (F e)) n
def ca_pt (w : Nat) : Nat → Bool := fun v => decide (v = w)
def ca_lt (S : Nat → Bool) (a b : Nat) (l u : Int) : Int := (if S b = true ∧ S a = false then l else 0) - (if S a = true ∧ S b = false then u else 0)
def ca_lk (S : Nat → Bool) (T H : Nat → Nat) (L U : Nat → Int) (n : Nat) : Int := ca_sm (fun e => ca_lt S (T e) (H e) (L e) (U e)) n
def ca_fx (L : Nat → Int) (k : Nat) (x : Int) : Nat → Int := fun e => if e = k then x else L e
def ca_Net (T H : Nat → Nat) : Prop := (∀ e, e < 13 → T e < 6 ∧ H e < 6) ∧ (∀ v, v < 6 → T (13 + v) = 6 ∧ H (13 + v) = v ∧ T (19 + v) = v ∧ H (19 + v) = 7)
def ca_Ok (R F : Nat → Int) : Prop := ∀ e, e < 25 → 0 ≤ F e ∧ F e ≤ R e
def ca_Cl (T H : Nat → Nat) (R F : Nat → Int) (wo : Nat) (P : Nat → Bool) : Prop := ∀ e, e < 25 → e ≠ wo → (P (T e) = true → F e < R e → P (H e) = true) ∧ (P (H e) = true → 0 < F e → P (T e) = true)
def ca_lo (P : Nat → Bool) : Nat → Bool := fun v => P v && decide (v < 6)
section
variable {T H : Nat → Nat} {L U R F G C : Nat → Int} {S P : Nat → Bool}
theorem ca_pt_t {w v : Nat} (h : v = w) : ca_pt w v = true := decide_eq_true h
theorem ca_pt_f {w v : Nat} (h : v ≠ w) : ca_pt w v = false := decide_eq_false h
theorem ca_ni_add (a b : Nat) (x y : Int) : ca_ni S a b (x + y) = ca_ni S a b x + ca_ni S a b y := by
  unfold ca_ni
  cases S a <;> cases S b <;> simp <;> omega
theorem ca_ni_0 (a b : Nat) : ca_ni S a b 0 = 0 := by
  unfold ca_ni
  cases S a <;> cases S b <;> simp
theorem ca_ni_same (a : Nat) (x : Int) : ca_ni S a a x = 0 := by
  unfold ca_ni
  omega
theorem ca_nt_add (n : Nat) : ca_nt S T H (fun e => F e + G e) n = ca_nt S T H F n + ca_nt S T H G n := by
  unfold ca_nt
  rw [← ca_sm_add]
  exact ca_sm_congr (fun i _ => ca_ni_add _ _ _ _)
theorem ca_nt_congr {n : Nat} (h : ∀ e, e < n → F e = G e) : ca_nt S T H F n = ca_nt S T H G n :=
  ca_sm_congr (fun i hi => by rw [h i hi])
theorem ca_nt_0 (n : Nat) : ca_nt S T H (fun _ => 0) n = 0 := ca_sm_z (fun i _ => ca_ni_0 _ _)
theorem ca_nt_upd {n k : Nat} (hk : k < n) (h : ∀ i, i < n → i ≠ k → G i = F i) : ca_nt S T H G n = ca_nt S T H F n + ca_ni S (T k) (H k) (G k - F k) := by
  have a := ca_sm_upd (f := fun e => ca_ni S (T e) (H e) (F e)) (g := fun e => ca_ni S (T e) (H e) (G e)) hk (fun i hi hn => by show ca_ni S _ _ _ = ca_ni S _ _ _; rw [h i hi hn])
  have b : ca_nt S T H G n = ca_nt S T H F n + (ca_ni S (T k) (H k) (G k) - ca_ni S (T k) (H k) (F k)) := a
  have c := ca_ni_add (S := S) (T k) (H k) (F k) (G k - F k)
  rw [show F k + (G k - F k) = G k by omega] at c
  omega
theorem ca_pick {N a : Nat} (ha : a < N) (x : Int) : ca_sm (fun w => if S w = true then (if ca_pt w a = true then x else 0) else 0) N = if S a = true then x else 0 := by
  rw [ca_sm_one (k := a) ha]
  · rw [if_pos (ca_pt_t (w := a) (v := a) rfl)]
  · intro i hi hn
    rw [if_neg (c := ca_pt i a = true) (by rw [ca_pt_f (fun z => hn z.symm)]; decide)]
    exact ite_self _
theorem ca_pick2 {N a b : Nat} (ha : a < N) (hb : b < N) (x : Int) : ca_sm (fun w => if S w = true then ca_ni (ca_pt w) a b x else 0) N = ca_ni S a b x := by
  have e : ca_sm (fun w => if S w = true then ca_ni (ca_pt w) a b x else 0) N = ca_sm (fun w => (if S w = true then (if ca_pt w b = true then x else 0) else 0) - (if S w = true then (if ca_pt w a = true then x else 0) else 0)) N := by
    apply ca_sm_congr
    intro i _
    unfold ca_ni
    cases S i <;> simp
  rw [e, ca_sm_sub, ca_pick ha, ca_pick hb]
  rfl
theorem ca_split {n : Nat} (N : Nat) (h : ∀ e, e < n → T e < N ∧ H e < N) : ca_nt S T H F n = ca_sm (fun w => if S w = true then ca_nt (ca_pt w) T H F n else 0) N := by
  induction n with
  | zero =>
    refine (ca_sm_z (fun i _ => ?_)).symm
    exact ite_self _
  | succ n ih =>
    have a : ca_nt S T H F (n + 1) = ca_nt S T H F n + ca_ni S (T n) (H n) (F n) := rfl
    have hn := h n (by omega)
    rw [a, ih (fun e he => h e (by omega)), ← ca_pick2 (S := S) hn.1 hn.2 (F n), ← ca_sm_add]
    apply ca_sm_congr
    intro i _
    have b : ca_nt (ca_pt i) T H F (n + 1) = ca_nt (ca_pt i) T H F n + ca_ni (ca_pt i) (T n) (H n) (F n) := rfl
    rw [b]
    cases S i <;> simp
theorem ca_net8 (N : ca_Net T H) : ∀ e, e < 25 → T e < 8 ∧ H e < 8 := by
  intro e he
  by_cases h : e < 13
  · have a := N.1 e h
    omega
  · by_cases h2 : e < 19
    · have a := N.2 (e - 13) (by omega)
      rw [show 13 + (e - 13) = e by omega] at a
      omega
    · have a := N.2 (e - 19) (by omega)
      rw [show 19 + (e - 19) = e by omega] at a
      omega
theorem ca_cut25 (N : ca_Net T H) (s6 : S 6 = false) (s7 : S 7 = false) (F : Nat → Int) : ca_nt S T H F 25 = ca_nt S T H F 13 + ca_sm (fun v => if S v = true then F (13 + v) - F (19 + v) else 0) 6 := by
  have a := ca_sm_25 (fun e => ca_ni S (T e) (H e) (F e))
  have b : ca_sm (fun v => ca_ni S (T (13 + v)) (H (13 + v)) (F (13 + v))) 6 + ca_sm (fun v => ca_ni S (T (19 + v)) (H (19 + v)) (F (19 + v))) 6 = ca_sm (fun v => if S v = true then F (13 + v) - F (19 + v) else 0) 6 := by
    rw [← ca_sm_add]
    apply ca_sm_congr
    intro i hi
    obtain ⟨e1, e2, e3, e4⟩ := N.2 i hi
    rw [e1, e2, e3, e4]
    unfold ca_ni
    rw [s6, s7]
    cases S i <;> simp <;> omega
  have c : ca_nt S T H F 25 = ca_sm (fun e => ca_ni S (T e) (H e) (F e)) 25 := rfl
  have d : ca_nt S T H F 13 = ca_sm (fun e => ca_ni S (T e) (H e) (F e)) 13 := rfl
  have a' : ca_sm (fun e => ca_ni S (T e) (H e) (F e)) 25 = ca_sm (fun e => ca_ni S (T e) (H e) (F e)) 13 + ca_sm (fun v => ca_ni S (T (13 + v)) (H (13 + v)) (F (13 + v))) 6 + ca_sm (fun v => ca_ni S (T (19 + v)) (H (19 + v)) (F (19 + v))) 6 := a
  rw [c, d, a', ← b]
  omega
theorem ca_bal6 (N : ca_Net T H) (F : Nat → Int) : ca_nt (ca_pt 6) T H F 25 = - ca_sm (fun v => F (13 + v)) 6 := by
  have a : ca_nt (ca_pt 6) T H F 25 = ca_sm (fun e => ca_ni (ca_pt 6) (T e) (H e) (F e)) 13 + ca_sm (fun v => ca_ni (ca_pt 6) (T (13 + v)) (H (13 + v)) (F (13 + v))) 6 + ca_sm (fun v => ca_ni (ca_pt 6) (T (19 + v)) (H (19 + v)) (F (19 + v))) 6 := ca_sm_25 (fun e => ca_ni (ca_pt 6) (T e) (H e) (F e))
  have b1 : ca_sm (fun e => ca_ni (ca_pt 6) (T e) (H e) (F e)) 13 = 0 := by
    apply ca_sm_z
    intro i hi
    have hh := N.1 i hi
    unfold ca_ni
    rw [ca_pt_f (w := 6) (v := T i) (by omega), ca_pt_f (w := 6) (v := H i) (by omega)]
    simp
  have b3 : ca_sm (fun v => ca_ni (ca_pt 6) (T (19 + v)) (H (19 + v)) (F (19 + v))) 6 = 0 := by
    apply ca_sm_z
    intro i hi
    obtain ⟨e1, e2, e3, e4⟩ := N.2 i hi
    unfold ca_ni
    rw [e3, e4, ca_pt_f (w := 6) (v := i) (by omega), ca_pt_f (w := 6) (v := 7) (by omega)]
    simp
  have b2 : ca_sm (fun v => ca_ni (ca_pt 6) (T (13 + v)) (H (13 + v)) (F (13 + v))) 6 = ca_sm (fun v => 0 - F (13 + v)) 6 := by
    apply ca_sm_congr
    intro i hi
    obtain ⟨e1, e2, e3, e4⟩ := N.2 i hi
    unfold ca_ni
    rw [e1, e2, ca_pt_f (w := 6) (v := i) (by omega), ca_pt_t (w := 6) (v := 6) rfl]
    simp
  rw [ca_sm_sub, ca_sm_z (f := fun _ => 0) (fun _ _ => rfl)] at b2
  omega
theorem ca_bal7 (N : ca_Net T H) (F : Nat → Int) : ca_nt (ca_pt 7) T H F 25 = ca_sm (fun v => F (19 + v)) 6 := by
  have a : ca_nt (ca_pt 7) T H F 25 = ca_sm (fun e => ca_ni (ca_pt 7) (T e) (H e) (F e)) 13 + ca_sm (fun v => ca_ni (ca_pt 7) (T (13 + v)) (H (13 + v)) (F (13 + v))) 6 + ca_sm (fun v => ca_ni (ca_pt 7) (T (19 + v)) (H (19 + v)) (F (19 + v))) 6 := ca_sm_25 (fun e => ca_ni (ca_pt 7) (T e) (H e) (F e))
  have b1 : ca_sm (fun e => ca_ni (ca_pt 7) (T e) (H e) (F e)) 13 = 0 := by
    apply ca_sm_z
    intro i hi
    have hh := N.1 i hi
    unfold ca_ni
    rw [ca_pt_f (w := 7) (v := T i) (by omega), ca_pt_f (w := 7) (v := H i) (by omega)]
    simp
  have b3 : ca_sm (fun v => ca_ni (ca_pt 7) (T (13 + v)) (H (13 + v)) (F (13 + v))) 6 = 0 := by
    apply ca_sm_z
    intro i hi
    obtain ⟨e1, e2, e3, e4⟩ := N.2 i hi
    unfold ca_ni
    rw [e1, e2, ca_pt_f (w := 7) (v := i) (by omega), ca_pt_f (w := 7) (v := 6) (by omega)]
    simp
  have b2 : ca_sm (fun v => ca_ni (ca_pt 7) (T (19 + v)) (H (19 + v)) (F (19 + v))) 6 = ca_sm (fun v => F (19 + v)) 6 := by
    apply ca_sm_congr
    intro i hi
    obtain ⟨e1, e2, e3, e4⟩ := N.2 i hi
    unfold ca_ni
    rw [e3, e4, ca_pt_f (w := 7) (v := i) (by omega), ca_pt_t (w := 7) (v := 7) rfl]
    simp
  omega
theorem ca_lt_le {a b : Nat} {l c u : Int} (h1 : l ≤ c) (h2 : c ≤ u) : ca_lt S a b l u ≤ ca_ni S a b c := by
  unfold ca_lt ca_ni
  cases S a <;> cases S b <;> simp <;> omega
theorem ca_lt_eq {a b : Nat} {l c u : Int} (h1 : S b = true → S a = false → c = l) (h2 : S a = true → S b = false → c = u) : ca_lt S a b l u = ca_ni S a b c := by
  unfold ca_lt ca_ni
  cases ea : S a <;> cases eb : S b <;> simp
  · exact (h1 eb ea).symm
  · have := h2 ea eb
    omega
theorem ca_lt_ne {a b : Nat} {l c u : Int} (h : ca_lt S a b l u = ca_ni S a b c) : (S b = true → S a = false → c = l) ∧ (S a = true → S b = false → c = u) := by
  unfold ca_lt ca_ni at h
  constructor
  · intro eb ea
    rw [ea, eb] at h
    simp at h
    omega
  · intro ea eb
    rw [ea, eb] at h
    simp at h
    omega
theorem ca_lk_le {n : Nat} (h : ∀ e, e < n → L e ≤ C e ∧ C e ≤ U e) : ca_lk S T H L U n ≤ ca_nt S T H C n :=
  ca_sm_le (fun i hi => ca_lt_le (h i hi).1 (h i hi).2)
theorem ca_lt_same (a b : Nat) (x : Int) : ca_lt S a b x x = ca_ni S a b x := ca_lt_eq (fun _ _ => rfl) (fun _ _ => rfl)
theorem ca_lt_loop (a : Nat) (l u : Int) : ca_lt S a a l u = 0 := by
  unfold ca_lt
  cases S a <;> simp
theorem ca_lt_mono {a b : Nat} {l l' u u' : Int} (h1 : l ≤ l') (h2 : u' ≤ u) : ca_lt S a b l u ≤ ca_lt S a b l' u' := by
  unfold ca_lt
  cases S a <;> cases S b <;> simp <;> omega
theorem ca_lk_set {S' : Nat → Bool} {n : Nat} (h : ∀ e, e < n → S (T e) = S' (T e) ∧ S (H e) = S' (H e)) : ca_lk S T H L U n = ca_lk S' T H L U n := by
  apply ca_sm_congr
  intro i hi
  unfold ca_lt
  rw [(h i hi).1, (h i hi).2]
theorem ca_lk_0 (n : Nat) : ca_lk (fun _ => false) T H L U n = 0 := by
  apply ca_sm_z
  intro i _
  unfold ca_lt
  simp
theorem ca_lo_6 : ca_lo P 6 = false := by
  unfold ca_lo
  cases P 6 <;> rfl
theorem ca_lo_7 : ca_lo P 7 = false := by
  unfold ca_lo
  cases P 7 <;> rfl
theorem ca_lo_v {v : Nat} (h : v < 6) : ca_lo P v = P v := by
  unfold ca_lo
  rw [decide_eq_true h, Bool.and_true]
end
end
section
/-! the laws: max flow and min cut over the 25 edges, circulations over the 13 arcs -/
section
variable {T H : Nat → Nat} {L U R F G C : Nat → Int} {S P : Nat → Bool}
theorem ca_lawA (N : ca_Net T H) (b : ∀ w, w < 6 → ca_nt (ca_pt w) T H F 25 = 0) (ov : ∀ v, v < 6 → R (13 + v) - R (19 + v) = ca_nt (ca_pt v) T H L 13) (s6 : S 6 = false) (s7 : S 7 = false) : ca_nt S T H (fun e => L e + F e) 13 = ca_sm (fun v => if S v = true then (R (13 + v) - F (13 + v)) - (R (19 + v) - F (19 + v)) else 0) 6 := by
  rw [ca_nt_add]
  have h1 : ca_nt S T H L 13 = ca_sm (fun v => if S v = true then R (13 + v) - R (19 + v) else 0) 6 := by
    rw [ca_split 6 N.1]
    apply ca_sm_congr
    intro i hi
    rw [ov i hi]
  have h2 : ca_nt S T H F 25 = 0 := by
    rw [ca_split 8 (ca_net8 N)]
    apply ca_sm_z
    intro i hi
    by_cases h6 : i < 6
    · rw [b i h6]
      exact ite_self _
    · have hf : S i = false := by
        by_cases e : i = 6
        · rw [e]; exact s6
        · have e7 : i = 7 := by omega
          rw [e7]; exact s7
      rw [hf]
      rfl
  have h3 := ca_cut25 N s6 s7 F
  have h4 : ca_sm (fun v => if S v = true then (R (13 + v) - F (13 + v)) - (R (19 + v) - F (19 + v)) else 0) 6 = ca_sm (fun v => (if S v = true then R (13 + v) - R (19 + v) else 0) - (if S v = true then F (13 + v) - F (19 + v) else 0)) 6 := by
    apply ca_sm_congr
    intro i _
    cases S i <;> simp
    omega
  rw [ca_sm_sub] at h4
  omega
theorem ca_weak (N : ca_Net T H) (ok : ca_Ok R F) (u : ∀ e, e < 13 → U e = L e + R e) (b : ∀ w, w < 6 → ca_nt (ca_pt w) T H F 25 = 0) (ov : ∀ v, v < 6 → R (13 + v) - R (19 + v) = ca_nt (ca_pt v) T H L 13) (s6 : S 6 = false) (s7 : S 7 = false) : ca_lk S T H L U 13 ≤ ca_sm (fun v => R (13 + v) - F (13 + v)) 6 := by
  have a : ca_lk S T H L U 13 ≤ ca_nt S T H (fun e => L e + F e) 13 := ca_lk_le (fun e he => by
    have h1 := ok e (by omega)
    have h2 := u e he
    show L e ≤ L e + F e ∧ L e + F e ≤ U e
    omega)
  rw [ca_lawA N b ov s6 s7] at a
  refine Int.le_trans a (ca_sm_le ?_)
  intro i hi
  have h1 := ok (13 + i) (by omega)
  have h2 := ok (19 + i) (by omega)
  cases S i <;> simp <;> omega
theorem ca_tight (N : ca_Net T H) (ok : ca_Ok R F) (u : ∀ e, e < 13 → U e = L e + R e) {k : Nat} (cl : ca_Cl T H R F k P) {e : Nat} (he : e < 13) (hk : e ≠ k) : ca_lt (ca_lo P) (T e) (H e) (L e) (U e) = ca_ni (ca_lo P) (T e) (H e) (L e + F e) := by
  have n1 := N.1 e he
  have o1 := ok e (by omega)
  have u1 := u e he
  have c1 := cl e (by omega) hk
  apply ca_lt_eq
  · rw [ca_lo_v n1.1, ca_lo_v n1.2]
    intro h1 h2
    by_cases z : 0 < F e
    · have z2 := c1.2 h1 z
      rw [h2] at z2
      cases z2
    · omega
  · rw [ca_lo_v n1.1, ca_lo_v n1.2]
    intro h1 h2
    by_cases z : F e < R e
    · have z2 := c1.1 h1 z
      rw [h2] at z2
      cases z2
    · omega
theorem ca_strong (N : ca_Net T H) (ok : ca_Ok R F) (u : ∀ e, e < 13 → U e = L e + R e) (b : ∀ w, w < 6 → ca_nt (ca_pt w) T H F 25 = 0) (ov : ∀ v, v < 6 → R (13 + v) - R (19 + v) = ca_nt (ca_pt v) T H L 13) (cl : ca_Cl T H R F 25 P) (p6 : P 6 = true) (p7 : P 7 = false) : ca_lk (ca_lo P) T H L U 13 = ca_sm (fun v => R (13 + v) - F (13 + v)) 6 := by
  have a : ca_lk (ca_lo P) T H L U 13 = ca_nt (ca_lo P) T H (fun e => L e + F e) 13 :=
    ca_sm_congr (fun e he => ca_tight N ok u cl he (by omega))
  rw [a, ca_lawA N b ov ca_lo_6 ca_lo_7]
  apply ca_sm_congr
  intro i hi
  rw [ca_lo_v hi]
  obtain ⟨e1, e2, e3, e4⟩ := N.2 i hi
  have o1 := ok (13 + i) (by omega)
  have o2 := ok (19 + i) (by omega)
  have c1 := cl (13 + i) (by omega) (by omega)
  have c2 := cl (19 + i) (by omega) (by omega)
  rw [e1, e2] at c1
  rw [e3, e4] at c2
  cases hp : P i
  · have z : ¬ F (13 + i) < R (13 + i) := fun z => by
      have z2 := c1.1 p6 z
      rw [hp] at z2
      cases z2
    simp
    omega
  · have z : ¬ F (19 + i) < R (19 + i) := fun z => by
      have z2 := c2.1 hp z
      rw [p7] at z2
      cases z2
    simp
    omega
theorem ca_conv (N : ca_Net T H) (ok : ca_Ok R F) (u : ∀ e, e < 13 → U e = L e + R e) (b : ∀ w, w < 6 → ca_nt (ca_pt w) T H F 25 = 0) (ov : ∀ v, v < 6 → R (13 + v) - R (19 + v) = ca_nt (ca_pt v) T H L 13) (s6 : S 6 = false) (s7 : S 7 = false) (h : ca_lk S T H L U 13 = ca_sm (fun v => R (13 + v) - F (13 + v)) 6) : ca_Cl T H R F 25 (fun v => S v || decide (v = 6)) := by
  have bd : ∀ e, e < 13 → L e ≤ L e + F e ∧ L e + F e ≤ U e := fun e he => by
    have h1 := ok e (by omega)
    have h2 := u e he
    omega
  have a : ca_lk S T H L U 13 ≤ ca_nt S T H (fun e => L e + F e) 13 := ca_lk_le bd
  have a2 := ca_lawA (S := S) N b ov s6 s7
  have le2 : ∀ i, i < 6 → (if S i = true then (R (13 + i) - F (13 + i)) - (R (19 + i) - F (19 + i)) else 0) ≤ R (13 + i) - F (13 + i) := by
    intro i hi
    have h1 := ok (13 + i) (by omega)
    have h2 := ok (19 + i) (by omega)
    cases S i <;> simp <;> omega
  have a3 := ca_sm_le (f := fun i => if S i = true then (R (13 + i) - F (13 + i)) - (R (19 + i) - F (19 + i)) else 0) (g := fun i => R (13 + i) - F (13 + i)) le2
  have t1 := ca_sm_tight (n := 13) (f := fun e => ca_lt S (T e) (H e) (L e) (U e)) (g := fun e => ca_ni S (T e) (H e) (L e + F e)) (fun i hi => ca_lt_le (bd i hi).1 (bd i hi).2) (by
    show ca_nt S T H (fun e => L e + F e) 13 ≤ ca_lk S T H L U 13
    omega)
  have t2 := ca_sm_tight (n := 6) (f := fun i => if S i = true then (R (13 + i) - F (13 + i)) - (R (19 + i) - F (19 + i)) else 0) (g := fun i => R (13 + i) - F (13 + i)) le2 (by omega)
  intro e he _
  show ((S (T e) || decide (T e = 6)) = true → F e < R e → (S (H e) || decide (H e = 6)) = true) ∧ ((S (H e) || decide (H e = 6)) = true → 0 < F e → (S (T e) || decide (T e = 6)) = true)
  by_cases h13 : e < 13
  · have n1 := N.1 e h13
    have d1 : decide (T e = 6) = false := decide_eq_false (by omega)
    have d2 : decide (H e = 6) = false := decide_eq_false (by omega)
    have tt := ca_lt_ne (t1 e h13)
    have u1 := u e h13
    rw [d1, d2, Bool.or_false, Bool.or_false]
    constructor
    · intro h1 h2
      cases h3 : S (H e)
      · have := tt.2 h1 h3
        omega
      · rfl
    · intro h1 h2
      cases h3 : S (T e)
      · have := tt.1 h1 h3
        omega
      · rfl
  · by_cases h19 : e < 19
    · obtain ⟨v, rfl⟩ : ∃ v, e = 13 + v := ⟨e - 13, by omega⟩
      obtain ⟨e1, e2, e3, e4⟩ := N.2 v (by omega)
      have tt : (if S v = true then (R (13 + v) - F (13 + v)) - (R (19 + v) - F (19 + v)) else 0) = R (13 + v) - F (13 + v) := t2 v (by omega)
      rw [e1, e2]
      constructor
      · intro _ h2
        cases h3 : S v
        · rw [h3] at tt
          simp at tt
          omega
        · rfl
      · intro _ _
        rw [s6]
        rfl
    · obtain ⟨v, rfl⟩ : ∃ v, e = 19 + v := ⟨e - 19, by omega⟩
      obtain ⟨e1, e2, e3, e4⟩ := N.2 v (by omega)
      have tt : (if S v = true then (R (13 + v) - F (13 + v)) - (R (19 + v) - F (19 + v)) else 0) = R (13 + v) - F (13 + v) := t2 v (by omega)
      rw [e3, e4, s7]
      constructor
      · intro h1 h2
        rw [decide_eq_false (show ¬ v = 6 by omega), Bool.or_false] at h1
        rw [h1] at tt
        simp at tt
        omega
      · intro h1
        exact absurd h1 (by decide)
theorem ca_full (N : ca_Net T H) (ok : ca_Ok R F) (b : ∀ w, w < 6 → ca_nt (ca_pt w) T H F 25 = 0) (ov : ∀ v, v < 6 → R (13 + v) - R (19 + v) = ca_nt (ca_pt v) T H L 13) (b6 : ca_nt (ca_pt 6) T H F 25 = - ca_sm (fun v => R (13 + v)) 6) (S : Nat → Bool) (s6 : S 6 = false) (s7 : S 7 = false) : ca_nt S T H (fun e => L e + F e) 13 = 0 := by
  have f13 : ∀ v, v < 6 → F (13 + v) = R (13 + v) := by
    rw [ca_bal6 N] at b6
    exact ca_sm_tight (f := fun v => F (13 + v)) (g := fun v => R (13 + v)) (fun i hi => (ok (13 + i) (by omega)).2) (by omega)
  have f19 : ∀ v, v < 6 → F (19 + v) = R (19 + v) := by
    have a := ca_lawA (S := fun v => decide (v < 6)) N b ov rfl rfl
    have z : ca_nt (fun v => decide (v < 6)) T H (fun e => L e + F e) 13 = 0 := by
      apply ca_sm_z
      intro i hi
      have n1 := N.1 i hi
      unfold ca_ni
      rw [if_pos (decide_eq_true n1.1), if_pos (decide_eq_true n1.2)]
      omega
    have e : ca_sm (fun v => if decide (v < 6) = true then (R (13 + v) - F (13 + v)) - (R (19 + v) - F (19 + v)) else 0) 6 = ca_sm (fun v => F (19 + v) - R (19 + v)) 6 := by
      apply ca_sm_congr
      intro i hi
      have := f13 i hi
      rw [if_pos (decide_eq_true hi)]
      omega
    rw [z, e, ca_sm_sub] at a
    exact ca_sm_tight (f := fun v => F (19 + v)) (g := fun v => R (19 + v)) (fun i hi => (ok (19 + i) (by omega)).2) (by omega)
  rw [ca_lawA N b ov s6 s7]
  apply ca_sm_z
  intro i hi
  have h1 := f13 i hi
  have h2 := f19 i hi
  cases S i <;> simp
  omega
theorem ca_fx_s {k : Nat} {x : Int} : ca_fx L k x k = x := if_pos rfl
theorem ca_fx_n {k e : Nat} {x : Int} (h : e ≠ k) : ca_fx L k x e = L e := if_neg h
theorem ca_fixW {k : Nat} (h0 : ca_nt S T H C 13 = 0) (hb : ∀ e, e < 13 → L e ≤ C e ∧ C e ≤ U e) : ca_lk S T H (ca_fx L k (C k)) (ca_fx U k (C k)) 13 ≤ 0 := by
  rw [← h0]
  apply ca_lk_le
  intro e he
  by_cases z : e = k
  · subst z
    rw [ca_fx_s, ca_fx_s]
    omega
  · rw [ca_fx_n z, ca_fx_n z]
    exact hb e he
theorem ca_fixN {k n : Nat} {x : Int} (h1 : L k ≤ x) (h2 : x ≤ U k) : ca_lk S T H L U n ≤ ca_lk S T H (ca_fx L k x) (ca_fx U k x) n := by
  apply ca_sm_le
  intro e _
  by_cases z : e = k
  · subst z
    rw [ca_fx_s, ca_fx_s]
    exact ca_lt_mono h1 h2
  · rw [ca_fx_n z, ca_fx_n z]
    exact Int.le_refl _
theorem ca_fixC (N : ca_Net T H) (ok : ca_Ok R F) (u : ∀ e, e < 13 → U e = L e + R e) {k : Nat} (hk : k < 13) {x : Int} (h0 : ca_nt (ca_lo P) T H (fun e => L e + F e) 13 = 0) (cl : ca_Cl T H R F k P) : ca_lk (ca_lo P) T H (ca_fx L k x) (ca_fx U k x) 13 = ca_ni (ca_lo P) (T k) (H k) (x - (L k + F k)) := by
  have a : ca_lk (ca_lo P) T H (ca_fx L k x) (ca_fx U k x) 13 = ca_nt (ca_lo P) T H (ca_fx (fun e => L e + F e) k x) 13 := by
    apply ca_sm_congr
    intro e he
    by_cases z : e = k
    · subst z
      rw [ca_fx_s, ca_fx_s, ca_fx_s]
      exact ca_lt_same _ _ _
    · rw [ca_fx_n z, ca_fx_n z, ca_fx_n z]
      exact ca_tight N ok u cl he z
  have b := ca_nt_upd (S := ca_lo P) (T := T) (H := H) (F := fun e => L e + F e) (G := ca_fx (fun e => L e + F e) k x) hk (fun i _ hn => ca_fx_n hn)
  rw [ca_fx_s, h0] at b
  rw [a, b]
  omega
theorem ca_b6 : ∀ b0 b1 b2 b3 b4 b5 : Bool, (b0.toNat + 2 * b1.toNat + 4 * b2.toNat + 8 * b3.toNat + 16 * b4.toNat + 32 * b5.toNat < 64) ∧ (b0.toNat + 2 * b1.toNat + 4 * b2.toNat + 8 * b3.toNat + 16 * b4.toNat + 32 * b5.toNat).testBit 0 = b0 ∧ (b0.toNat + 2 * b1.toNat + 4 * b2.toNat + 8 * b3.toNat + 16 * b4.toNat + 32 * b5.toNat).testBit 1 = b1 ∧ (b0.toNat + 2 * b1.toNat + 4 * b2.toNat + 8 * b3.toNat + 16 * b4.toNat + 32 * b5.toNat).testBit 2 = b2 ∧ (b0.toNat + 2 * b1.toNat + 4 * b2.toNat + 8 * b3.toNat + 16 * b4.toNat + 32 * b5.toNat).testBit 3 = b3 ∧ (b0.toNat + 2 * b1.toNat + 4 * b2.toNat + 8 * b3.toNat + 16 * b4.toNat + 32 * b5.toNat).testBit 4 = b4 ∧ (b0.toNat + 2 * b1.toNat + 4 * b2.toNat + 8 * b3.toNat + 16 * b4.toNat + 32 * b5.toNat).testBit 5 = b5 := by decide +kernel
theorem ca_bits (P : Nat → Bool) : ∃ s, s < 64 ∧ ∀ v, v < 6 → s.testBit v = P v := by
  obtain ⟨h, h0, h1, h2, h3, h4, h5⟩ := ca_b6 (P 0) (P 1) (P 2) (P 3) (P 4) (P 5)
  refine ⟨_, h, fun v hv => ?_⟩
  have c : v = 0 ∨ v = 1 ∨ v = 2 ∨ v = 3 ∨ v = 4 ∨ v = 5 := by omega
  rcases c with rfl | rfl | rfl | rfl | rfl | rfl
  · exact h0
  · exact h1
  · exact h2
  · exact h3
  · exact h4
  · exact h5
theorem ca_hi {s v : Nat} (h : s < 64) (hv : 6 ≤ v) : s.testBit v = false :=
  Nat.testBit_lt_two_pow (Nat.lt_of_lt_of_le h (Nat.pow_le_pow_right (n := 2) (by decide) hv : 2 ^ 6 ≤ 2 ^ v))
theorem ca_bits_eq {s t : Nat} (hs : s < 64) (ht : t < 64) (h : ∀ v, v < 6 → s.testBit v = t.testBit v) : s = t := by
  apply Nat.eq_of_testBit_eq
  intro i
  by_cases hi : i < 6
  · exact h i hi
  · rw [ca_hi hs (by omega), ca_hi ht (by omega)]
end
end
section
/-! findWay: the visited set is closed and a tree with ranks below 8 -/
def ca_NV (T H : Nat → Nat) (R F : Nat → Int) (tl hd rm fl : Nat → Int32) : Prop := ∀ e, e < 25 → (tl e = nI (T e) ∧ T e < 8 ∧ hd e = nI (H e) ∧ H e < 8) ∧ ((rm e).toInt = R e ∧ (fl e).toInt = F e ∧ 0 ≤ F e ∧ F e ≤ R e ∧ R e ≤ 240)
def ca_Tr (T H : Nat → Nat) (R F : Nat → Int) (wo x : Nat) (d : Nat → Nat) (bb : Nat → Int32) : Prop := ∀ v, v < 8 → 0 ≤ bb v → v ≠ x → ∃ e, e < 25 ∧ e ≠ wo ∧ ((bb v = nI (2 * e) ∧ H e = v ∧ F e < R e ∧ 0 ≤ bb (T e) ∧ d (T e) < d v) ∨ (bb v = nI (2 * e + 1) ∧ T e = v ∧ 0 < F e ∧ 0 ≤ bb (H e) ∧ d (H e) < d v))
def ca_cn (bb : Nat → Int32) : Int := ca_sm (fun v => if 0 ≤ bb v then 1 else 0) 8
def ca_Qu (d : Nat → Nat) (bb qq : Nat → Int32) (k : Nat) : Prop := (∀ i, i < k → ∃ v, v < 8 ∧ qq i = nI v ∧ 0 ≤ bb v ∧ d v = i) ∧ (∀ v, v < 8 → 0 ≤ bb v → d v < k ∧ qq (d v) = nI v) ∧ ca_cn bb = (k : Int)
def ca_Do (T H : Nat → Nat) (R F : Nat → Int) (wo : Nat) (bb : Nat → Int32) (v m : Nat) : Prop := ∀ e, e < m → e ≠ wo → (T e = v → F e < R e → 0 ≤ bb (H e)) ∧ (H e = v → 0 < F e → 0 ≤ bb (T e))
def ca_In (T H : Nat → Nat) (R F : Nat → Int) (wo x : Nat) (d : Nat → Nat) (bb qq : Nat → Int32) (k i : Nat) : Prop := ca_Tr T H R F wo x d bb ∧ ca_Qu d bb qq k ∧ 0 ≤ bb x ∧ ∀ v, v < 8 → 0 ≤ bb v → d v < i → ca_Do T H R F wo bb v 25
def ca_FW (T H : Nat → Nat) (R F : Nat → Int) (wo x : Nat) (bb : Nat → Int32) : Prop := 0 ≤ bb x ∧ ∃ d : Nat → Nat, (∀ v, v < 8 → 0 ≤ bb v → d v < 8) ∧ ca_Tr T H R F wo x d bb ∧ ∀ v, v < 8 → 0 ≤ bb v → ca_Do T H R F wo bb v 25
section
variable {T H : Nat → Nat} {R F : Nat → Int} {wo x : Nat} {c nd sn : Int32} {fr tw lo hi tl hd rm fl bb qq : Nat → Int32}
theorem ca_across {post : Int32 → Prop} {e v : Nat} (N : ca_NV T H R F tl hd rm fl) (he : e < 25) (hv : v < 8)
    (h1 : T e = v → F e < R e → post (nI (H e)))
    (h2 : ¬ (T e = v ∧ F e < R e) → H e = v → 0 < F e → post (nI (T e)))
    (h3 : ¬ (T e = v ∧ F e < R e) → ¬ (H e = v ∧ 0 < F e) → post (-1)) :
    wpX_across post (c, nd, sn, fr, tw, lo, hi, tl, hd, rm, fl, bb, qq) (nI e) (nI v) := by
  obtain ⟨⟨e1, t1, e2, t2⟩, e3, e4, f1, f2, f3⟩ := N e he
  have hi' : vp_in (nI e) 25 := vp_in_nI he (by decide)
  have K : ¬ (T e = v ∧ F e < R e) → wX_across_32 post (nI e) (nI v) c nd sn fr tw lo hi tl hd rm fl bb qq := by
    intro n1
    unfold wX_across_32
    rw [nI_clamp (n := e) (by omega), e2, e1]
    refine ⟨hi', ek_if (nI_eq (by omega) (by omega)) (fun a => ⟨hi', ?_⟩) (fun a => h3 n1 (fun z => a z.1))⟩
    exact ek_if (ca_leI e4 ca_z) (fun z => h3 n1 (fun y => by omega)) (fun z => ⟨hi', h2 n1 a (by omega)⟩)
  unfold wpX_across
  dsimp only
  rw [nI_clamp (n := e) (by omega), e1]
  refine ⟨hi', ek_if (nI_eq (by omega) (by omega)) (fun a => ⟨hi', hi', ?_⟩) (fun a => K (fun z => a z.1))⟩
  refine ek_if (ca_leI e3 e4) (fun z => K (fun y => by omega)) (fun z => ⟨hi', ?_⟩)
  rw [e2]
  exact h1 a (by omega)
theorem ca_mono {w : Nat} {z : Int32} (nw : ¬ 0 ≤ bb w) (z0 : 0 ≤ z) {u : Nat} (h : 0 ≤ bb u) : 0 ≤ upd bb w z u := by
  by_cases e : u = w
  · exact absurd (e ▸ h) nw
  · rw [pk_un e]
    exact h
theorem ca_cn8 : ca_cn bb ≤ 8 := by
  have a := ca_sm_le (f := fun v => if 0 ≤ bb v then (1 : Int) else 0) (g := fun _ => 1) (n := 8) (fun i _ => by
    show (if 0 ≤ bb i then (1 : Int) else 0) ≤ 1
    by_cases h : 0 ≤ bb i
    · rw [if_pos h]; omega
    · rw [if_neg h]; omega)
  exact a
theorem ca_cn7 {w : Nat} (hw : w < 8) (nw : ¬ 0 ≤ bb w) : ca_cn bb ≤ 7 := by
  have a : ca_cn bb ≤ ca_sm (fun v => if v = w then (0 : Int) else 1) 8 := ca_sm_le (fun i _ => by
    by_cases h : 0 ≤ bb i
    · rw [if_pos h, if_neg (fun z : i = w => nw (z ▸ h))]; omega
    · rw [if_neg h]
      by_cases z : i = w
      · rw [if_pos z]; omega
      · rw [if_neg z]; omega)
  have b := ca_sm_upd (f := fun _ => (1 : Int)) (g := fun v => if v = w then (0 : Int) else 1) hw (fun i _ hn => if_neg hn)
  have b' : ca_sm (fun v => if v = w then (0 : Int) else 1) 8 = 8 + ((if w = w then (0 : Int) else 1) - 1) := b
  rw [if_pos rfl] at b'
  omega
theorem ca_cnU {w : Nat} {z : Int32} (hw : w < 8) (nw : ¬ 0 ≤ bb w) (z0 : 0 ≤ z) : ca_cn (upd bb w z) = ca_cn bb + 1 := by
  have b := ca_sm_upd (f := fun v => if 0 ≤ bb v then (1 : Int) else 0) (g := fun v => if 0 ≤ upd bb w z v then (1 : Int) else 0) hw (fun i _ hn => by
    show (if 0 ≤ upd bb w z i then (1 : Int) else 0) = if 0 ≤ bb i then (1 : Int) else 0
    rw [pk_un hn])
  have b' : ca_cn (upd bb w z) = ca_cn bb + ((if 0 ≤ upd bb w z w then (1 : Int) else 0) - (if 0 ≤ bb w then (1 : Int) else 0)) := b
  rw [pk_us, if_pos z0, if_neg nw] at b'
  omega
theorem ca_Do_s {v e : Nat} (D : ca_Do T H R F wo bb v e) (h : e ≠ wo → (T e = v → F e < R e → 0 ≤ bb (H e)) ∧ (H e = v → 0 < F e → 0 ≤ bb (T e))) : ca_Do T H R F wo bb v (e + 1) := by
  intro e' he' hn
  by_cases z : e' = e
  · subst z
    exact h hn
  · exact D e' (by omega) hn
theorem ca_Do_m {bb' : Nat → Int32} {v e : Nat} (D : ca_Do T H R F wo bb v e) (h : ∀ u, 0 ≤ bb u → 0 ≤ bb' u) : ca_Do T H R F wo bb' v e :=
  fun e' he' hn => ⟨fun a b => h _ ((D e' he' hn).1 a b), fun a b => h _ ((D e' he' hn).2 a b)⟩
theorem ca_rec {d : Nat → Nat} {k i w e v : Nat} {z : Int32} (I : ca_In T H R F wo x d bb qq k i) (D : ca_Do T H R F wo bb v e) (hv : v < 8) (vv : 0 ≤ bb v) (dv : d v = i) (hw : w < 8) (nw : ¬ 0 ≤ bb w) (he : e < 25) (hwo : e ≠ wo) (z0 : 0 ≤ z)
    (K : (z = nI (2 * e) ∧ H e = w ∧ F e < R e ∧ T e = v) ∨ (z = nI (2 * e + 1) ∧ T e = w ∧ 0 < F e ∧ H e = v))
    (K2 : (T e = v → F e < R e → H e = w ∨ 0 ≤ bb (H e)) ∧ (H e = v → 0 < F e → T e = w ∨ 0 ≤ bb (T e))) :
    k < 8 ∧ ∃ d' : Nat → Nat, ca_In T H R F wo x d' (upd bb w z) (upd qq k (nI w)) (k + 1) i ∧ 0 ≤ upd bb w z v ∧ d' v = i ∧ ca_Do T H R F wo (upd bb w z) v (e + 1) := by
  obtain ⟨tr, ⟨q1, q2, q3⟩, vx, dn⟩ := I
  have mo : ∀ u, 0 ≤ bb u → 0 ≤ upd bb w z u := fun u h => ca_mono nw z0 h
  have zw : 0 ≤ upd bb w z w := by rw [pk_us]; exact z0
  have ne : ∀ u, 0 ≤ bb u → u ≠ w := fun u h hu => nw (hu ▸ h)
  have ik : i < k := by have := (q2 v hv vv).1; omega
  have k8 : k < 8 := by have := ca_cn7 hw nw; omega
  have ds : (fun u => if u = w then k else d u) w = k := if_pos rfl
  have dd : ∀ u, u ≠ w → (fun u => if u = w then k else d u) u = d u := fun u h => if_neg h
  generalize hd' : (fun u => if u = w then k else d u) = d' at ds dd
  refine ⟨k8, d', ⟨?_, ⟨?_, ?_, ?_⟩, mo x vx, ?_⟩, mo v vv, (dd v (ne v vv)).trans dv, ?_⟩
  · intro u hu h0 hx
    by_cases e1 : u = w
    · subst e1
      refine ⟨e, he, hwo, ?_⟩
      rw [pk_us, ds]
      rcases K with ⟨k1, k2, k3, k4⟩ | ⟨k1, k2, k3, k4⟩
      · refine Or.inl ⟨k1, k2, k3, ?_, ?_⟩
        · rw [k4]; exact mo v vv
        · rw [k4, dd v (ne v vv)]; omega
      · refine Or.inr ⟨k1, k2, k3, ?_, ?_⟩
        · rw [k4]; exact mo v vv
        · rw [k4, dd v (ne v vv)]; omega
    · rw [pk_un e1] at h0 ⊢
      obtain ⟨e', a1, a2, a3⟩ := tr u hu h0 hx
      refine ⟨e', a1, a2, ?_⟩
      rw [dd u e1]
      rcases a3 with ⟨b1, b2, b3, b4, b5⟩ | ⟨b1, b2, b3, b4, b5⟩
      · exact Or.inl ⟨b1, b2, b3, mo _ b4, by rw [dd _ (ne _ b4)]; exact b5⟩
      · exact Or.inr ⟨b1, b2, b3, mo _ b4, by rw [dd _ (ne _ b4)]; exact b5⟩
  · intro j hj
    by_cases e1 : j = k
    · subst e1
      exact ⟨w, hw, pk_us, zw, ds⟩
    · obtain ⟨u, a1, a2, a3, a4⟩ := q1 j (by omega)
      exact ⟨u, a1, by rw [pk_un e1]; exact a2, mo u a3, by rw [dd u (ne u a3)]; exact a4⟩
  · intro u hu h0
    by_cases e1 : u = w
    · subst e1
      rw [ds, pk_us]
      exact ⟨by omega, rfl⟩
    · rw [pk_un e1] at h0
      obtain ⟨a1, a2⟩ := q2 u hu h0
      rw [dd u e1, pk_un (by omega)]
      exact ⟨by omega, a2⟩
  · rw [ca_cnU hw nw z0, q3]
    omega
  · intro u hu h0 hd
    by_cases e1 : u = w
    · subst e1
      rw [ds] at hd
      omega
    · rw [pk_un e1] at h0
      rw [dd u e1] at hd
      exact ca_Do_m (dn u hu h0 hd) mo
  · refine ca_Do_s (ca_Do_m D mo) (fun _ => ⟨fun a b => ?_, fun a b => ?_⟩)
    · rcases K2.1 a b with h | h
      · rw [h]; exact zw
      · exact mo _ h
    · rcases K2.2 a b with h | h
      · rw [h]; exact zw
      · exact mo _ h
theorem ca_fw96 {post : Int32 → SX → Prop} {J45 : Int32 → Int32 → (Nat → Int32) → (Nat → Int32) → (Nat → Int32) → (Nat → Int32) → (Nat → Int32) → (Nat → Int32) → (Nat → Int32) → (Nat → Int32) → (Nat → Int32) → (Nat → Int32) → Prop} {J71 : Int32 → Int32 → (Nat → Int32) → (Nat → Int32) → (Nat → Int32) → (Nat → Int32) → (Nat → Int32) → (Nat → Int32) → (Nat → Int32) → (Nat → Int32) → (Nat → Int32) → (Nat → Int32) → Prop} {x2 x3 : Int32} {k i v e w : Nat} (hw : w < 8) (he : e < 25) (hv : v < 8) (k31 : k ≤ 8) (e1 : tl e = nI (T e)) (t1 : T e < 8)
    (hvis : 0 ≤ bb w → J71 (nI k) (nI (e + 1)) fr tw lo hi tl hd rm fl bb qq)
    (hrec : ¬ 0 ≤ bb w → k < 8 ∧ (T e = v → J71 (nI (k + 1)) (nI (e + 1)) fr tw lo hi tl hd rm fl (upd bb w (nI (2 * e))) (upd qq k (nI w))) ∧ (T e ≠ v → J71 (nI (k + 1)) (nI (e + 1)) fr tw lo hi tl hd rm fl (upd bb w (nI (2 * e + 1))) (upd qq k (nI w)))) :
    wX_findWay_96 post J45 J71 x2 x3 (nI k) (nI i) (nI v) (nI e) (nI w) c nd sn fr tw lo hi tl hd rm fl bb qq := by
  unfold wX_findWay_96 wX_findWay_144
  rw [nI_clamp (n := w) (by omega), nI_clamp (n := e) (by omega), nI_clamp (n := k) (by omega), e1]
  have iw : vp_in (nI w) 8 := vp_in_nI hw (by decide)
  have ie : vp_in (nI e) 25 := vp_in_nI he (by decide)
  refine br_f (nI_pos (by omega)) ⟨iw, br_c (fun h => nm_r (nI_1 e) (hvis h)) (fun h => ⟨ie, ?_⟩)⟩
  obtain ⟨k8, r1, r2⟩ := hrec h
  have ik : vp_in (nI k) 8 := vp_in_nI k8 (by decide)
  refine ek_if (nI_eq (by omega) (by omega)) (fun a => ?_) (fun a => ?_)
  · exact ⟨iw, nm_r (e' := upd bb w (nI (2 * e))) (by rw [← pk_mul]; rfl) ⟨ik, nm_e (nm_r (nI_1 k) (nm_r (nI_1 e) (r1 a)))⟩⟩
  · exact ⟨iw, nm_r (e' := upd bb w (nI (2 * e + 1))) (by rw [← nI_1, ← pk_mul]; rfl) ⟨ik, nm_e (nm_r (nI_1 k) (nm_r (nI_1 e) (r2 a)))⟩⟩
theorem ca_fw71 {post : Int32 → SX → Prop} {J : Int32 → Int32 → (Nat → Int32) → (Nat → Int32) → (Nat → Int32) → (Nat → Int32) → (Nat → Int32) → (Nat → Int32) → (Nat → Int32) → (Nat → Int32) → (Nat → Int32) → (Nat → Int32) → Prop} {x2 x3 : Int32} (N : ca_NV T H R F tl hd rm fl) (hwo : ∀ e, e < 25 → (nI e = x3 ↔ e = wo)) {v i : Nat} (hv : v < 8)
    (hJ : ∀ d bb qq k, ca_In T H R F wo x d bb qq k (i + 1) → J (nI k) (nI (i + 1)) fr tw lo hi tl hd rm fl bb qq) :
    ∀ (m e n : Nat) (d : Nat → Nat) (bb qq : Nat → Int32) (k : Nat), e + m = 25 → m < n → ca_In T H R F wo x d bb qq k i → 0 ≤ bb v → d v = i → ca_Do T H R F wo bb v e → wX_findWay_71 post J x2 x3 (nI i) (nI v) c nd sn n (nI k) (nI e) fr tw lo hi tl hd rm fl bb qq := by
  intro m
  induction m with
  | zero =>
    intro e n d bb qq k hm hn I vv dv D
    obtain ⟨n, rfl⟩ : ∃ n', n = n' + 1 := ⟨n - 1, by omega⟩
    have e25 : e = 25 := by omega
    subst e25
    refine br_t (nI_le (a := 25) (b := 25) (by omega) (by decide)) (nm_r (nI_1 i) (hJ d bb qq k ?_))
    refine ⟨I.1, I.2.1, I.2.2.1, fun u hu h0 hd => ?_⟩
    by_cases z : d u < i
    · exact I.2.2.2 u hu h0 z
    · have a := I.2.1.2.1 u hu h0
      have b := I.2.1.2.1 v hv vv
      have hq : nI u = nI v := by rw [← a.2, ← b.2, show d u = d v by omega]
      have uv : u = v := (nI_eq (by omega) (by omega)).mp hq
      rw [uv]
      exact D
  | succ m ih =>
    intro e n d bb qq k hm hn I vv dv D
    obtain ⟨n, rfl⟩ : ∃ n', n = n' + 1 := ⟨n - 1, by omega⟩
    have he : e < 25 := by omega
    obtain ⟨⟨e1, t1, e2, t2⟩, e3, e4, f1, f2, f3⟩ := N e he
    have k8 : k ≤ 8 := by
      have := ca_cn8 (bb := bb)
      have := I.2.1.2.2
      omega
    have go : ∀ (d : Nat → Nat) (bb qq : Nat → Int32) (k : Nat), ca_In T H R F wo x d bb qq k i → 0 ≤ bb v → d v = i → ca_Do T H R F wo bb v (e + 1) → wX_findWay_71 post J x2 x3 (nI i) (nI v) c nd sn n (nI k) (nI (e + 1)) fr tw lo hi tl hd rm fl bb qq :=
      fun d bb qq k I vv dv D => ih (e + 1) n d bb qq k (by omega) (by omega) I vv dv D
    refine br_f (nI_ge (b := 25) he (by decide)) ?_
    refine ek_if (hwo e he) (fun hw => ?_) (fun hw => ?_)
    · exact br_t (show (-1 : Int32) < 0 by decide) (nm_r (nI_1 e) (go d bb qq k I vv dv (ca_Do_s D (fun h => absurd hw h))))
    · refine ca_across N he hv (fun t3 t4 => ?_) (fun n1 t3 t4 => ?_) (fun n1 n2 => ?_)
      · refine ca_fw96 (T := T) t2 he hv k8 e1 t1 (fun h => go d bb qq k I vv dv (ca_Do_s D (fun _ => ⟨fun _ _ => h, fun _ _ => t3 ▸ vv⟩))) (fun h => ?_)
        obtain ⟨k8', d', I', vv', dv', D'⟩ := ca_rec (z := nI (2 * e)) I D hv vv dv t2 h he hw (nI_pos' (by omega)) (Or.inl ⟨rfl, rfl, t4, t3⟩) ⟨fun _ _ => Or.inl rfl, fun _ _ => Or.inr (t3 ▸ vv)⟩
        exact ⟨k8', fun _ => go d' _ _ _ I' vv' dv' D', fun z => absurd t3 z⟩
      · refine ca_fw96 (T := T) t1 he hv k8 e1 t1 (fun h => go d bb qq k I vv dv (ca_Do_s D (fun _ => ⟨fun a b => absurd ⟨a, b⟩ n1, fun _ _ => h⟩))) (fun h => ?_)
        obtain ⟨k8', d', I', vv', dv', D'⟩ := ca_rec (z := nI (2 * e + 1)) I D hv vv dv t1 h he hw (nI_pos' (by omega)) (Or.inr ⟨rfl, rfl, t4, t3⟩) ⟨fun a b => absurd ⟨a, b⟩ n1, fun _ _ => Or.inl rfl⟩
        exact ⟨k8', fun z => absurd (z ▸ vv) (z ▸ h), fun _ => go d' _ _ _ I' vv' dv' D'⟩
      · exact br_t (show (-1 : Int32) < 0 by decide) (nm_r (nI_1 e) (go d bb qq k I vv dv (ca_Do_s D (fun _ => ⟨fun a b => absurd ⟨a, b⟩ n1, fun a b => absurd ⟨a, b⟩ n2⟩))))
theorem ca_fw45 {post : Int32 → SX → Prop} {x3 : Int32} (N : ca_NV T H R F tl hd rm fl) (hwo : ∀ e, e < 25 → (nI e = x3 ↔ e = wo)) {y : Nat} (hy : y < 8)
    (hp : ∀ bb qq, ca_FW T H R F wo x bb → (bb y < 0 → post 0 (c, nd, sn, fr, tw, lo, hi, tl, hd, rm, fl, bb, qq)) ∧ (¬ bb y < 0 → post 1 (c, nd, sn, fr, tw, lo, hi, tl, hd, rm, fl, bb, qq))) :
    ∀ (m i n : Nat) (d : Nat → Nat) (bb qq : Nat → Int32) (k : Nat), i + m = 8 → m < n → ca_In T H R F wo x d bb qq k i → wX_findWay_45 post (nI y) x3 c nd sn n (nI k) (nI i) fr tw lo hi tl hd rm fl bb qq := by
  have fin : ∀ (d : Nat → Nat) (bb qq : Nat → Int32) (k i : Nat), k ≤ i → k ≤ 8 → ca_In T H R F wo x d bb qq k i → wX_findWay_169 post (nI y) c nd sn fr tw lo hi tl hd rm fl bb qq := by
    intro d bb qq k i ki k8 I
    unfold wX_findWay_169
    rw [nI_clamp (n := y) (by omega)]
    refine ⟨vp_in_nI hy (by decide), hp bb qq ⟨I.2.2.1, d, fun v hv h0 => ?_, I.1, fun v hv h0 => ?_⟩⟩
    · have := (I.2.1.2.1 v hv h0).1
      omega
    · have := (I.2.1.2.1 v hv h0).1
      exact I.2.2.2 v hv h0 (by omega)
  intro m
  induction m with
  | zero =>
    intro i n d bb qq k hm hn I
    obtain ⟨n, rfl⟩ : ∃ n', n = n' + 1 := ⟨n - 1, by omega⟩
    have k8 : k ≤ 8 := by
      have := ca_cn8 (bb := bb)
      have := I.2.1.2.2
      omega
    exact br_t (nI_le (by omega) (by omega)) (fin d bb qq k i (by omega) k8 I)
  | succ m ih =>
    intro i n d bb qq k hm hn I
    obtain ⟨n, rfl⟩ : ∃ n', n = n' + 1 := ⟨n - 1, by omega⟩
    have k8 : k ≤ 8 := by
      have := ca_cn8 (bb := bb)
      have := I.2.1.2.2
      omega
    refine ek_if (nI_leI (by omega) (by omega)) (fun h => fin d bb qq k i h k8 I) (fun h => ?_)
    obtain ⟨v, hv, qv, vv, dv⟩ := I.2.1.1 i (by omega)
    refine br_f (nI_ge (b := 8) (by omega) (by decide)) ⟨vp_in_nI (by omega) (by decide), nm_r (e' := nI v) (by rw [nI_clamp (n := i) (by omega)]; exact qv) ⟨26, ?_⟩⟩
    exact ca_fw71 N hwo hv (fun d bb qq k I => ih (i + 1) n d bb qq k (by omega) (by omega) I) 25 0 26 d bb qq k (by omega) (by omega) I vv dv (fun e he => absurd he (by omega))
theorem ca_fw3 {post : Int32 → SX → Prop} {x3 : Int32} (N : ca_NV T H R F tl hd rm fl) (hwo : ∀ e, e < 25 → (nI e = x3 ↔ e = wo)) {y : Nat} (hx : x < 8) (hy : y < 8)
    (hp : ∀ bb qq, ca_FW T H R F wo x bb → (bb y < 0 → post 0 (c, nd, sn, fr, tw, lo, hi, tl, hd, rm, fl, bb, qq)) ∧ (¬ bb y < 0 → post 1 (c, nd, sn, fr, tw, lo, hi, tl, hd, rm, fl, bb, qq))) :
    ∀ (m i n : Nat) (bb : Nat → Int32), i + m = 8 → m < n → (∀ j, j < i → bb j = -1) → wX_findWay_3 post (nI x) (nI y) x3 c nd sn n (nI i) fr tw lo hi tl hd rm fl bb qq := by
  intro m
  induction m with
  | zero =>
    intro i n bb hm hn I
    obtain ⟨n, rfl⟩ : ∃ n', n = n' + 1 := ⟨n - 1, by omega⟩
    have i8 : i = 8 := by omega
    subst i8
    have z50 : (0 : Int32) ≤ 50 := by decide
    have nn : ∀ v, v < 8 → v ≠ x → ¬ 0 ≤ upd bb x 50 v := by
      intro v hv hn
      rw [pk_un hn, I v hv]
      decide
    refine br_t (nI_le (a := 8) (b := 8) (by omega) (by decide)) ⟨vp_in_nI hx (by decide), nm_r (e' := upd bb x 50) (by rw [nI_clamp (n := x) (by omega)]) (nm_e ⟨9, ?_⟩)⟩
    refine ca_fw45 N hwo hy hp 8 0 9 (fun _ => 0) (upd bb x 50) (upd qq 0 (nI x)) 1 (by omega) (by omega) ⟨?_, ⟨?_, ?_, ?_⟩, ?_, ?_⟩
    · intro v hv h0 hn
      exact absurd h0 (nn v hv hn)
    · intro j hj
      have j0 : j = 0 := by omega
      subst j0
      exact ⟨x, hx, pk_us, by rw [pk_us]; exact z50, rfl⟩
    · intro v hv h0
      by_cases hn : v = x
      · subst hn
        exact ⟨Nat.zero_lt_one, pk_us⟩
      · exact absurd h0 (nn v hv hn)
    · have a : ca_cn (upd bb x 50) = if 0 ≤ upd bb x 50 x then (1 : Int) else 0 := ca_sm_one (f := fun v => if 0 ≤ upd bb x 50 v then (1 : Int) else 0) hx (fun i hi hn => if_neg (nn i hi hn))
      rw [a, pk_us, if_pos z50]
      rfl
    · rw [pk_us]
      exact z50
    · intro v hv h0 hd
      exact absurd hd (by omega)
  | succ m ih =>
    intro i n bb hm hn I
    obtain ⟨n, rfl⟩ : ∃ n', n = n' + 1 := ⟨n - 1, by omega⟩
    refine br_f (nI_ge (b := 8) (by omega) (by decide)) ⟨vp_in_nI (by omega) (by decide), nm_r (e' := upd bb i (-1)) (by rw [nI_clamp (n := i) (by omega)]) (nm_r (nI_1 i) (ih (i + 1) n _ (by omega) (by omega) ?_))⟩
    intro j hj
    by_cases z : j = i
    · subst z
      exact pk_us
    · rw [pk_un z]
      exact I j (by omega)
theorem ca_findWay {post : Int32 → SX → Prop} {x3 : Int32} (N : ca_NV T H R F tl hd rm fl) (hwo : ∀ e, e < 25 → (nI e = x3 ↔ e = wo)) {y : Nat} (hx : x < 8) (hy : y < 8)
    (hp : ∀ bb qq, ca_FW T H R F wo x bb → (bb y < 0 → post 0 (c, nd, sn, fr, tw, lo, hi, tl, hd, rm, fl, bb, qq)) ∧ (¬ bb y < 0 → post 1 (c, nd, sn, fr, tw, lo, hi, tl, hd, rm, fl, bb, qq))) :
    wpX_findWay post (c, nd, sn, fr, tw, lo, hi, tl, hd, rm, fl, bb, qq) (nI x) (nI y) x3 :=
  ⟨9, ca_fw3 N hwo hx hy hp 8 0 9 bb (by omega) (by omega) (fun j hj => absurd hj (by omega))⟩
theorem ca_FW_cl (N : ca_NV T H R F tl hd rm fl) (h : ca_FW T H R F wo x bb) : ca_Cl T H R F wo (fun v => decide (0 ≤ bb v)) := by
  obtain ⟨vx, d, d8, tr, dn⟩ := h
  intro e he hn
  have n1 := (N e he).1
  refine ⟨fun a b => ?_, fun a b => ?_⟩
  · have a' := of_decide_eq_true a
    exact decide_eq_true ((dn (T e) n1.2.1 a' e he hn).1 rfl b)
  · have a' := of_decide_eq_true a
    exact decide_eq_true ((dn (H e) n1.2.2.2 a' e he hn).2 rfl b)
theorem ca_FW_min (N : ca_NV T H R F tl hd rm fl) (h : ca_FW T H R F wo x bb) {P : Nat → Bool} (cl : ca_Cl T H R F wo P) (px : P x = true) : ∀ v, v < 8 → 0 ≤ bb v → P v = true := by
  obtain ⟨vx, d, d8, tr, dn⟩ := h
  have key : ∀ r v, d v < r → v < 8 → 0 ≤ bb v → P v = true := by
    intro r
    induction r with
    | zero => intro v h; omega
    | succ r ih =>
      intro v hd hv h0
      by_cases e : v = x
      · rw [e]; exact px
      · obtain ⟨e', a1, a2, a3⟩ := tr v hv h0 e
        have n1 := (N e' a1).1
        rcases a3 with ⟨b1, b2, b3, b4, b5⟩ | ⟨b1, b2, b3, b4, b5⟩
        · have p := ih (T e') (by omega) n1.2.1 b4
          rw [← b2]
          exact (cl e' a1 a2).1 p b3
        · have p := ih (H e') (by omega) n1.2.2.2 b4
          rw [← b2]
          exact (cl e' a1 a2).2 p b3
  exact fun v hv h0 => key (d v + 1) v (by omega) hv h0
end
end
section
/-! push, moveAll, solve -/
theorem ca_st : ∀ e, e < 25 → nI (2 * e) >>> ((1 : Int32) &&& 31) = nI e ∧ nI (2 * e + 1) >>> ((1 : Int32) &&& 31) = nI e ∧ (nI (2 * e) &&& 1) = 0 ∧ ¬ (nI (2 * e + 1) &&& 1) = 0 := by decide +kernel
theorem ca_m1 : ∀ e, e < 25 → (nI e = -1 ↔ e = 25) := by decide +kernel
def ca_Gd (T H : Nat → Nat) (R F : Nat → Int) (x : Nat) (bb : Nat → Int32) : Nat → Nat → Int → Prop
  | 0 => fun v _ => v = x
  | k + 1 => fun v a => v = x ∨ ∃ e, e < 25 ∧ ((bb v = nI (2 * e) ∧ a ≤ R e - F e ∧ ca_Gd T H R F x bb k (T e) a) ∨ (bb v = nI (2 * e + 1) ∧ a ≤ F e ∧ ca_Gd T H R F x bb k (H e) a))
def ca_Mv (T H : Nat → Nat) (R F : Nat → Int) (wo x y : Nat) (most m : Int) (G : Nat → Int) : Prop := 0 ≤ m ∧ m ≤ most ∧ (∀ w, ca_nt (ca_pt w) T H G 25 = ca_nt (ca_pt w) T H F 25 + ca_ni (ca_pt w) x y m) ∧ (∀ e, e < 25 → e = wo → G e = F e) ∧ (m = most ∨ ∃ P : Nat → Bool, ca_Cl T H R G wo P ∧ P x = true ∧ P y = false)
section
variable {T H : Nat → Nat} {R F G : Nat → Int} {wo x y : Nat} {d : Nat → Nat} {c nd sn : Int32} {fr tw lo hi tl hd rm fl bb qq : Nat → Int32}
theorem ca_ni_ch {S : Nat → Bool} (a b e : Nat) (x : Int) : ca_ni S a b x + ca_ni S b e x = ca_ni S a e x := by
  unfold ca_ni
  omega
theorem ca_ni_neg {S : Nat → Bool} (a b : Nat) (x : Int) : ca_ni S a b (-x) = ca_ni S b a x := by
  unfold ca_ni
  cases S a <;> cases S b <;> simp
theorem ca_tr0 (tr : ca_Tr T H R F wo x d bb) {w e : Nat} (hw : w < 8) (h0 : 0 ≤ bb w) (hx : w ≠ x) (he : e < 25) (hb : bb w = nI (2 * e)) : e ≠ wo ∧ H e = w ∧ F e < R e ∧ 0 ≤ bb (T e) ∧ d (T e) < d w := by
  obtain ⟨e', a1, a2, a3⟩ := tr w hw h0 hx
  rcases a3 with ⟨b1, b2⟩ | ⟨b1, b2⟩
  · have : e' = e := by
      have := (nI_eq (a := 2 * e') (b := 2 * e) (by omega) (by omega)).mp (b1.symm.trans hb)
      omega
    subst this
    exact ⟨a2, b2⟩
  · have := (nI_eq (a := 2 * e' + 1) (b := 2 * e) (by omega) (by omega)).mp (b1.symm.trans hb)
    omega
theorem ca_tr1 (tr : ca_Tr T H R F wo x d bb) {w e : Nat} (hw : w < 8) (h0 : 0 ≤ bb w) (hx : w ≠ x) (he : e < 25) (hb : bb w = nI (2 * e + 1)) : e ≠ wo ∧ T e = w ∧ 0 < F e ∧ 0 ≤ bb (H e) ∧ d (H e) < d w := by
  obtain ⟨e', a1, a2, a3⟩ := tr w hw h0 hx
  rcases a3 with ⟨b1, b2⟩ | ⟨b1, b2⟩
  · have := (nI_eq (a := 2 * e') (b := 2 * e + 1) (by omega) (by omega)).mp (b1.symm.trans hb)
    omega
  · have : e' = e := by
      have := (nI_eq (a := 2 * e' + 1) (b := 2 * e + 1) (by omega) (by omega)).mp (b1.symm.trans hb)
      omega
    subst this
    exact ⟨a2, b2⟩
theorem ca_gd0 {k v e : Nat} {a : Int} (g : ca_Gd T H R F x bb k v a) (hx : v ≠ x) (he : e < 25) (hb : bb v = nI (2 * e)) : ∃ k', k = k' + 1 ∧ a ≤ R e - F e ∧ ca_Gd T H R F x bb k' (T e) a := by
  cases k with
  | zero => exact absurd g hx
  | succ k =>
    rcases g with g | ⟨e', a1, ⟨b1, b2⟩ | ⟨b1, b2⟩⟩
    · exact absurd g hx
    · have : e' = e := by
        have := (nI_eq (a := 2 * e') (b := 2 * e) (by omega) (by omega)).mp (b1.symm.trans hb)
        omega
      subst this
      exact ⟨k, rfl, b2⟩
    · have := (nI_eq (a := 2 * e' + 1) (b := 2 * e) (by omega) (by omega)).mp (b1.symm.trans hb)
      omega
theorem ca_gd1 {k v e : Nat} {a : Int} (g : ca_Gd T H R F x bb k v a) (hx : v ≠ x) (he : e < 25) (hb : bb v = nI (2 * e + 1)) : ∃ k', k = k' + 1 ∧ a ≤ F e ∧ ca_Gd T H R F x bb k' (H e) a := by
  cases k with
  | zero => exact absurd g hx
  | succ k =>
    rcases g with g | ⟨e', a1, ⟨b1, b2⟩ | ⟨b1, b2⟩⟩
    · exact absurd g hx
    · have := (nI_eq (a := 2 * e') (b := 2 * e + 1) (by omega) (by omega)).mp (b1.symm.trans hb)
      omega
    · have : e' = e := by
        have := (nI_eq (a := 2 * e' + 1) (b := 2 * e + 1) (by omega) (by omega)).mp (b1.symm.trans hb)
        omega
      subst this
      exact ⟨k, rfl, b2⟩
theorem ca_room0 {post : Int32 → Prop} {e : Nat} (he : e < 25) (h : post (rm e - fl e)) : wpX_roomOn post (c, nd, sn, fr, tw, lo, hi, tl, hd, rm, fl, bb, qq) (nI (2 * e)) := by
  have ie : vp_in (nI e) 25 := vp_in_nI he (by decide)
  refine nm_r (ca_st e he).1 (br_t (ca_st e he).2.2.1 ⟨ie, ie, ?_⟩)
  rw [nI_clamp (n := e) (by omega)]
  exact h
theorem ca_room1 {post : Int32 → Prop} {e : Nat} (he : e < 25) (h : post (fl e)) : wpX_roomOn post (c, nd, sn, fr, tw, lo, hi, tl, hd, rm, fl, bb, qq) (nI (2 * e + 1)) := by
  have ie : vp_in (nI e) 25 := vp_in_nI he (by decide)
  refine nm_r (ca_st e he).2.1 (br_f (ca_st e he).2.2.2 ⟨ie, ?_⟩)
  rw [nI_clamp (n := e) (by omega)]
  exact h
theorem ca_p46a {post : Int32 → SX → Prop} {J9 : Int32 → Int32 → Int32 → Prop} {x1 x2 am : Int32} {v i e u : Nat} (hv : v < 8) (he : e < 25) (hb : bb v = nI (2 * e)) (ht : tl e = nI u) (h : J9 am (nI u) (nI (i + 1))) : wX_push_46 post J9 x1 x2 am (nI v) (nI i) c nd sn fr tw lo hi tl hd rm fl bb qq := by
  have iv : vp_in (nI v) 8 := vp_in_nI hv (by decide)
  have ie : vp_in (nI e) 25 := vp_in_nI he (by decide)
  unfold wX_push_46
  rw [nI_clamp (n := v) (by omega), hb, (ca_st e he).1, nI_clamp (n := e) (by omega), ht]
  exact ⟨iv, br_t (ca_st e he).2.2.1 ⟨iv, ie, nm_e (nm_r (nI_1 i) h)⟩⟩
theorem ca_p46b {post : Int32 → SX → Prop} {J9 : Int32 → Int32 → Int32 → Prop} {x1 x2 am : Int32} {v i e u : Nat} (hv : v < 8) (he : e < 25) (hb : bb v = nI (2 * e + 1)) (ht : hd e = nI u) (h : J9 am (nI u) (nI (i + 1))) : wX_push_46 post J9 x1 x2 am (nI v) (nI i) c nd sn fr tw lo hi tl hd rm fl bb qq := by
  have iv : vp_in (nI v) 8 := vp_in_nI hv (by decide)
  have ie : vp_in (nI e) 25 := vp_in_nI he (by decide)
  unfold wX_push_46
  rw [nI_clamp (n := v) (by omega), hb, (ca_st e he).2.1, nI_clamp (n := e) (by omega), ht]
  exact ⟨iv, br_f (ca_st e he).2.2.2 ⟨iv, ie, nm_e (nm_r (nI_1 i) h)⟩⟩
theorem ca_push9 {post : Int32 → SX → Prop} (N : ca_NV T H R F tl hd rm fl) (tr : ca_Tr T H R F wo x d bb) (hx : x < 8) :
    ∀ (k v i n : Nat) (am : Int32) (a : Int), d v ≤ k → v < 8 → 0 ≤ bb v → i + d v ≤ 7 → d v < n → am.toInt = a → 1 ≤ a → a ≤ 240 →
    (∀ (am' : Int32) (a' : Int), am'.toInt = a' → 1 ≤ a' → a' ≤ a → ca_Gd T H R F x bb k v a' → ∃ n103 : Nat, wX_push_103 post (nI x) am' c nd sn n103 (nI y) 0 fr tw lo hi tl hd rm fl bb qq) →
    wX_push_9 post (nI x) (nI y) c nd sn fr tw lo hi tl hd rm fl bb qq n am (nI v) (nI i) := by
  intro k
  induction k with
  | zero =>
    intro v i n am a hd hv h0 hi' hn ha a1 a2 h
    obtain ⟨n, rfl⟩ : ∃ n', n = n' + 1 := ⟨n - 1, by omega⟩
    have vx : v = x := by
      by_cases e : v = x
      · exact e
      · obtain ⟨e', b1, b2, b3⟩ := tr v hv h0 e
        omega
    refine br_f (nI_ge (b := 8) (by omega) (by decide)) (br_t (by rw [vx]) (h am a ha a1 (by omega) vx))
  | succ k ih =>
    intro v i n am a hd hv h0 hi' hn ha a1 a2 h
    obtain ⟨n, rfl⟩ : ∃ n', n = n' + 1 := ⟨n - 1, by omega⟩
    refine br_f (nI_ge (b := 8) (by omega) (by decide)) (ek_if (nI_eq (by omega) (by omega)) (fun vx => h am a ha a1 (by omega) (Or.inl vx)) (fun vx => ⟨vp_in_nI hv (by decide), ?_⟩))
    rw [nI_clamp (n := v) (by omega)]
    obtain ⟨e, he, hwo, hh⟩ := tr v hv h0 vx
    obtain ⟨⟨e1, t1, e2, t2⟩, e3, e4, f1, f2, f3⟩ := N e he
    rcases hh with ⟨hb, b2, b3, b4, b5⟩ | ⟨hb, b2, b3, b4, b5⟩
    · rw [hb]
      refine ca_room0 he ?_
      have hr : (rm e - fl e).toInt = R e - F e := ca_subI e3 e4 (by omega) (by omega)
      refine ek_if (ca_leI ha hr) (fun z => ?_) (fun z => ?_)
      · refine ca_p46a hv he hb e1 (ih (T e) (i + 1) n am a (by omega) t1 b4 (by omega) (by omega) ha a1 a2 ?_)
        exact fun am' a' g1 g2 g3 g4 => h am' a' g1 g2 g3 (Or.inr ⟨e, he, Or.inl ⟨hb, by omega, g4⟩⟩)
      · refine ca_p46a hv he hb e1 (ih (T e) (i + 1) n _ (R e - F e) (by omega) t1 b4 (by omega) (by omega) hr (by omega) (by omega) ?_)
        exact fun am' a' g1 g2 g3 g4 => h am' a' g1 g2 (by omega) (Or.inr ⟨e, he, Or.inl ⟨hb, by omega, g4⟩⟩)
    · rw [hb]
      refine ca_room1 he ?_
      refine ek_if (ca_leI ha e4) (fun z => ?_) (fun z => ?_)
      · refine ca_p46b hv he hb e2 (ih (H e) (i + 1) n am a (by omega) t2 b4 (by omega) (by omega) ha a1 a2 ?_)
        exact fun am' a' g1 g2 g3 g4 => h am' a' g1 g2 g3 (Or.inr ⟨e, he, Or.inr ⟨hb, by omega, g4⟩⟩)
      · refine ca_p46b hv he hb e2 (ih (H e) (i + 1) n _ (F e) (by omega) t2 b4 (by omega) (by omega) e4 (by omega) (by omega) ?_)
        exact fun am' a' g1 g2 g3 g4 => h am' a' g1 g2 (by omega) (Or.inr ⟨e, he, Or.inr ⟨hb, by omega, g4⟩⟩)
theorem ca_NVu {e : Nat} {z : Int32} {g : Int} (N : ca_NV T H R G tl hd rm fl) (hz : z.toInt = g) (g0 : 0 ≤ g) (g1 : g ≤ R e) : ca_NV T H R (ca_fx G e g) tl hd rm (upd fl e z) := by
  intro e' he'
  have a := N e' he'
  by_cases h : e' = e
  · subst h
    rw [ca_fx_s, pk_us]
    exact ⟨a.1, a.2.1, hz, g0, g1, a.2.2.2.2.2⟩
  · rw [ca_fx_n h, pk_un h]
    exact a
theorem ca_push103 {post : Int32 → SX → Prop} {am : Int32} {a : Int} (tr : ca_Tr T H R F wo x d bb) (hx : x < 8) (ha : am.toInt = a) (a1 : 1 ≤ a) (a2 : a ≤ 240)
    (h : ∀ (G : Nat → Int) (fl : Nat → Int32), ca_NV T H R G tl hd rm fl → (∀ w, ca_nt (ca_pt w) T H G 25 = ca_nt (ca_pt w) T H F 25 + ca_ni (ca_pt w) x y a) → (∀ e, e < 25 → e = wo → G e = F e) → post am (c, nd, sn, fr, tw, lo, hi, tl, hd, rm, fl, bb, qq)) :
    ∀ (n v i k : Nat) (G : Nat → Int) (fl : Nat → Int32), v < 8 → 0 ≤ bb v → i + d v ≤ 7 → d v < n → ca_Gd T H R F x bb k v a → ca_NV T H R G tl hd rm fl →
    (∀ w, w < 8 → 0 ≤ bb w → w ≠ x → d w ≤ d v → ∀ e, e < 25 → (bb w = nI (2 * e) ∨ bb w = nI (2 * e + 1)) → G e = F e) →
    (∀ w, ca_nt (ca_pt w) T H G 25 = ca_nt (ca_pt w) T H F 25 + ca_ni (ca_pt w) v y a) → (∀ e, e < 25 → e = wo → G e = F e) →
    wX_push_103 post (nI x) am c nd sn n (nI v) (nI i) fr tw lo hi tl hd rm fl bb qq := by
  intro n
  induction n with
  | zero => intro v i k G fl _ _ _ hn; omega
  | succ n ih =>
    intro v i k G fl hv h0 hi' hn gd N eq bl wq
    refine br_f (nI_ge (b := 8) (by omega) (by decide)) (ek_if (nI_eq (by omega) (by omega)) (fun vx => h G fl N (by rw [← vx]; exact bl) wq) (fun vx => ⟨vp_in_nI hv (by decide), ?_⟩))
    rw [nI_clamp (n := v) (by omega)]
    obtain ⟨e, he, hwo, hh⟩ := tr v hv h0 vx
    obtain ⟨⟨e1, t1, e2, t2⟩, e3, e4, f1, f2, f3⟩ := N e he
    have ie : vp_in (nI e) 25 := vp_in_nI he (by decide)
    have dis : ∀ (u : Nat), d u < d v → ∀ w, w < 8 → 0 ≤ bb w → w ≠ x → d w ≤ d u → ∀ e', e' < 25 → (bb w = nI (2 * e') ∨ bb w = nI (2 * e' + 1)) → ∀ g : Int, ca_fx G e g e' = F e' := by
      intro u hu w hw w0 wx hd e' he' hb' g
      have ne : e' ≠ e := by
        intro z
        subst z
        rcases hh with ⟨hb, b2, b3, b4, b5⟩ | ⟨hb, b2, b3, b4, b5⟩
        · rcases hb' with hb' | hb'
          · have q := ca_tr0 tr hw w0 wx he' hb'
            have : w = v := by rw [← q.2.1, b2]
            subst this
            omega
          · have q := ca_tr1 tr hw w0 wx he' hb'
            rw [b2] at q
            omega
        · rcases hb' with hb' | hb'
          · have q := ca_tr0 tr hw w0 wx he' hb'
            rw [b2] at q
            omega
          · have q := ca_tr1 tr hw w0 wx he' hb'
            have : w = v := by rw [← q.2.1, b2]
            subst this
            omega
      rw [ca_fx_n ne]
      exact eq w hw w0 wx (by omega) e' he' hb'
    have wq' : ∀ g : Int, ∀ e', e' < 25 → e' = wo → ca_fx G e g e' = F e' := by
      intro g e' he' hw
      rw [ca_fx_n (by omega)]
      exact wq e' he' hw
    rcases hh with ⟨hb, b2, b3, b4, b5⟩ | ⟨hb, b2, b3, b4, b5⟩
    · obtain ⟨k', _, g1, g2⟩ := ca_gd0 gd vx he hb
      have ge : G e = F e := eq v hv h0 vx (by omega) e he (Or.inl hb)
      have hz : (fl e + am).toInt = G e + a := ca_addI e4 ha (by omega) (by omega)
      refine nm_r hb ⟨by rw [(ca_st e he).1]; exact ie, br_t (ca_st e he).2.2.1 ?_⟩
      unfold wX_push_150
      rw [(ca_st e he).1, nI_clamp (n := e) (by omega)]
      refine ⟨ie, nm_e (br_t (ca_st e he).2.2.1 ⟨ie, nm_r e1 (nm_r (nI_1 i) ?_)⟩)⟩
      refine ih (T e) (i + 1) k' (ca_fx G e (G e + a)) _ t1 b4 (by omega) (by omega) g2 (ca_NVu N hz (by omega) (by omega)) (fun w hw w0 wx hd e' he' hb' => dis (T e) b5 w hw w0 wx hd e' he' hb' _) (fun w => ?_) (wq' _)
      rw [ca_nt_upd (F := G) he (fun i _ hn => ca_fx_n hn), ca_fx_s, bl w, b2, show G e + a - G e = a by omega, ← ca_ni_ch (T e) v y a]
      omega
    · obtain ⟨k', _, g1, g2⟩ := ca_gd1 gd vx he hb
      have ge : G e = F e := eq v hv h0 vx (by omega) e he (Or.inr hb)
      have hm : (-am).toInt = -a := ca_negI ha (by omega)
      have hz : (fl e + -am).toInt = G e + -a := ca_addI e4 hm (by omega) (by omega)
      refine nm_r hb ⟨by rw [(ca_st e he).2.1]; exact ie, br_f (ca_st e he).2.2.2 ?_⟩
      unfold wX_push_150
      rw [(ca_st e he).2.1, nI_clamp (n := e) (by omega)]
      refine ⟨ie, nm_e (br_f (ca_st e he).2.2.2 ⟨ie, nm_r e2 (nm_r (nI_1 i) ?_)⟩)⟩
      refine ih (H e) (i + 1) k' (ca_fx G e (G e + -a)) _ t2 b4 (by omega) (by omega) g2 (ca_NVu N hz (by omega) (by omega)) (fun w hw w0 wx hd e' he' hb' => dis (H e) b5 w hw w0 wx hd e' he' hb' _) (fun w => ?_) (wq' _)
      rw [ca_nt_upd (F := G) he (fun i _ hn => ca_fx_n hn), ca_fx_s, bl w, b2, show G e + -a - G e = -a by omega, ca_ni_neg, ← ca_ni_ch (H e) v y a]
      omega
theorem ca_push {post : Int32 → SX → Prop} (N : ca_NV T H R F tl hd rm fl) (fw : ca_FW T H R F wo x bb) (hx : x < 8) (hy : y < 8) (vy : 0 ≤ bb y) {am : Int32} {a : Int} (ha : am.toInt = a) (a1 : 1 ≤ a) (a2 : a ≤ 240)
    (h : ∀ (am' : Int32) (a' : Int) (G : Nat → Int) (fl : Nat → Int32), am'.toInt = a' → 1 ≤ a' → a' ≤ a → ca_NV T H R G tl hd rm fl → (∀ w, ca_nt (ca_pt w) T H G 25 = ca_nt (ca_pt w) T H F 25 + ca_ni (ca_pt w) x y a') → (∀ e, e < 25 → e = wo → G e = F e) → post am' (c, nd, sn, fr, tw, lo, hi, tl, hd, rm, fl, bb, qq)) :
    wpX_push post (c, nd, sn, fr, tw, lo, hi, tl, hd, rm, fl, bb, qq) (nI x) (nI y) am := by
  obtain ⟨vx, d, d8, tr, dn⟩ := fw
  have dy := d8 y hy vy
  refine ⟨8, ca_push9 N tr hx 8 y 0 8 am a (by omega) hy vy (by omega) (by omega) ha a1 a2 ?_⟩
  intro am' a' g1 g2 g3 g4
  refine ⟨8, ca_push103 tr hx g1 g2 (by omega) (fun G fl n1 n2 n3 => h am' a' G fl g1 g2 g3 n1 n2 n3) 8 y 0 8 F fl hy vy (by omega) (by omega) g4 N (fun _ _ _ _ _ _ _ _ => rfl) (fun w => ?_) (fun _ _ _ => rfl)⟩
  rw [ca_ni_same]
  omega
theorem ca_mv0 {post : Int32 → SX → Prop} {x1 x2 x3 x4 mm x7 : Int32} {n : Nat} (h : post mm (c, nd, sn, fr, tw, lo, hi, tl, hd, rm, fl, bb, qq)) : wX_moveAll_28 post x1 x2 x3 x4 (n + 1) mm 0 x7 c nd sn fr tw lo hi tl hd rm fl bb qq :=
  br_c (fun _ => h) (fun _ => br_t rfl h)
theorem ca_mv28 {post : Int32 → SX → Prop} {x3 mo : Int32} {most : Int} (hwo : ∀ e, e < 25 → (nI e = x3 ↔ e = wo)) (hx : x < 8) (hy : y < 8) (hmo : mo.toInt = most) (mo2 : most ≤ 240)
    (h : ∀ (mm : Int32) (m : Int) (G : Nat → Int) (fl bb qq : Nat → Int32), mm.toInt = m → ca_NV T H R G tl hd rm fl → ca_Mv T H R F wo x y most m G → post mm (c, nd, sn, fr, tw, lo, hi, tl, hd, rm, fl, bb, qq)) :
    ∀ (n i : Nat) (mm : Int32) (m : Int) (G : Nat → Int) (fl bb qq : Nat → Int32), mm.toInt = m → 0 ≤ m → m < most → most - m < n → (i : Int) ≤ m → ca_NV T H R G tl hd rm fl → (∀ w, ca_nt (ca_pt w) T H G 25 = ca_nt (ca_pt w) T H F 25 + ca_ni (ca_pt w) x y m) → (∀ e, e < 25 → e = wo → G e = F e) → ca_FW T H R G wo x bb → 0 ≤ bb y →
    wX_moveAll_28 post (nI x) (nI y) x3 mo n mm 1 (nI i) c nd sn fr tw lo hi tl hd rm fl bb qq := by
  intro n
  induction n with
  | zero => intro i mm m G fl bb qq _ _ _ hn; omega
  | succ n ih =>
    intro i mm m G fl bb qq hm m0 m1 hn hi' N bl wq fw vy
    obtain ⟨n, rfl⟩ : ∃ n', n = n' + 1 := ⟨n - 1, by omega⟩
    refine br_f (nI_ge (b := 250) (by omega) (by decide)) (br_f (by decide) ?_)
    refine ca_push N fw hx hy vy (ca_subI hmo hm (by omega) (by omega)) (by omega) (by omega) ?_
    intro am' a' G' fl' g1 g2 g3 N' bl' wq'
    have hm' : (mm + am').toInt = m + a' := ca_addI hm g1 (by omega) (by omega)
    have bl2 : ∀ w, ca_nt (ca_pt w) T H G' 25 = ca_nt (ca_pt w) T H F 25 + ca_ni (ca_pt w) x y (m + a') := by
      intro w
      rw [bl' w, bl w, ca_ni_add]
      omega
    have wq2 : ∀ e, e < 25 → e = wo → G' e = F e := fun e he hw => (wq' e he hw).trans (wq e he hw)
    refine nm_e (ek_if (ca_leI hmo hm') (fun z => ?_) (fun z => ?_))
    · exact nm_e (ca_mv0 (h _ (m + a') G' _ _ _ hm' N' ⟨by omega, by omega, bl2, wq2, Or.inl (by omega)⟩))
    · refine ca_findWay N' hwo hx hy ?_
      intro bb' qq' fw'
      refine ⟨fun yz => ?_, fun yz => ?_⟩
      · refine br_t rfl (nm_e (ca_mv0 (h _ (m + a') G' _ _ _ hm' N' ⟨by omega, by omega, bl2, wq2, Or.inr ⟨fun v => decide (0 ≤ bb' v), ca_FW_cl N' fw', decide_eq_true fw'.1, decide_eq_false (fun q => ca_ge0.mpr q yz)⟩⟩)))
      · refine br_f (by decide) (nm_r (nI_1 i) (ih (i + 1) _ (m + a') G' _ _ _ hm' (by omega) (by omega) (by omega) (by omega) N' bl2 wq2 fw' (ca_ge0.mp yz)))
theorem ca_moveAll {post : Int32 → SX → Prop} {x3 mo : Int32} {most : Int} (N : ca_NV T H R F tl hd rm fl) (hwo : ∀ e, e < 25 → (nI e = x3 ↔ e = wo)) (hx : x < 8) (hy : y < 8) (hmo : mo.toInt = most) (mo1 : 0 ≤ most) (mo2 : most ≤ 240)
    (h : ∀ (mm : Int32) (m : Int) (G : Nat → Int) (fl bb qq : Nat → Int32), mm.toInt = m → ca_NV T H R G tl hd rm fl → ca_Mv T H R F wo x y most m G → post mm (c, nd, sn, fr, tw, lo, hi, tl, hd, rm, fl, bb, qq)) :
    wpX_moveAll post (c, nd, sn, fr, tw, lo, hi, tl, hd, rm, fl, bb, qq) (nI x) (nI y) x3 mo := by
  have bl : ∀ w, ca_nt (ca_pt w) T H F 25 = ca_nt (ca_pt w) T H F 25 + ca_ni (ca_pt w) x y 0 := by
    intro w
    rw [ca_ni_0]
    omega
  refine ek_if (ca_leI hmo ca_z) (fun z => ⟨1, ca_mv0 (h 0 0 F _ _ _ ca_z N ⟨by omega, by omega, bl, fun _ _ _ => rfl, Or.inl (by omega)⟩)⟩) (fun z => ?_)
  refine ca_findWay N hwo hx hy ?_
  intro bb' qq' fw'
  refine ⟨fun yz => ?_, fun yz => ?_⟩
  · exact br_t rfl ⟨1, ca_mv0 (h 0 0 F _ _ _ ca_z N ⟨by omega, by omega, bl, fun _ _ _ => rfl, Or.inr ⟨fun v => decide (0 ≤ bb' v), ca_FW_cl N fw', decide_eq_true fw'.1, decide_eq_false (fun q => ca_ge0.mpr q yz)⟩⟩)⟩
  · exact br_f (by decide) ⟨241, ca_mv28 hwo hx hy hmo mo2 h 241 0 0 0 F _ _ _ ca_z (by omega) (by omega) (by omega) (by omega) N bl (fun _ _ _ => rfl) fw' (ca_ge0.mp yz)⟩
theorem ca_solve {post : SX → Prop} {ne : Int} (N : ca_NV T H R F tl hd rm fl) (hne : ca_sm (fun v => R (13 + v)) 6 = ne) (ne2 : ne ≤ 240)
    (h : ∀ (nd sn : Int32) (m : Int) (G : Nat → Int) (fl bb qq : Nat → Int32), nd.toInt = ne → sn.toInt = m → ca_NV T H R G tl hd rm fl → ca_Mv T H R F 25 6 7 ne m G → post (c, nd, sn, fr, tw, lo, hi, tl, hd, rm, fl, bb, qq)) :
    wpX_solve post (c, nd, sn, fr, tw, lo, hi, tl, hd, rm, fl, bb, qq) := by
  have r0 : ∀ v, v < 6 → 0 ≤ R (13 + v) ∧ R (13 + v) ≤ 240 := by
    intro v hv
    have := (N (13 + v) (by omega)).2
    omega
  have key : ∀ (m i n : Nat) (nd : Int32), i + m = 6 → m < n → nd.toInt = ca_sm (fun v => R (13 + v)) i → 0 ≤ nd.toInt → nd.toInt ≤ 240 * i → wX_solve_7 post c sn fr tw lo hi tl hd rm fl bb qq n (nI i) nd := by
    intro m
    induction m with
    | zero =>
      intro i n nd hm hn hs s0 s1
      obtain ⟨n, rfl⟩ : ∃ n', n = n' + 1 := ⟨n - 1, by omega⟩
      have i6 : i = 6 := by omega
      subst i6
      refine br_t (nI_le (a := 6) (b := 6) (by omega) (by decide)) ?_
      refine ca_moveAll (wo := 25) (x := 6) (y := 7) N ca_m1 (by omega) (by omega) (hs.trans hne) (by omega) ne2 ?_
      intro mm m G fl bb qq g1 g2 g3
      exact h nd mm m G fl bb qq (hs.trans hne) g1 g2 g3
    | succ m ih =>
      intro i n nd hm hn hs s0 s1
      obtain ⟨n, rfl⟩ : ∃ n', n = n' + 1 := ⟨n - 1, by omega⟩
      have e13 : (13 : Int32) + nI i = nI (13 + i) := nI_add 13 i
      have rr := (N (13 + i) (by omega)).2.1
      have r1 := r0 i (by omega)
      have hz : (nd + rm (13 + i)).toInt = nd.toInt + R (13 + i) := ca_addI rfl rr (by omega) (by omega)
      refine br_f (nI_ge (b := 6) (by omega) (by decide)) ?_
      rw [e13, nI_clamp (n := 13 + i) (by omega)]
      refine ⟨vp_in_nI (by omega) (by decide), nm_e (nm_r (nI_1 i) (ih (i + 1) n _ (by omega) (by omega) ?_ (by omega) (by omega)))⟩
      rw [hz, hs, ca_sm_s]
  exact ⟨7, key 6 0 7 0 (by omega) (by omega) ca_z (by rw [ca_z]; omega) (by rw [ca_z]; omega)⟩
end
end
section
/-! build: the network of the arcs -/
def ca_Ar (n : Nat) (A B : Nat → Nat) (L U : Nat → Int) (fr tw lo hi : Nat → Int32) : Prop := ∀ a, a < n → (fr a = nI (A a) ∧ tw a = nI (B a) ∧ A a < 6 ∧ B a < 6) ∧ (lo a).toInt = L a ∧ (hi a).toInt = U a ∧ 0 ≤ L a ∧ L a ≤ U a ∧ U a ≤ 20
def ca_T (n : Nat) (A : Nat → Nat) (p : Nat) : Nat → Nat := fun e => if e < n then A e else if e = 12 then p else if e < 13 then 0 else if e < 19 then 6 else e - 19
def ca_H (n : Nat) (B : Nat → Nat) (q : Nat) : Nat → Nat := fun e => if e < n then B e else if e = 12 then q else if e < 13 then 0 else if e < 19 then e - 13 else 7
def ca_L (n : Nat) (L : Nat → Int) : Nat → Int := fun e => if e < n then L e else 0
def ca_U (n : Nat) (U : Nat → Int) (u : Int) : Nat → Int := fun e => if e < n then U e else if e = 12 then u else 0
def ca_ov (n : Nat) (A B : Nat → Nat) (L : Nat → Int) (v : Nat) : Int := ca_nt (ca_pt v) A B L n
def ca_R (n : Nat) (A B : Nat → Nat) (L U : Nat → Int) (u : Int) : Nat → Int := fun e => if e < 13 then ca_U n U u e - ca_L n L e else if e < 19 then (if 0 < ca_ov n A B L (e - 13) then ca_ov n A B L (e - 13) else 0) else (if 0 < ca_ov n A B L (e - 19) then 0 else - ca_ov n A B L (e - 19))
def ca_E1 (p q : Nat) (r : Int) (tl hd rm fl : Nat → Int32) (e : Nat) : Prop := tl e = nI p ∧ hd e = nI q ∧ (rm e).toInt = r ∧ (fl e).toInt = 0
section
variable {n : Nat} {A B : Nat → Nat} {L U : Nat → Int} {c nd sn : Int32} {fr tw lo hi tl hd rm fl bb qq : Nat → Int32}
theorem ca_setEdge {post : SX → Prop} {p0 p1 p2 p3 : Int32} (e : Nat) (he : e < 25) (hp : p0 = nI e) (h : post (c, nd, sn, fr, tw, lo, hi, upd tl e p1, upd hd e p2, upd rm e p3, upd fl e 0, bb, qq)) : wpX_setEdge post (c, nd, sn, fr, tw, lo, hi, tl, hd, rm, fl, bb, qq) p0 p1 p2 p3 := by
  subst hp
  have ie : vp_in (nI e) 25 := vp_in_nI he (by decide)
  unfold wpX_setEdge
  dsimp only
  rw [nI_clamp (n := e) (by omega)]
  exact ⟨ie, nm_e ⟨ie, nm_e ⟨ie, nm_e ⟨ie, nm_e h⟩⟩⟩⟩
theorem ca_E1s {e p q : Nat} {r : Int} {p1 p2 p3 : Int32} (h1 : p1 = nI p) (h2 : p2 = nI q) (h3 : p3.toInt = r) : ca_E1 p q r (upd tl e p1) (upd hd e p2) (upd rm e p3) (upd fl e 0) e := by
  unfold ca_E1
  rw [pk_us, pk_us, pk_us, pk_us]
  exact ⟨h1, h2, h3, ca_z⟩
theorem ca_E1n {e e' p q : Nat} {r : Int} {p1 p2 p3 p4 : Int32} (hn : e' ≠ e) (h : ca_E1 p q r tl hd rm fl e') : ca_E1 p q r (upd tl e p1) (upd hd e p2) (upd rm e p3) (upd fl e p4) e' := by
  unfold ca_E1
  rw [pk_un hn, pk_un hn, pk_un hn, pk_un hn]
  exact h
theorem ca_E1r {e e' p q : Nat} {r : Int} {p3 : Int32} (hn : e' ≠ e) (h : ca_E1 p q r tl hd rm fl e') : ca_E1 p q r tl hd (upd rm e p3) fl e' := by
  unfold ca_E1
  rw [pk_un hn]
  exact h
theorem ca_E1w {e p q : Nat} {r r' : Int} {p3 : Int32} (h3 : p3.toInt = r') (h : ca_E1 p q r tl hd rm fl e) : ca_E1 p q r' tl hd (upd rm e p3) fl e := by
  unfold ca_E1
  rw [pk_us]
  exact ⟨h.1, h.2.1, h3, h.2.2.2⟩
theorem ca_nt_pt (v a : Nat) : ca_nt (ca_pt v) A B L (a + 1) = ca_nt (ca_pt v) A B L a + ((if B a = v then L a else 0) - (if A a = v then L a else 0)) := by
  have h : ca_nt (ca_pt v) A B L (a + 1) = ca_nt (ca_pt v) A B L a + ca_ni (ca_pt v) (A a) (B a) (L a) := rfl
  rw [h]
  unfold ca_ni ca_pt
  simp only [decide_eq_true_eq]
theorem ca_b168 {post : SX → Prop} {J131 : Int32 → (Nat → Int32) → (Nat → Int32) → (Nat → Int32) → (Nat → Int32) → (Nat → Int32) → (Nat → Int32) → (Nat → Int32) → (Nat → Int32) → (Nat → Int32) → (Nat → Int32) → Prop} {J141 : Int32 → Int32 → Prop} {v a : Nat} {x2 : Int32} {s : Int} (hn : n ≤ 12) (ha : a < n) (hv : v < 6) (ar : ca_Ar n A B L U fr tw lo hi) (hs : x2.toInt = s) (s1 : -1000 ≤ s) (s2 : s ≤ 1000) (h : ∀ z : Int32, z.toInt = s - (if A a = v then L a else 0) → J141 z (nI (a + 1))) : wX_build_168 post J131 J141 (nI v) x2 (nI a) c nd sn fr tw lo hi tl hd rm fl bb qq := by
  obtain ⟨⟨a1, a2, a3, a4⟩, a5, a6, a7, a8, a9⟩ := ar a ha
  have ia : vp_in (nI a) 12 := vp_in_nI (by omega) (by decide)
  unfold wX_build_168
  rw [nI_clamp (n := a) (by omega), a1]
  refine ⟨ia, ek_if (nI_eq (by omega) (by omega)) (fun z => ⟨ia, nm_e (nm_r (nI_1 a) (h _ ?_))⟩) (fun z => nm_r (nI_1 a) (h _ ?_))⟩
  · rw [if_pos z]
    exact ca_subI hs a5 (by omega) (by omega)
  · rw [if_neg z]
    omega
theorem ca_b141 {post : SX → Prop} {J131 : Int32 → (Nat → Int32) → (Nat → Int32) → (Nat → Int32) → (Nat → Int32) → (Nat → Int32) → (Nat → Int32) → (Nat → Int32) → (Nat → Int32) → (Nat → Int32) → (Nat → Int32) → Prop} {v : Nat} (hn : n ≤ 12) (hv : v < 6) (ar : ca_Ar n A B L U fr tw lo hi)
    (h1 : ¬ 0 < ca_ov n A B L v → ∀ z : Int32, z.toInt = - ca_ov n A B L v → J131 (nI (v + 1)) fr tw lo hi tl hd (upd rm (19 + v) z) fl bb qq)
    (h2 : 0 < ca_ov n A B L v → ∀ z : Int32, z.toInt = ca_ov n A B L v → J131 (nI (v + 1)) fr tw lo hi tl hd (upd rm (13 + v) z) fl bb qq) :
    ∀ (m a q : Nat) (x2 : Int32), a + m = n → m < q → x2.toInt = ca_nt (ca_pt v) A B L a → -20 * (a : Int) ≤ x2.toInt → x2.toInt ≤ 20 * (a : Int) → wX_build_141 post J131 (nI v) (nI n) nd sn fr tw lo hi tl hd rm fl bb qq q x2 (nI a) := by
  have e19 : (19 : Int32) + nI v = nI (19 + v) := nI_add 19 v
  have e13 : (13 : Int32) + nI v = nI (13 + v) := nI_add 13 v
  intro m
  induction m with
  | zero =>
    intro a q x2 hm hq hs s1 s2
    obtain ⟨q, rfl⟩ : ∃ q', q = q' + 1 := ⟨q - 1, by omega⟩
    have an : a = n := by omega
    subst an
    have ho : ca_ov a A B L v = x2.toInt := hs.symm
    refine br_t (nI_le (by omega) (by omega)) ?_
    rw [e19, e13, nI_clamp (n := 19 + v) (by omega), nI_clamp (n := 13 + v) (by omega)]
    refine ek_if (ca_leI rfl ca_z) (fun z => ⟨vp_in_nI (by omega) (by decide), nm_e (nm_r (nI_1 v) (h1 (by omega) _ ?_))⟩) (fun z => ⟨vp_in_nI (by omega) (by decide), nm_e (nm_r (nI_1 v) (h2 (by omega) _ ?_))⟩)
    · rw [ho]
      exact ca_negI rfl (by omega)
    · rw [ho]
  | succ m ih =>
    intro a q x2 hm hq hs s1 s2
    obtain ⟨q, rfl⟩ : ∃ q', q = q' + 1 := ⟨q - 1, by omega⟩
    obtain ⟨⟨a1, a2, a3, a4⟩, a5, a6, a7, a8, a9⟩ := ar a (by omega)
    have ia : vp_in (nI a) 12 := vp_in_nI (by omega) (by decide)
    refine br_f (nI_ge (by omega) (by omega)) ⟨ia, ?_⟩
    rw [nI_clamp (n := a) (by omega), a2]
    have nx := ca_nt_pt (A := A) (B := B) (L := L) v a
    refine ek_if (nI_eq (by omega) (by omega)) (fun z => ⟨ia, nm_e (ca_b168 hn (by omega) hv ar (ca_addI rfl a5 (by omega) (by omega)) (by omega) (by omega) (fun w hw => ?_))⟩) (fun z => ca_b168 hn (by omega) hv ar rfl (by omega) (by omega) (fun w hw => ?_))
    · rw [if_pos z] at nx
      refine ih (a + 1) q w (by omega) (by omega) (by omega) ?_ ?_
      · by_cases y : A a = v
        · rw [if_pos y] at hw; omega
        · rw [if_neg y] at hw; omega
      · by_cases y : A a = v
        · rw [if_pos y] at hw; omega
        · rw [if_neg y] at hw; omega
    · rw [if_neg z] at nx
      refine ih (a + 1) q w (by omega) (by omega) (by omega) ?_ ?_
      · by_cases y : A a = v
        · rw [if_pos y] at hw; omega
        · rw [if_neg y] at hw; omega
      · by_cases y : A a = v
        · rw [if_pos y] at hw; omega
        · rw [if_neg y] at hw; omega
theorem ca_T_12 {p : Nat} (hn : n ≤ 12) : ca_T n A p 12 = p := by
  unfold ca_T
  rw [if_neg (by omega), if_pos rfl]
theorem ca_H_12 {p : Nat} (hn : n ≤ 12) : ca_H n A p 12 = p := by
  unfold ca_H
  rw [if_neg (by omega), if_pos rfl]
theorem ca_T_a {p e : Nat} (he : e < n) : ca_T n A p e = A e := if_pos he
theorem ca_H_a {p e : Nat} (he : e < n) : ca_H n A p e = A e := if_pos he
theorem ca_T_m {p e : Nat} (he : n ≤ e) (h : e < 12) : ca_T n A p e = 0 := by
  unfold ca_T
  rw [if_neg (by omega), if_neg (by omega), if_pos (by omega)]
theorem ca_H_m {p e : Nat} (he : n ≤ e) (h : e < 12) : ca_H n A p e = 0 := by
  unfold ca_H
  rw [if_neg (by omega), if_neg (by omega), if_pos (by omega)]
theorem ca_T_s {p v : Nat} (hn : n ≤ 12) (h : v < 6) : ca_T n A p (13 + v) = 6 := by
  unfold ca_T
  rw [if_neg (by omega), if_neg (by omega), if_neg (by omega), if_pos (by omega)]
theorem ca_H_s {p v : Nat} (hn : n ≤ 12) (h : v < 6) : ca_H n A p (13 + v) = v := by
  unfold ca_H
  rw [if_neg (by omega), if_neg (by omega), if_neg (by omega), if_pos (by omega)]
  omega
theorem ca_T_t {p v : Nat} (hn : n ≤ 12) : ca_T n A p (19 + v) = v := by
  unfold ca_T
  rw [if_neg (by omega), if_neg (by omega), if_neg (by omega), if_neg (by omega)]
  omega
theorem ca_H_t {p v : Nat} (hn : n ≤ 12) : ca_H n A p (19 + v) = 7 := by
  unfold ca_H
  rw [if_neg (by omega), if_neg (by omega), if_neg (by omega), if_neg (by omega)]
theorem ca_R_a {u : Int} {e : Nat} (he : e < n) (hn : n ≤ 12) : ca_R n A B L U u e = U e - L e := by
  unfold ca_R ca_U ca_L
  rw [if_pos (by omega), if_pos he, if_pos he]
theorem ca_R_m {u : Int} {e : Nat} (he : n ≤ e) (h : e < 12) : ca_R n A B L U u e = 0 := by
  unfold ca_R ca_U ca_L
  rw [if_pos (by omega), if_neg (by omega), if_neg (by omega), if_neg (by omega)]
  rfl
theorem ca_R_12 {u : Int} (hn : n ≤ 12) : ca_R n A B L U u 12 = u := by
  unfold ca_R ca_U ca_L
  rw [if_pos (by omega), if_neg (by omega), if_pos rfl, if_neg (by omega)]
  omega
theorem ca_R_s {u : Int} {v : Nat} (h : v < 6) : ca_R n A B L U u (13 + v) = if 0 < ca_ov n A B L v then ca_ov n A B L v else 0 := by
  unfold ca_R
  rw [if_neg (by omega), if_pos (by omega), show 13 + v - 13 = v by omega]
theorem ca_R_t {u : Int} {v : Nat} : ca_R n A B L U u (19 + v) = if 0 < ca_ov n A B L v then 0 else - ca_ov n A B L v := by
  unfold ca_R
  rw [if_neg (by omega), if_neg (by omega), show 19 + v - 19 = v by omega]
def ca_Bd (n : Nat) (A B : Nat → Nat) (L U : Nat → Int) (p q : Nat) (u : Int) (tl hd rm fl : Nat → Int32) : Prop := ∀ e, e < 25 → ca_E1 (ca_T n A p e) (ca_H n B q e) (ca_R n A B L U u e) tl hd rm fl e
theorem ca_b131 {post : SX → Prop} (hn : n ≤ 12) (ar : ca_Ar n A B L U fr tw lo hi) (h : ∀ rm, ca_Bd n A B L U 0 0 0 tl hd rm fl → post (nI n, nd, sn, fr, tw, lo, hi, tl, hd, rm, fl, bb, qq)) :
    ∀ (m v q : Nat) (rm : Nat → Int32), v + m = 6 → m < q → (∀ e, e < 13 → ca_E1 (ca_T n A 0 e) (ca_H n B 0 e) (ca_R n A B L U 0 e) tl hd rm fl e) →
    (∀ w, w < v → ca_E1 6 w (ca_R n A B L U 0 (13 + w)) tl hd rm fl (13 + w) ∧ ca_E1 w 7 (ca_R n A B L U 0 (19 + w)) tl hd rm fl (19 + w)) →
    (∀ w, v ≤ w → w < 6 → ca_E1 6 w 0 tl hd rm fl (13 + w) ∧ ca_E1 w 7 0 tl hd rm fl (19 + w)) →
    wX_build_131 post (nI n) nd sn q (nI v) fr tw lo hi tl hd rm fl bb qq := by
  intro m
  induction m with
  | zero =>
    intro v q rm hm hq i1 i2 i3
    obtain ⟨q, rfl⟩ : ∃ q', q = q' + 1 := ⟨q - 1, by omega⟩
    have v6 : v = 6 := by omega
    subst v6
    refine br_t (nI_le (a := 6) (b := 6) (by omega) (by decide)) (h rm (fun e he => ?_))
    by_cases h1 : e < 13
    · exact i1 e h1
    · by_cases h2 : e < 19
      · obtain ⟨w, rfl⟩ : ∃ w, e = 13 + w := ⟨e - 13, by omega⟩
        rw [ca_T_s hn (by omega), ca_H_s hn (by omega)]
        exact (i2 w (by omega)).1
      · obtain ⟨w, rfl⟩ : ∃ w, e = 19 + w := ⟨e - 19, by omega⟩
        rw [ca_T_t hn, ca_H_t hn]
        exact (i2 w (by omega)).2
  | succ m ih =>
    intro v q rm hm hq i1 i2 i3
    obtain ⟨q, rfl⟩ : ∃ q', q = q' + 1 := ⟨q - 1, by omega⟩
    have hv : v < 6 := by omega
    have i4 := i3 v (by omega) hv
    refine br_f (nI_ge (b := 6) (by omega) (by decide)) ⟨n + 1, ca_b141 hn hv ar (fun ho z hz => ?_) (fun ho z hz => ?_) n 0 (n + 1) 0 (by omega) (by omega) ca_z (by rw [ca_z]; omega) (by rw [ca_z]; omega)⟩
    · refine ih (v + 1) q _ (by omega) (by omega) (fun e he => ca_E1r (by omega) (i1 e he)) (fun w hw => ?_) (fun w h1 h2 => ?_)
      · by_cases z1 : w = v
        · subst z1
          rw [ca_R_s hv, ca_R_t, if_neg ho, if_neg ho]
          exact ⟨ca_E1r (by omega) i4.1, ca_E1w hz i4.2⟩
        · have := i2 w (by omega)
          exact ⟨ca_E1r (by omega) this.1, ca_E1r (by omega) this.2⟩
      · have := i3 w (by omega) h2
        exact ⟨ca_E1r (by omega) this.1, ca_E1r (by omega) this.2⟩
    · refine ih (v + 1) q _ (by omega) (by omega) (fun e he => ca_E1r (by omega) (i1 e he)) (fun w hw => ?_) (fun w h1 h2 => ?_)
      · by_cases z1 : w = v
        · subst z1
          rw [ca_R_s hv, ca_R_t, if_pos ho, if_pos ho]
          exact ⟨ca_E1w hz i4.1, ca_E1r (by omega) i4.2⟩
        · have := i2 w (by omega)
          exact ⟨ca_E1r (by omega) this.1, ca_E1r (by omega) this.2⟩
      · have := i3 w (by omega) h2
        exact ⟨ca_E1r (by omega) this.1, ca_E1r (by omega) this.2⟩
theorem ca_b59 {post : SX → Prop} {J40 : Int32 → Int32 → Int32 → Int32 → (Nat → Int32) → (Nat → Int32) → (Nat → Int32) → (Nat → Int32) → (Nat → Int32) → (Nat → Int32) → (Nat → Int32) → (Nat → Int32) → (Nat → Int32) → (Nat → Int32) → Prop} {a p q : Nat} {r : Int} (hn : n ≤ 12) (ha : a < 12) (ar : ca_Ar n A B L U fr tw lo hi)
    (hp : p = ca_T n A 0 a) (hq : q = ca_H n B 0 a) (hr : r = ca_R n A B L U 0 a)
    (h : ∀ z0 z1 z2 : Int32, z0 = nI p → z1 = nI q → z2.toInt = r → J40 (nI (a + 1)) (nI n) nd sn fr tw lo hi (upd tl a z0) (upd hd a z1) (upd rm a z2) (upd fl a 0) bb qq) :
    (nI n ≤ nI a → wX_build_59 post J40 (nI a) 0 (nI n) nd sn fr tw lo hi tl hd rm fl bb qq) ∧ (¬ nI n ≤ nI a → wX_build_59 post J40 (nI a) 1 (nI n) nd sn fr tw lo hi tl hd rm fl bb qq) := by
  have ia : vp_in (nI a) 12 := vp_in_nI ha (by decide)
  refine ek_if (nI_leI (by omega) (by omega)) (fun z => ?_) (fun z => ?_)
  · rw [ca_T_m z ha] at hp
    rw [ca_H_m z ha] at hq
    rw [ca_R_m z ha] at hr
    refine br_t rfl (br_t rfl (br_t rfl (ca_setEdge a (by omega) rfl (nm_r (nI_1 a) (h 0 0 0 ?_ ?_ ?_)))))
    · rw [hp]; rfl
    · rw [hq]; rfl
    · rw [hr]; exact ca_z
  · have han : a < n := by omega
    obtain ⟨⟨a1, a2, a3, a4⟩, a5, a6, a7, a8, a9⟩ := ar a han
    rw [ca_T_a han] at hp
    rw [ca_H_a han] at hq
    rw [ca_R_a han hn] at hr
    have n1 : ¬ (1 : Int32) = 0 := by decide
    refine br_f n1 ⟨ia, br_f n1 ⟨ia, br_f n1 ⟨ia, ia, ca_setEdge a (by omega) rfl (nm_r (nI_1 a) (h _ _ _ ?_ ?_ ?_))⟩⟩⟩
    · rw [nI_clamp (n := a) (by omega), hp]; exact a1
    · rw [nI_clamp (n := a) (by omega), hq]; exact a2
    · rw [nI_clamp (n := a) (by omega), hr]; exact ca_subI a6 a5 (by omega) (by omega)
theorem ca_b40 {post : SX → Prop} (hn : n ≤ 12) (ar : ca_Ar n A B L U fr tw lo hi) (h : ∀ tl hd rm fl, ca_Bd n A B L U 0 0 0 tl hd rm fl → post (nI n, nd, sn, fr, tw, lo, hi, tl, hd, rm, fl, bb, qq)) :
    ∀ (m a q : Nat) (tl hd rm fl : Nat → Int32), a + m = 12 → m < q → (∀ e, e < a → ca_E1 (ca_T n A 0 e) (ca_H n B 0 e) (ca_R n A B L U 0 e) tl hd rm fl e) →
    (∀ w, w < 6 → ca_E1 6 w 0 tl hd rm fl (13 + w) ∧ ca_E1 w 7 0 tl hd rm fl (19 + w)) →
    wX_build_40 post q (nI a) (nI n) nd sn fr tw lo hi tl hd rm fl bb qq := by
  intro m
  induction m with
  | zero =>
    intro a q tl hd rm fl hm hq i1 i2
    obtain ⟨q, rfl⟩ : ∃ q', q = q' + 1 := ⟨q - 1, by omega⟩
    have a12 : a = 12 := by omega
    subst a12
    refine br_t (nI_le (a := 12) (b := 12) (by omega) (by decide)) (ca_setEdge 12 (by omega) rfl ⟨7, ?_⟩)
    refine ca_b131 hn ar (fun rm hb => h _ _ _ _ hb) 6 0 7 _ (by omega) (by omega) (fun e he => ?_) (fun w hw => absurd hw (by omega)) (fun w _ hw => ?_)
    · by_cases z : e = 12
      · subst z
        refine ca_E1s ?_ ?_ ?_
        · rw [ca_T_12 hn]; rfl
        · rw [ca_H_12 hn]; rfl
        · rw [ca_R_12 hn]; exact ca_z
      · exact ca_E1n z (i1 e (by omega))
    · have := i2 w hw
      exact ⟨ca_E1n (by omega) this.1, ca_E1n (by omega) this.2⟩
  | succ m ih =>
    intro a q tl hd rm fl hm hq i1 i2
    obtain ⟨q, rfl⟩ : ∃ q', q = q' + 1 := ⟨q - 1, by omega⟩
    refine br_f (nI_ge (b := 12) (by omega) (by decide)) (ca_b59 hn (by omega) ar rfl rfl rfl (fun z0 z1 z2 g0 g1 g2 => ?_))
    refine ih (a + 1) q _ _ _ _ (by omega) (by omega) (fun e he => ?_) (fun w hw => ?_)
    · by_cases z : e = a
      · subst z
        exact ca_E1s g0 g1 g2
      · exact ca_E1n z (i1 e (by omega))
    · have := i2 w hw
      exact ⟨ca_E1n (by omega) this.1, ca_E1n (by omega) this.2⟩
theorem ca_b2 {post : SX → Prop} (hn : n ≤ 12) (ar : ca_Ar n A B L U fr tw lo hi) (h : ∀ tl hd rm fl, ca_Bd n A B L U 0 0 0 tl hd rm fl → post (nI n, nd, sn, fr, tw, lo, hi, tl, hd, rm, fl, bb, qq)) :
    ∀ (m v q : Nat) (tl hd rm fl : Nat → Int32), v + m = 6 → m < q →
    (∀ w, w < v → ca_E1 6 w 0 tl hd rm fl (13 + w) ∧ ca_E1 w 7 0 tl hd rm fl (19 + w)) →
    wX_build_2 post q (nI v) (nI n) nd sn fr tw lo hi tl hd rm fl bb qq := by
  intro m
  induction m with
  | zero =>
    intro v q tl hd rm fl hm hq i1
    obtain ⟨q, rfl⟩ : ∃ q', q = q' + 1 := ⟨q - 1, by omega⟩
    have v6 : v = 6 := by omega
    subst v6
    exact br_t (nI_le (a := 6) (b := 6) (by omega) (by decide)) ⟨13, ca_b40 hn ar h 12 0 13 tl hd rm fl (by omega) (by omega) (fun e he => absurd he (by omega)) i1⟩
  | succ m ih =>
    intro v q tl hd rm fl hm hq i1
    obtain ⟨q, rfl⟩ : ∃ q', q = q' + 1 := ⟨q - 1, by omega⟩
    have e19 : (19 : Int32) + nI v = nI (19 + v) := nI_add 19 v
    have e13 : (13 : Int32) + nI v = nI (13 + v) := nI_add 13 v
    refine br_f (nI_ge (b := 6) (by omega) (by decide)) (ca_setEdge (13 + v) (by omega) e13 (ca_setEdge (19 + v) (by omega) e19 (nm_r (nI_1 v) (ih (v + 1) q _ _ _ _ (by omega) (by omega) (fun w hw => ?_)))))
    by_cases z : w = v
    · subst z
      exact ⟨ca_E1n (by omega) (ca_E1s rfl rfl ca_z), ca_E1s rfl rfl ca_z⟩
    · have := i1 w (by omega)
      exact ⟨ca_E1n (by omega) (ca_E1n (by omega) this.1), ca_E1n (by omega) (ca_E1n (by omega) this.2)⟩
theorem ca_build {post : SX → Prop} (hn : n ≤ 12) (ar : ca_Ar n A B L U fr tw lo hi) (h : ∀ tl hd rm fl, ca_Bd n A B L U 0 0 0 tl hd rm fl → post (nI n, nd, sn, fr, tw, lo, hi, tl, hd, rm, fl, bb, qq)) : wpX_build post (nI n, nd, sn, fr, tw, lo, hi, tl, hd, rm, fl, bb, qq) :=
  ⟨7, ca_b2 hn ar h 6 0 7 tl hd rm fl (by omega) (by omega) (fun w hw => absurd hw (by omega))⟩
end
end
section
/-! what the network answers, in plain terms -/
def ca_Max (f : Nat → Int) (m : Int) : Prop := (∀ s, s < 64 → f s ≤ m) ∧ ∃ s, s < 64 ∧ f s = m
def ca_Pn (T H : Nat → Nat) (L U R : Nat → Int) : Prop := ca_Net T H ∧ (∀ e, e < 13 → U e = L e + R e) ∧ (∀ v, v < 6 → R (13 + v) - R (19 + v) = ca_nt (ca_pt v) T H L 13)
def ca_Sv (T H : Nat → Nat) (R : Nat → Int) (ne m : Int) (G : Nat → Int) : Prop := ca_Ok R G ∧ (∀ w, w < 6 → ca_nt (ca_pt w) T H G 25 = 0) ∧ ca_sm (fun v => R (13 + v) - G (13 + v)) 6 = ne - m ∧ ca_nt (ca_pt 6) T H G 25 = -m ∧ ca_sm (fun v => R (13 + v)) 6 = ne ∧ m ≤ ne ∧ (m = ne ∨ ∃ P : Nat → Bool, ca_Cl T H R G 25 P ∧ P 6 = true ∧ P 7 = false)
section
variable {T H : Nat → Nat} {L U R F G G' : Nat → Int} {tl hd rm fl bb : Nat → Int32}
theorem ca_NV_ok (N : ca_NV T H R G tl hd rm fl) : ca_Ok R G := fun e he => ⟨(N e he).2.2.2.1, (N e he).2.2.2.2.1⟩
theorem ca_sv {ne m : Int} (N : ca_NV T H R G tl hd rm fl) (nt : ca_Net T H) (hne : ca_sm (fun v => R (13 + v)) 6 = ne) (mv : ca_Mv T H R (fun _ => 0) 25 6 7 ne m G) : ca_Sv T H R ne m G := by
  obtain ⟨m0, m1, bl, wq, fi⟩ := mv
  have bl' : ∀ w, ca_nt (ca_pt w) T H G 25 = ca_ni (ca_pt w) 6 7 m := by
    intro w
    rw [bl w, ca_nt_0]
    omega
  have b6 : ca_nt (ca_pt 6) T H G 25 = -m := by
    rw [bl' 6]
    unfold ca_ni
    rw [ca_pt_f (w := 6) (v := 7) (by omega), ca_pt_t (w := 6) (v := 6) rfl]
    simp
  refine ⟨ca_NV_ok N, fun w hw => ?_, ?_, b6, hne, m1, fi⟩
  · rw [bl' w]
    unfold ca_ni
    rw [ca_pt_f (w := w) (v := 7) (by omega), ca_pt_f (w := w) (v := 6) (by omega)]
    rfl
  · rw [ca_bal6 nt] at b6
    rw [ca_sm_sub, hne]
    omega
theorem ca_toS {P : Nat → Bool} (nt : ca_Net T H) {s : Nat} (h : ∀ v, v < 6 → s.testBit v = P v) : ca_lk (Nat.testBit s) T H L U 13 = ca_lk (ca_lo P) T H L U 13 := by
  apply ca_lk_set
  intro e he
  have n1 := nt.1 e he
  rw [h _ n1.1, h _ n1.2, ca_lo_v n1.1, ca_lo_v n1.2]
  exact ⟨rfl, rfl⟩
theorem ca_t67 {s : Nat} (h : s < 64) : Nat.testBit s 6 = false ∧ Nat.testBit s 7 = false := ⟨ca_hi h (by omega), ca_hi h (by omega)⟩
theorem ca_aLack {ne m w : Int} (pn : ca_Pn T H L U R) (sv : ca_Sv T H R ne m G) (hw : ca_Max (fun s => ca_lk (Nat.testBit s) T H L U 13) w) : w = ne - m := by
  obtain ⟨nt, pu, po⟩ := pn
  obtain ⟨ok, b, sm, b6, hne, m1, fi⟩ := sv
  obtain ⟨hw1, s, hs, hw2⟩ := hw
  have hw2' : ca_lk (Nat.testBit s) T H L U 13 = w := hw2
  have a := ca_weak (S := Nat.testBit s) nt ok pu b po (ca_t67 hs).1 (ca_t67 hs).2
  rcases fi with fi | ⟨P, cl, p6, p7⟩
  · have z := hw1 0 (by omega)
    have z' : ca_lk (Nat.testBit 0) T H L U 13 ≤ w := z
    have e : ca_lk (Nat.testBit 0) T H L U 13 = 0 := by
      rw [ca_lk_set (S' := fun _ => false) (fun e _ => ⟨Nat.zero_testBit _, Nat.zero_testBit _⟩)]
      exact ca_lk_0 13
    omega
  · obtain ⟨s', hs', hb⟩ := ca_bits P
    have z : ca_lk (Nat.testBit s') T H L U 13 ≤ w := hw1 s' hs'
    rw [ca_toS nt hb, ca_strong nt ok pu b po cl p6 p7] at z
    omega
theorem ca_aSet {ne m w : Int} (N : ca_NV T H R G tl hd rm fl) (pn : ca_Pn T H L U R) (sv : ca_Sv T H R ne m G) (fw : ca_FW T H R G 25 6 bb) (hw : ca_Max (fun s => ca_lk (Nat.testBit s) T H L U 13) w) {v : Nat} (hv : v < 6) : 0 ≤ bb v ↔ ∀ s, s < 64 → ca_lk (Nat.testBit s) T H L U 13 = w → s.testBit v = true := by
  have el := ca_aLack pn sv hw
  obtain ⟨nt, pu, po⟩ := pn
  obtain ⟨ok, b, sm, b6, hne, m1, fi⟩ := sv
  obtain ⟨hw1, s0, hs0, hw2⟩ := hw
  have hw2' : ca_lk (Nat.testBit s0) T H L U 13 = w := hw2
  have mi : ∀ s, s < 64 → ca_lk (Nat.testBit s) T H L U 13 = w → ∀ v, v < 8 → 0 ≤ bb v → (Nat.testBit s v || decide (v = 6)) = true := by
    intro s hs he
    have cl := ca_conv (S := Nat.testBit s) nt ok pu b po (ca_t67 hs).1 (ca_t67 hs).2 (by omega)
    exact ca_FW_min N fw cl (by show (Nat.testBit s 6 || decide (6 = 6)) = true; simp)
  constructor
  · intro h0 s hs he
    have a := mi s hs he v (by omega) h0
    rw [decide_eq_false (show ¬ v = 6 by omega), Bool.or_false] at a
    exact a
  · intro h
    have p7 : decide (0 ≤ bb 7) = false := by
      apply decide_eq_false
      intro h7
      have a := mi s0 hs0 hw2' 7 (by omega) h7
      rw [(ca_t67 hs0).2] at a
      exact absurd a (by decide)
    obtain ⟨s', hs', hb⟩ := ca_bits (fun v => decide (0 ≤ bb v))
    have z := ca_strong nt ok pu b po (ca_FW_cl N fw) (decide_eq_true fw.1) p7
    rw [← ca_toS nt hb] at z
    have a := h s' hs' (by omega)
    rw [hb v hv] at a
    exact of_decide_eq_true a
theorem ca_aNone {ne m x : Int} (pn : ca_Pn T H L U R) (sv : ca_Sv T H R ne m G) (hm : m < ne) {k : Nat} (h1 : L k ≤ x) (h2 : x ≤ U k) : ∃ s, s < 64 ∧ 0 < ca_lk (Nat.testBit s) T H (ca_fx L k x) (ca_fx U k x) 13 := by
  obtain ⟨nt, pu, po⟩ := pn
  obtain ⟨ok, b, sm, b6, hne, m1, fi⟩ := sv
  rcases fi with fi | ⟨P, cl, p6, p7⟩
  · omega
  · obtain ⟨s', hs', hb⟩ := ca_bits P
    refine ⟨s', hs', ?_⟩
    have z := ca_fixN (S := Nat.testBit s') (T := T) (H := H) (n := 13) h1 h2
    rw [ca_toS (L := L) (U := U) nt hb, ca_strong nt ok pu b po cl p6 p7] at z
    omega
theorem ca_aMove {ne m g x : Int} (pn : ca_Pn T H L U R) (sv : ca_Sv T H R ne m G) (hm : m = ne) {k : Nat} (hk : k < 13) (g0 : 0 ≤ g) (g1 : g ≤ R k) (ok' : ca_Ok R G') (bl : ∀ w, ca_nt (ca_pt w) T H (ca_fx G' k g) 25 = ca_nt (ca_pt w) T H G 25) :
    (∀ s, s < 64 → ca_lk (Nat.testBit s) T H (ca_fx L k (L k + g)) (ca_fx U k (L k + g)) 13 ≤ 0) ∧
    (∀ P : Nat → Bool, ca_Cl T H R G' k P → ∃ s, s < 64 ∧ ca_lk (Nat.testBit s) T H (ca_fx L k x) (ca_fx U k x) 13 = ca_ni (ca_lo P) (T k) (H k) (x - (L k + g))) := by
  obtain ⟨nt, pu, po⟩ := pn
  obtain ⟨ok, b, sm, b6, hne, m1, fi⟩ := sv
  have ok2 : ca_Ok R (ca_fx G' k g) := by
    intro e he
    by_cases z : e = k
    · subst z
      rw [ca_fx_s]
      exact ⟨g0, g1⟩
    · rw [ca_fx_n z]
      exact ok' e he
  have full := ca_full (L := L) nt ok2 (fun w hw => (bl w).trans (b w hw)) po (by rw [bl 6, b6, hne, hm])
  constructor
  · intro s hs
    have a := ca_fixW (k := k) (L := L) (U := U) (full (Nat.testBit s) (ca_t67 hs).1 (ca_t67 hs).2) (fun e he => by
      have h1 := ok2 e (by omega)
      have h2 := pu e he
      show L e ≤ L e + ca_fx G' k g e ∧ L e + ca_fx G' k g e ≤ U e
      omega)
    rw [ca_fx_s] at a
    exact a
  · intro P cl
    have cl2 : ca_Cl T H R (ca_fx G' k g) k P := by
      intro e he hn
      rw [ca_fx_n hn]
      exact cl e he hn
    obtain ⟨s', hs', hb⟩ := ca_bits P
    refine ⟨s', hs', ?_⟩
    have a := ca_fixC (L := L) (x := x) nt ok2 pu hk (full (ca_lo P) ca_lo_6 ca_lo_7) cl2
    rw [ca_fx_s] at a
    rw [ca_toS nt hb]
    exact a
theorem ca_aDown {ne m m' : Int} (pn : ca_Pn T H L U R) (sv : ca_Sv T H R ne m G) (hm : m = ne) {k : Nat} (hk : k < 13) (ok' : ca_Ok R G') (mv : ca_Mv T H R G k (T k) (H k) (G k) m' G') :
    (L k ≤ L k + G k - m' ∧ L k + G k - m' ≤ U k) ∧ (∀ s, s < 64 → ca_lk (Nat.testBit s) T H (ca_fx L k (L k + G k - m')) (ca_fx U k (L k + G k - m')) 13 ≤ 0) ∧
    (∀ x, L k ≤ x → x < L k + G k - m' → ∃ s, s < 64 ∧ 0 < ca_lk (Nat.testBit s) T H (ca_fx L k x) (ca_fx U k x) 13) := by
  obtain ⟨m0, m1, bl, wq, fi⟩ := mv
  have okk := sv.1 k (by omega)
  have uk := pn.2.1 k hk
  have nk := pn.1.1 k hk
  have gk : G' k = G k := wq k (by omega) rfl
  have bl2 : ∀ w, ca_nt (ca_pt w) T H (ca_fx G' k (G k - m')) 25 = ca_nt (ca_pt w) T H G 25 := by
    intro w
    rw [ca_nt_upd (F := G') (k := k) (by omega) (fun i _ hn => ca_fx_n hn), ca_fx_s, gk, bl w, show G k - m' - G k = -m' by omega, Int.add_assoc, ← ca_ni_add, show m' + -m' = 0 by omega, ca_ni_0]
    omega
  have K := fun x => ca_aMove (g := G k - m') (x := x) pn sv hm hk (by omega) (by omega) ok' bl2
  rw [show L k + G k - m' = L k + (G k - m') by omega]
  refine ⟨by omega, (K 0).1, fun x h1 h2 => ?_⟩
  rcases fi with fi | ⟨P, cl, px, py⟩
  · omega
  · obtain ⟨s, hs, e⟩ := (K x).2 P cl
    refine ⟨s, hs, ?_⟩
    rw [e]
    unfold ca_ni
    rw [ca_lo_v nk.1, ca_lo_v nk.2, px, py]
    simp
    omega
theorem ca_aUp {ne m m' : Int} (pn : ca_Pn T H L U R) (sv : ca_Sv T H R ne m G) (hm : m = ne) {k : Nat} (hk : k < 13) (ok' : ca_Ok R G') (mv : ca_Mv T H R G k (H k) (T k) (R k - G k) m' G') :
    (L k ≤ L k + G k + m' ∧ L k + G k + m' ≤ U k) ∧ (∀ s, s < 64 → ca_lk (Nat.testBit s) T H (ca_fx L k (L k + G k + m')) (ca_fx U k (L k + G k + m')) 13 ≤ 0) ∧
    (∀ x, x ≤ U k → L k + G k + m' < x → ∃ s, s < 64 ∧ 0 < ca_lk (Nat.testBit s) T H (ca_fx L k x) (ca_fx U k x) 13) := by
  obtain ⟨m0, m1, bl, wq, fi⟩ := mv
  have okk := sv.1 k (by omega)
  have uk := pn.2.1 k hk
  have nk := pn.1.1 k hk
  have gk : G' k = G k := wq k (by omega) rfl
  have bl2 : ∀ w, ca_nt (ca_pt w) T H (ca_fx G' k (G k + m')) 25 = ca_nt (ca_pt w) T H G 25 := by
    intro w
    rw [ca_nt_upd (F := G') (k := k) (by omega) (fun i _ hn => ca_fx_n hn), ca_fx_s, gk, bl w, show G k + m' - G k = m' by omega, Int.add_assoc, ca_ni_ch, ca_ni_same]
    omega
  have K := fun x => ca_aMove (g := G k + m') (x := x) pn sv hm hk (by omega) (by omega) ok' bl2
  rw [show L k + G k + m' = L k + (G k + m') by omega]
  refine ⟨by omega, (K 0).1, fun x h1 h2 => ?_⟩
  rcases fi with fi | ⟨P, cl, px, py⟩
  · omega
  · obtain ⟨s, hs, e⟩ := (K x).2 P cl
    refine ⟨s, hs, ?_⟩
    rw [e]
    unfold ca_ni
    rw [ca_lo_v nk.1, ca_lo_v nk.2, px, py]
    simp
    omega
theorem ca_sm_ext {f g : Nat → Int} {n N : Nat} (h : n ≤ N) (h1 : ∀ e, e < n → g e = f e) (h2 : ∀ e, n ≤ e → e < N → g e = 0) : ca_sm g N = ca_sm f n := by
  obtain ⟨k, rfl⟩ : ∃ k, N = n + k := ⟨N - n, by omega⟩
  rw [ca_sm_app, ca_sm_congr h1, ca_sm_z (n := k) (fun i hi => h2 (n + i) (by omega) (by omega))]
  omega
end
def ca_Ab (n : Nat) (A B : Nat → Nat) (L U : Nat → Int) : Prop := ∀ a, a < n → A a < 6 ∧ B a < 6 ∧ 0 ≤ L a ∧ L a ≤ U a ∧ U a ≤ 20
section
variable {n p q : Nat} {u : Int} {A B : Nat → Nat} {L U : Nat → Int} {fr tw lo hi tl hd rm fl : Nat → Int32}
theorem ca_Ar_Ab (ar : ca_Ar n A B L U fr tw lo hi) : ca_Ab n A B L U := fun a ha => ⟨(ar a ha).1.2.2.1, (ar a ha).1.2.2.2, (ar a ha).2.2.2⟩
theorem ca_pNet (hn : n ≤ 12) (ab : ca_Ab n A B L U) (hp : p < 6) (hq : q < 6) : ca_Net (ca_T n A p) (ca_H n B q) := by
  refine ⟨fun e he => ?_, fun v hv => ⟨ca_T_s hn hv, ca_H_s hn hv, ca_T_t hn, ca_H_t hn⟩⟩
  by_cases h1 : e < n
  · rw [ca_T_a h1, ca_H_a h1]
    exact ⟨(ab e h1).1, (ab e h1).2.1⟩
  · by_cases h2 : e = 12
    · subst h2
      rw [ca_T_12 hn, ca_H_12 hn]
      exact ⟨hp, hq⟩
    · rw [ca_T_m (by omega) (by omega), ca_H_m (by omega) (by omega)]
      omega
theorem ca_pov (hn : n ≤ 12) (v : Nat) (hv : v < 6) : ca_R n A B L U u (13 + v) - ca_R n A B L U u (19 + v) = ca_nt (ca_pt v) (ca_T n A p) (ca_H n B q) (ca_L n L) 13 := by
  have e : ca_nt (ca_pt v) (ca_T n A p) (ca_H n B q) (ca_L n L) 13 = ca_ov n A B L v := by
    refine ca_sm_ext (by omega) (fun e he => ?_) (fun e h1 h2 => ?_)
    · rw [ca_T_a he, ca_H_a he, show ca_L n L e = L e from if_pos he]
    · rw [show ca_L n L e = 0 from if_neg (by omega), ca_ni_0]
  rw [e, ca_R_s hv, ca_R_t]
  by_cases h : 0 < ca_ov n A B L v
  · rw [if_pos h, if_pos h]
    omega
  · rw [if_neg h, if_neg h]
    omega
theorem ca_pPn (hn : n ≤ 12) (ab : ca_Ab n A B L U) (hp : p < 6) (hq : q < 6) : ca_Pn (ca_T n A p) (ca_H n B q) (ca_L n L) (ca_U n U u) (ca_R n A B L U u) := by
  refine ⟨ca_pNet hn ab hp hq, fun e he => ?_, ca_pov hn⟩
  unfold ca_R
  rw [if_pos he]
  omega
theorem ca_ovB (ab : ca_Ab n A B L U) (v : Nat) : ∀ m, m ≤ n → -20 * (m : Int) ≤ ca_nt (ca_pt v) A B L m ∧ ca_nt (ca_pt v) A B L m ≤ 20 * (m : Int) := by
  intro m
  induction m with
  | zero => intro _; exact ⟨Int.le_refl 0, Int.le_refl 0⟩
  | succ m ih =>
    intro hm
    have a := ih (by omega)
    have b := ab m (by omega)
    rw [ca_nt_pt]
    by_cases z1 : B m = v
    · by_cases z2 : A m = v
      · rw [if_pos z1, if_pos z2]; omega
      · rw [if_pos z1, if_neg z2]; omega
    · by_cases z2 : A m = v
      · rw [if_neg z1, if_pos z2]; omega
      · rw [if_neg z1, if_neg z2]; omega
theorem ca_pR (hn : n ≤ 12) (ab : ca_Ab n A B L U) (u0 : 0 ≤ u) (u1 : u ≤ 240) : ∀ e, e < 25 → 0 ≤ ca_R n A B L U u e ∧ ca_R n A B L U u e ≤ 240 := by
  intro e he
  by_cases h1 : e < n
  · rw [ca_R_a h1 hn]
    have := ab e h1
    omega
  · by_cases h2 : e < 12
    · rw [ca_R_m (by omega) h2]
      omega
    · by_cases h3 : e = 12
      · subst h3
        rw [ca_R_12 hn]
        omega
      · by_cases h4 : e < 19
        · obtain ⟨v, rfl⟩ : ∃ v, e = 13 + v := ⟨e - 13, by omega⟩
          have b := ca_ovB ab v n (by omega)
          rw [ca_R_s (by omega)]
          unfold ca_ov
          by_cases z : 0 < ca_nt (ca_pt v) A B L n
          · rw [if_pos z]; omega
          · rw [if_neg z]; omega
        · obtain ⟨v, rfl⟩ : ∃ v, e = 19 + v := ⟨e - 19, by omega⟩
          have b := ca_ovB ab v n (by omega)
          rw [ca_R_t]
          unfold ca_ov
          by_cases z : 0 < ca_nt (ca_pt v) A B L n
          · rw [if_pos z]; omega
          · rw [if_neg z]; omega
def ca_inn (B : Nat → Nat) (L : Nat → Int) (n v : Nat) : Int := ca_sm (fun a => if B a = v then L a else 0) n
theorem ca_innB (ab : ca_Ab n A B L U) (v : Nat) : ∀ m, m ≤ n → 0 ≤ ca_inn B L m v ∧ ca_nt (ca_pt v) A B L m ≤ ca_inn B L m v := by
  intro m
  induction m with
  | zero => intro _; exact ⟨Int.le_refl 0, Int.le_refl 0⟩
  | succ m ih =>
    intro hm
    have a := ih (by omega)
    have b := ab m (by omega)
    have c : ca_inn B L (m + 1) v = ca_inn B L m v + (if B m = v then L m else 0) := rfl
    rw [ca_nt_pt, c]
    by_cases z1 : B m = v
    · by_cases z2 : A m = v
      · rw [if_pos z1, if_pos z2]; omega
      · rw [if_pos z1, if_neg z2]; omega
    · by_cases z2 : A m = v
      · rw [if_neg z1, if_pos z2]; omega
      · rw [if_neg z1, if_neg z2]; omega
theorem ca_innS (ab : ca_Ab n A B L U) : ∀ m, m ≤ n → ca_sm (fun v => ca_inn B L m v) 6 ≤ 20 * (m : Int) := by
  intro m
  induction m with
  | zero =>
    intro _
    rw [ca_sm_z (f := fun v => ca_inn B L 0 v) (fun i _ => rfl)]
    omega
  | succ m ih =>
    intro hm
    have a := ih (by omega)
    have b := ab m (by omega)
    have e : ca_sm (fun v => ca_inn B L (m + 1) v) 6 = ca_sm (fun v => ca_inn B L m v) 6 + ca_sm (fun v => if B m = v then L m else 0) 6 := by
      rw [← ca_sm_add]
      exact ca_sm_congr (fun i _ => rfl)
    have o : ca_sm (fun v => if B m = v then L m else 0) 6 = L m := by
      rw [ca_sm_one (k := B m) b.2.1 (fun i _ hn => if_neg (fun z => hn z.symm))]
      exact if_pos rfl
    rw [e, o]
    omega
theorem ca_pne (hn : n ≤ 12) (ab : ca_Ab n A B L U) : ca_sm (fun v => ca_R n A B L U u (13 + v)) 6 ≤ 240 := by
  have a := ca_innS ab n (by omega)
  have b : ca_sm (fun v => ca_R n A B L U u (13 + v)) 6 ≤ ca_sm (fun v => ca_inn B L n v) 6 := by
    apply ca_sm_le
    intro v hv
    have c := ca_innB ab v n (by omega)
    rw [ca_R_s hv]
    unfold ca_ov
    by_cases z : 0 < ca_nt (ca_pt v) A B L n
    · rw [if_pos z]; omega
    · rw [if_neg z]; omega
  omega
theorem ca_pNV (hn : n ≤ 12) (ab : ca_Ab n A B L U) (hp : p < 6) (hq : q < 6) (u0 : 0 ≤ u) (u1 : u ≤ 240) (bd : ca_Bd n A B L U p q u tl hd rm fl) : ca_NV (ca_T n A p) (ca_H n B q) (ca_R n A B L U u) (fun _ => 0) tl hd rm fl := by
  intro e he
  have a := bd e he
  have b := ca_net8 (ca_pNet hn ab hp hq) e he
  have c := ca_pR hn ab u0 u1 e he
  exact ⟨⟨a.1, b.1, a.2.1, b.2⟩, a.2.2.1, a.2.2.2, Int.le_refl 0, c.1, c.2⟩
theorem ca_pBd {p1 p2 p3 : Int32} (hn : n ≤ 12) (bd : ca_Bd n A B L U 0 0 0 tl hd rm fl) (h1 : p1 = nI p) (h2 : p2 = nI q) (h3 : p3.toInt = u) : ca_Bd n A B L U p q u (upd tl 12 p1) (upd hd 12 p2) (upd rm 12 p3) (upd fl 12 0) := by
  intro e he
  by_cases z : e = 12
  · subst z
    rw [ca_T_12 hn, ca_H_12 hn, ca_R_12 hn]
    exact ca_E1s h1 h2 h3
  · have a := bd e he
    have e1 : ca_T n A p e = ca_T n A 0 e := by
      unfold ca_T
      rw [if_neg z, if_neg z]
    have e2 : ca_H n B q e = ca_H n B 0 e := by
      unfold ca_H
      rw [if_neg z, if_neg z]
    have e3 : ca_R n A B L U u e = ca_R n A B L U 0 e := by
      unfold ca_R ca_U
      rw [if_neg z, if_neg z]
    rw [e1, e2, e3]
    exact ca_E1n z a
theorem ca_qLk {S : Nat → Bool} (hn : n ≤ 12) : ca_lk S (ca_T n A p) (ca_H n B p) (ca_L n L) (ca_U n U u) 13 = ca_lk S A B L U n := by
  refine ca_sm_ext (by omega) (fun e he => ?_) (fun e h1 h2 => ?_)
  · rw [ca_T_a he, ca_H_a he, show ca_L n L e = L e from if_pos he, show ca_U n U u e = U e from if_pos he]
  · by_cases z : e = 12
    · subst z
      rw [ca_T_12 hn, ca_H_12 hn, ca_lt_loop]
    · rw [ca_T_m h1 (by omega), ca_H_m h1 (by omega), ca_lt_loop]
theorem ca_qFx {S : Nat → Bool} {k : Nat} {x : Int} (hn : n ≤ 12) (hk : k < n) : ca_lk S (ca_T n A p) (ca_H n B p) (ca_fx (ca_L n L) k x) (ca_fx (ca_U n U u) k x) 13 = ca_lk S A B (ca_fx L k x) (ca_fx U k x) n := by
  refine ca_sm_ext (by omega) (fun e he => ?_) (fun e h1 h2 => ?_)
  · rw [ca_T_a he, ca_H_a he]
    by_cases z : e = k
    · subst z
      rw [ca_fx_s, ca_fx_s, ca_fx_s, ca_fx_s]
    · rw [ca_fx_n z, ca_fx_n z, ca_fx_n z, ca_fx_n z, show ca_L n L e = L e from if_pos he, show ca_U n U u e = U e from if_pos he]
  · by_cases z : e = 12
    · subst z
      rw [ca_T_12 hn, ca_H_12 hn, ca_lt_loop]
    · rw [ca_T_m h1 (by omega), ca_H_m h1 (by omega), ca_lt_loop]
theorem ca_q12 {S : Nat → Bool} {x : Int} {A' B' : Nat → Nat} {L' U' : Nat → Int} (hn : n ≤ 12) (h : ∀ e, e < n → A' e = A e ∧ B' e = B e ∧ L' e = L e ∧ U' e = U e) (h1 : A' n = p) (h2 : B' n = q) (h3 : L' n = x) (h4 : U' n = x) : ca_lk S (ca_T n A p) (ca_H n B q) (ca_fx (ca_L n L) 12 x) (ca_fx (ca_U n U u) 12 x) 13 = ca_lk S A' B' L' U' (n + 1) := by
  have a : ca_lk S (ca_T n A p) (ca_H n B q) (ca_fx (ca_L n L) 12 x) (ca_fx (ca_U n U u) 12 x) 12 = ca_lk S A' B' L' U' n := by
    refine ca_sm_ext hn (fun e he => ?_) (fun e h1 h2 => ?_)
    · obtain ⟨g1, g2, g3, g4⟩ := h e he
      rw [ca_T_a he, ca_H_a he, ca_fx_n (by omega), ca_fx_n (by omega), show ca_L n L e = L e from if_pos he, show ca_U n U u e = U e from if_pos he, g1, g2, g3, g4]
    · rw [ca_T_m h1 h2, ca_H_m h1 h2, ca_lt_loop]
  have b : ca_lk S (ca_T n A p) (ca_H n B q) (ca_fx (ca_L n L) 12 x) (ca_fx (ca_U n U u) 12 x) 13 = ca_lk S (ca_T n A p) (ca_H n B q) (ca_fx (ca_L n L) 12 x) (ca_fx (ca_U n U u) 12 x) 12 + ca_lt S (ca_T n A p 12) (ca_H n B q 12) (ca_fx (ca_L n L) 12 x 12) (ca_fx (ca_U n U u) 12 x 12) := rfl
  have c : ca_lk S A' B' L' U' (n + 1) = ca_lk S A' B' L' U' n + ca_lt S (A' n) (B' n) (L' n) (U' n) := rfl
  rw [b, c, a, ca_T_12 hn, ca_H_12 hn, ca_fx_s, ca_fx_s, h1, h2, h3, h4]
end
end
section
/-! the reference: lackOf, worst, lackingSet, allows, least, most, through -/
def ca_Ya (n : Nat) (A B : Nat → Nat) (L U : Nat → Int) (yt yh yl yu : Nat → Int32) : Prop := ∀ a, a < n → (yt a = nI (A a) ∧ yh a = nI (B a) ∧ A a < 6 ∧ B a < 6) ∧ (yl a).toInt = L a ∧ (yu a).toInt = U a ∧ 0 ≤ L a ∧ L a ≤ 240 ∧ 0 ≤ U a ∧ U a ≤ 240
def ca_al (f : Nat → Int) : Prop := ∀ s, s < 64 → f s ≤ 0
def ca_na (f : Nat → Int) : Prop := ∃ s, s < 64 ∧ 0 < f s
def ca_up (A : Nat → Nat) (k x : Nat) : Nat → Nat := fun e => if e = k then x else A e
theorem ca_bit : ∀ s, s < 64 → ∀ v, v < 6 → (((nI s >>> (nI v &&& 31)) &&& 1) = 0 ↔ s.testBit v = false) := by decide +kernel
theorem ca_updK (f : Nat → Int32) (k : Nat) (x : Int32) : upd (upd f k x) k (f k) = f := by
  funext j
  by_cases h : j = k
  · subst h
    exact pk_us
  · rw [pk_un h, pk_un h]
section
variable {n : Nat} {A B : Nat → Nat} {L U : Nat → Int} {yc : Int32} {yt yh yl yu : Nat → Int32}
theorem ca_lk_b (ya : ca_Ya n A B L U yt yh yl yu) (S : Nat → Bool) : ∀ m, m ≤ n → -240 * (m : Int) ≤ ca_lk S A B L U m ∧ ca_lk S A B L U m ≤ 240 * (m : Int) := by
  intro m
  induction m with
  | zero => intro _; exact ⟨Int.le_refl 0, Int.le_refl 0⟩
  | succ m ih =>
    intro hm
    have a := ih (by omega)
    have b := (ya m (by omega)).2
    have c : ca_lk S A B L U (m + 1) = ca_lk S A B L U m + ca_lt S (A m) (B m) (L m) (U m) := rfl
    have d : -240 ≤ ca_lt S (A m) (B m) (L m) (U m) ∧ ca_lt S (A m) (B m) (L m) (U m) ≤ 240 := by
      unfold ca_lt
      cases S (A m) <;> cases S (B m) <;> simp <;> omega
    rw [c]
    omega
theorem ca_y73 {post : Int32 → Prop} {J5 : Int32 → Int32 → Prop} {x1 x2 x3 x5 x6 : Int32} {a : Nat} {s : Int} {ta hb : Bool} (ha : a < n) (hn : n ≤ 13) (ya : ca_Ya n A B L U yt yh yl yu) (h5 : x5 = 0 ↔ ta = false) (h6 : x6 = 0 ↔ hb = false) (hs : x3.toInt = s) (s1 : -10000 ≤ s) (s2 : s ≤ 10000)
    (h : ∀ z : Int32, z.toInt = s - (if ta = true ∧ hb = false then U a else 0) → J5 z (nI (a + 1))) : wY_lackOf_73 post J5 x1 x2 x3 (nI a) x5 x6 yc yt yh yl yu := by
  have ia : vp_in (nI a) 13 := vp_in_nI (by omega) (by decide)
  have b := (ya a ha).2
  unfold wY_lackOf_73
  rw [nI_clamp (n := a) (by omega)]
  refine ek_if h5 (fun z => nm_r (nI_1 a) (h _ ?_)) (fun z => ek_if h6 (fun y => ⟨ia, nm_e (nm_r (nI_1 a) (h _ ?_))⟩) (fun y => nm_r (nI_1 a) (h _ ?_)))
  · rw [if_neg (fun q => by rw [z] at q; exact absurd q.1 (by decide))]
    omega
  · have z' : ta = true := by cases ta; exact absurd rfl z; rfl
    rw [if_pos ⟨z', y⟩]
    exact ca_subI hs b.2.1 (by omega) (by omega)
  · rw [if_neg (fun q => y q.2)]
    omega
theorem ca_y51 {post : Int32 → Prop} {J5 : Int32 → Int32 → Prop} {x1 x2 x3 x5 x6 : Int32} {a : Nat} {s : Int} {ta hb : Bool} (ha : a < n) (hn : n ≤ 13) (ya : ca_Ya n A B L U yt yh yl yu) (h5 : x5 = 0 ↔ ta = false) (h6 : x6 = 0 ↔ hb = false) (hs : x3.toInt = s) (s1 : -9000 ≤ s) (s2 : s ≤ 9000)
    (h : ∀ z : Int32, z.toInt = s + (if hb = true ∧ ta = false then L a else 0) - (if ta = true ∧ hb = false then U a else 0) → J5 z (nI (a + 1))) : wY_lackOf_51 post J5 x1 x2 x3 (nI a) x5 x6 yc yt yh yl yu := by
  have ia : vp_in (nI a) 13 := vp_in_nI (by omega) (by decide)
  have b := (ya a ha).2
  unfold wY_lackOf_51
  rw [nI_clamp (n := a) (by omega)]
  refine ek_if h6 (fun z => ca_y73 ha hn ya h5 h6 hs (by omega) (by omega) (fun w hw => h w ?_)) (fun z => ek_if h5 (fun y => ⟨ia, nm_e (ca_y73 ha hn ya h5 h6 (ca_addI hs b.1 (by omega) (by omega)) (by omega) (by omega) (fun w hw => h w ?_))⟩) (fun y => ca_y73 ha hn ya h5 h6 hs (by omega) (by omega) (fun w hw => h w ?_)))
  · rw [if_neg (c := hb = true ∧ ta = false) (fun q => by rw [z] at q; exact absurd q.1 (by decide))]
    omega
  · have z' : hb = true := by cases hb; exact absurd rfl z; rfl
    rw [if_pos (c := hb = true ∧ ta = false) ⟨z', y⟩]
    omega
  · rw [if_neg (c := hb = true ∧ ta = false) (fun q => y q.2)]
    omega
theorem ca_lackOf {post : Int32 → Prop} {s : Nat} (hs : s < 64) (hn : n ≤ 13) (ya : ca_Ya n A B L U yt yh yl yu) (h : ∀ r : Int32, r.toInt = ca_lk (Nat.testBit s) A B L U n → post r) : wpY_lackOf post (yc, yt, yh, yl, yu) (nI s) (nI n) := by
  have key : ∀ (m a q : Nat) (x3 : Int32), a + m = n → m < q → x3.toInt = ca_lk (Nat.testBit s) A B L U a → wY_lackOf_5 post (nI s) (nI n) yc yt yh yl yu q x3 (nI a) := by
    intro m
    induction m with
    | zero =>
      intro a q x3 hm hq hx
      obtain ⟨q, rfl⟩ : ∃ q', q = q' + 1 := ⟨q - 1, by omega⟩
      have an : a = n := by omega
      subst an
      exact br_t (nI_le (by omega) (by omega)) (h x3 hx)
    | succ m ih =>
      intro a q x3 hm hq hx
      obtain ⟨q, rfl⟩ : ∃ q', q = q' + 1 := ⟨q - 1, by omega⟩
      have ha : a < n := by omega
      have ia : vp_in (nI a) 13 := vp_in_nI (by omega) (by decide)
      obtain ⟨⟨a1, a2, a3, a4⟩, a5⟩ := ya a ha
      have bd := ca_lk_b ya (Nat.testBit s) a (by omega)
      have fin : ∀ (x5 x6 : Int32), (x5 = 0 ↔ s.testBit (A a) = false) → (x6 = 0 ↔ s.testBit (B a) = false) → wY_lackOf_51 post (wY_lackOf_5 post (nI s) (nI n) yc yt yh yl yu q) (nI s) (nI n) x3 (nI a) x5 x6 yc yt yh yl yu := by
        intro x5 x6 h5 h6
        refine ca_y51 ha hn ya h5 h6 hx (by omega) (by omega) (fun z hz => ih (a + 1) q z (by omega) (by omega) ?_)
        have c : ca_lk (Nat.testBit s) A B L U (a + 1) = ca_lk (Nat.testBit s) A B L U a + ((if s.testBit (B a) = true ∧ s.testBit (A a) = false then L a else 0) - (if s.testBit (A a) = true ∧ s.testBit (B a) = false then U a else 0)) := rfl
        rw [c]
        omega
      have z0 : ∀ b : Bool, b = false → ((0 : Int32) = 0 ↔ b = false) := fun b h => ⟨fun _ => h, fun _ => rfl⟩
      have z1 : ∀ b : Bool, ¬ b = false → ((1 : Int32) = 0 ↔ b = false) := fun b h => ⟨fun z => absurd z (by decide), fun z => absurd z h⟩
      have f30 : ∀ (x5 : Int32), (x5 = 0 ↔ s.testBit (A a) = false) → wY_lackOf_30 post (wY_lackOf_5 post (nI s) (nI n) yc yt yh yl yu q) (nI s) (nI n) x3 (nI a) x5 yc yt yh yl yu := by
        intro x5 h5
        unfold wY_lackOf_30
        rw [nI_clamp (n := a) (by omega), a2]
        exact ⟨ia, ek_if (ca_bit s hs (B a) a4) (fun z => fin x5 0 h5 (z0 _ z)) (fun z => fin x5 1 h5 (z1 _ z))⟩
      refine br_f (nI_ge (by omega) (by omega)) ⟨ia, ?_⟩
      rw [nI_clamp (n := a) (by omega), a1]
      exact ek_if (ca_bit s hs (A a) a3) (fun z => f30 0 (z0 _ z)) (fun z => f30 1 (z1 _ z))
  exact ⟨n + 1, key n 0 (n + 1) 0 (by omega) (by omega) ca_z⟩
theorem ca_lk_s0 : ca_lk (Nat.testBit 0) A B L U n = 0 := by
  rw [ca_lk_set (S' := fun _ => false) (fun e _ => ⟨Nat.zero_testBit _, Nat.zero_testBit _⟩)]
  exact ca_lk_0 n
theorem ca_worst {post : Int32 → Prop} (hn : n ≤ 13) (ya : ca_Ya n A B L U yt yh yl yu) (h : ∀ (r : Int32) (w : Int), r.toInt = w → ca_Max (fun s => ca_lk (Nat.testBit s) A B L U n) w → post r) : wpY_worst post (yc, yt, yh, yl, yu) (nI n) := by
  have key : ∀ (m i q : Nat) (x2 : Int32) (w : Int), i + m = 64 → m < q → x2.toInt = w → (∀ s, s < i → ca_lk (Nat.testBit s) A B L U n ≤ w) → (∃ s, s < 64 ∧ ca_lk (Nat.testBit s) A B L U n = w) → wY_worst_4 post (nI n) yc yt yh yl yu q x2 (nI i) := by
    intro m
    induction m with
    | zero =>
      intro i q x2 w hm hq hx h1 h2
      obtain ⟨q, rfl⟩ : ∃ q', q = q' + 1 := ⟨q - 1, by omega⟩
      have i64 : i = 64 := by omega
      subst i64
      exact br_t (nI_le (a := 64) (b := 64) (by omega) (by decide)) (h x2 w hx ⟨h1, h2⟩)
    | succ m ih =>
      intro i q x2 w hm hq hx h1 h2
      obtain ⟨q, rfl⟩ : ∃ q', q = q' + 1 := ⟨q - 1, by omega⟩
      refine br_f (nI_ge (b := 64) (by omega) (by decide)) (ca_lackOf (by omega) hn ya (fun r hr => ?_))
      refine ek_if (ca_leI hr hx) (fun z => nm_r (nI_1 i) (ih (i + 1) q x2 w (by omega) (by omega) hx (fun s hs => ?_) h2)) (fun z => nm_r (nI_1 i) (ih (i + 1) q r _ (by omega) (by omega) hr (fun s hs => ?_) ⟨i, by omega, rfl⟩))
      · by_cases e : s = i
        · rw [e]; exact z
        · exact h1 s (by omega)
      · by_cases e : s = i
        · rw [e]; exact Int.le_refl _
        · have := h1 s (by omega)
          omega
  exact ⟨65, key 64 0 65 0 0 (by omega) (by omega) ca_z (fun s hs => absurd hs (by omega)) ⟨0, by omega, ca_lk_s0⟩⟩
theorem ca_worst2 {post : Int32 → Prop} (hn : n ≤ 13) (ya : ca_Ya n A B L U yt yh yl yu) (h : ∀ r : Int32, ((r = 0 ∧ ca_al (fun s => ca_lk (Nat.testBit s) A B L U n)) ∨ (¬ r = 0 ∧ ca_na (fun s => ca_lk (Nat.testBit s) A B L U n))) → post r) : wpY_worst post (yc, yt, yh, yl, yu) (nI n) := by
  refine ca_worst hn ya (fun r w hr hw => h r ?_)
  obtain ⟨h1, s, hs, h2⟩ := hw
  have h2' : ca_lk (Nat.testBit s) A B L U n = w := h2
  by_cases e : w = 0
  · left
    refine ⟨(ca_eqI hr ca_z).mpr e, fun t ht => ?_⟩
    have := h1 t ht
    rw [e] at this
    exact this
  · right
    refine ⟨fun z => e ((ca_eqI hr ca_z).mp z), s, hs, ?_⟩
    have a : ca_lk (Nat.testBit 0) A B L U n ≤ w := h1 0 (by omega)
    rw [ca_lk_s0] at a
    show 0 < ca_lk (Nat.testBit s) A B L U n
    omega
theorem ca_ySet {post : Int32 → Prop} {x1 : Int32} {w : Int} (hn : n ≤ 13) (ya : ca_Ya n A B L U yt yh yl yu) (hx : x1.toInt = w)
    (h : ∀ cs, cs < 64 → (∀ v, v < 6 → (cs.testBit v = true ↔ ∀ s, s < 64 → ca_lk (Nat.testBit s) A B L U n = w → s.testBit v = true)) → post (nI cs)) : ∃ n14 : Nat, wY_lackingSet_14 post x1 (nI n) yt yh yl yu n14 63 0 := by
  have key : ∀ (m i q cs : Nat), i + m = 64 → m < q → cs < 64 → (∀ v, v < 6 → (cs.testBit v = true ↔ ∀ s, s < i → ca_lk (Nat.testBit s) A B L U n = w → s.testBit v = true)) → wY_lackingSet_14 post x1 (nI n) yt yh yl yu q (nI cs) (nI i) := by
    intro m
    induction m with
    | zero =>
      intro i q cs hm hq hc h1
      obtain ⟨q, rfl⟩ : ∃ q', q = q' + 1 := ⟨q - 1, by omega⟩
      have i64 : i = 64 := by omega
      subst i64
      exact br_t (nI_le (a := 64) (b := 64) (by omega) (by decide)) (h cs hc h1)
    | succ m ih =>
      intro i q cs hm hq hc h1
      obtain ⟨q, rfl⟩ : ∃ q', q = q' + 1 := ⟨q - 1, by omega⟩
      refine br_f (nI_ge (b := 64) (by omega) (by decide)) (ca_lackOf (by omega) hn ya (fun r hr => ?_))
      refine ek_if (ca_eqI hr hx) (fun z => nm_r (nx_and cs i) (nm_r (nI_1 i) (ih (i + 1) q (cs &&& i) (by omega) (by omega) ?_ (fun v hv => ?_)))) (fun z => nm_r (nI_1 i) (ih (i + 1) q cs (by omega) (by omega) hc (fun v hv => ?_)))
      · exact Nat.lt_of_le_of_lt Nat.and_le_left hc
      · rw [Nat.testBit_and, Bool.and_eq_true, h1 v hv]
        constructor
        · intro g s hs he
          by_cases e : s = i
          · rw [e]; exact g.2
          · exact g.1 s (by omega) he
        · intro g
          exact ⟨fun s hs he => g s (by omega) he, g i (by omega) z⟩
      · rw [h1 v hv]
        constructor
        · intro g s hs he
          by_cases e : s = i
          · subst e; exact absurd he z
          · exact g s (by omega) he
        · intro g s hs he
          exact g s (by omega) he
  refine ⟨65, key 64 0 65 63 (by omega) (by omega) (by omega) (fun v hv => ?_)⟩
  constructor
  · intro _ s hs
    omega
  · intro _
    have t63 : ∀ v, v < 6 → (63 : Nat).testBit v = true := by decide
    exact t63 v hv
theorem ca_YaF {k : Nat} {p1 : Int32} {x : Int} (ya : ca_Ya n A B L U yt yh yl yu) (hx : p1.toInt = x) (x0 : 0 ≤ x) (x1 : x ≤ 240) : ca_Ya n A B (ca_fx L k x) (ca_fx U k x) yt yh (upd yl k p1) (upd yu k p1) := by
  intro a ha
  have b := ya a ha
  by_cases e : a = k
  · subst e
    rw [pk_us, pk_us, ca_fx_s, ca_fx_s]
    exact ⟨b.1, hx, hx, x0, x1, x0, x1⟩
  · rw [pk_un e, pk_un e, ca_fx_n e, ca_fx_n e]
    exact b
theorem ca_allows {post : Int32 → SY → Prop} {k : Nat} {p1 : Int32} {x : Int} (hn : n ≤ 12) (hk : k < n) (ya : ca_Ya n A B L U yt yh yl yu) (hx : p1.toInt = x) (x0 : 0 ≤ x) (x1 : x ≤ 240)
    (h1 : ca_al (fun s => ca_lk (Nat.testBit s) A B (ca_fx L k x) (ca_fx U k x) n) → post 1 (nI n, yt, yh, yl, yu))
    (h0 : ca_na (fun s => ca_lk (Nat.testBit s) A B (ca_fx L k x) (ca_fx U k x) n) → post 0 (nI n, yt, yh, yl, yu)) : wpY_allows post (nI n, yt, yh, yl, yu) (nI k) p1 := by
  have ik : vp_in (nI k) 13 := vp_in_nI (by omega) (by decide)
  unfold wpY_allows
  dsimp only
  unfold wY_allows_45
  rw [nI_clamp (n := k) (by omega)]
  refine ⟨ik, nm_e ⟨ik, nm_e ⟨ik, nm_e ⟨ik, nm_e (ca_worst2 (by omega) (ca_YaF ya hx x0 x1) (fun r hr => ?_))⟩⟩⟩⟩
  rcases hr with ⟨r0, a⟩ | ⟨r0, a⟩
  · exact br_t r0 ⟨ik, nm_r (ca_updK yl k p1) ⟨ik, nm_r (ca_updK yu k p1) ⟨rfl, h1 a⟩⟩⟩
  · exact br_f r0 ⟨ik, nm_r (ca_updK yl k p1) ⟨ik, nm_r (ca_updK yu k p1) ⟨rfl, h0 a⟩⟩⟩
theorem ca_yLeast {post : Int32 → SY → Prop} {k : Nat} {v : Int} (hn : n ≤ 12) (hk : k < n) (ya : ca_Ya n A B L U yt yh yl yu) (v1 : v ≤ U k)
    (al : ca_al (fun s => ca_lk (Nat.testBit s) A B (ca_fx L k v) (ca_fx U k v) n))
    (na : ∀ x, L k ≤ x → x < v → ca_na (fun s => ca_lk (Nat.testBit s) A B (ca_fx L k x) (ca_fx U k x) n))
    (h : ∀ r : Int32, r.toInt = v → post r (nI n, yt, yh, yl, yu)) :
    ∀ (q : Nat) (x2 : Int32) (x : Int), x2.toInt = x → L k ≤ x → x ≤ v → v - x < q → wY_least_18 post (nI k) q x2 (nI n) yt yh yl yu := by
  have ik : vp_in (nI k) 13 := vp_in_nI (by omega) (by decide)
  obtain ⟨_, b1, b2, b3, b4, b5, b6⟩ := ya k hk
  intro q
  induction q with
  | zero => intro x2 x _ _ _ _; omega
  | succ q ih =>
    intro x2 x hx x0 x1 hq
    refine ⟨ik, ?_⟩
    rw [nI_clamp (n := k) (by omega)]
    refine ek_if (ca_ltI b2 hx) (fun z => absurd z (by omega)) (fun z => ca_allows hn hk ya hx (by omega) (by omega) (fun a => ?_) (fun a => ?_))
    · refine br_f (by decide) (h x2 ?_)
      by_cases e : x = v
      · rw [hx, e]
      · obtain ⟨s, hs, hp⟩ := na x x0 (by omega)
        have := a s hs
        omega
    · have e : x ≠ v := by
        intro e
        subst e
        obtain ⟨s, hs, hp⟩ := a
        have := al s hs
        omega
      exact br_t rfl (nm_e (ih _ (x + 1) (ca_addI hx (by decide : (1 : Int32).toInt = 1) (by omega) (by omega)) (by omega) (by omega) (by omega)))
theorem ca_yLeastN {post : Int32 → SY → Prop} {k : Nat} (hn : n ≤ 12) (hk : k < n) (ya : ca_Ya n A B L U yt yh yl yu)
    (na : ∀ x, L k ≤ x → x ≤ U k → ca_na (fun s => ca_lk (Nat.testBit s) A B (ca_fx L k x) (ca_fx U k x) n))
    (h : post (-5) (nI n, yt, yh, yl, yu)) :
    ∀ (q : Nat) (x2 : Int32) (x : Int), x2.toInt = x → L k ≤ x → x ≤ U k + 1 → U k + 1 - x < q → wY_least_18 post (nI k) q x2 (nI n) yt yh yl yu := by
  have ik : vp_in (nI k) 13 := vp_in_nI (by omega) (by decide)
  obtain ⟨_, b1, b2, b3, b4, b5, b6⟩ := ya k hk
  intro q
  induction q with
  | zero => intro x2 x _ _ _ _; omega
  | succ q ih =>
    intro x2 x hx x0 x1 hq
    refine ⟨ik, ?_⟩
    rw [nI_clamp (n := k) (by omega)]
    refine ek_if (ca_ltI b2 hx) (fun z => h) (fun z => ca_allows hn hk ya hx (by omega) (by omega) (fun a => ?_) (fun a => ?_))
    · obtain ⟨s, hs, hp⟩ := na x x0 (by omega)
      have := a s hs
      omega
    · exact br_t rfl (nm_e (ih _ (x + 1) (ca_addI hx (by decide : (1 : Int32).toInt = 1) (by omega) (by omega)) (by omega) (by omega) (by omega)))
theorem ca_yMost {post : Int32 → SY → Prop} {k : Nat} {v : Int} (hn : n ≤ 12) (hk : k < n) (ya : ca_Ya n A B L U yt yh yl yu) (v1 : L k ≤ v)
    (al : ca_al (fun s => ca_lk (Nat.testBit s) A B (ca_fx L k v) (ca_fx U k v) n))
    (na : ∀ x, x ≤ U k → v < x → ca_na (fun s => ca_lk (Nat.testBit s) A B (ca_fx L k x) (ca_fx U k x) n))
    (h : ∀ r : Int32, r.toInt = v → post r (nI n, yt, yh, yl, yu)) :
    ∀ (q : Nat) (x2 : Int32) (x : Int), x2.toInt = x → x ≤ U k → v ≤ x → x - v < q → wY_most_18 post (nI k) q x2 (nI n) yt yh yl yu := by
  have ik : vp_in (nI k) 13 := vp_in_nI (by omega) (by decide)
  obtain ⟨_, b1, b2, b3, b4, b5, b6⟩ := ya k hk
  intro q
  induction q with
  | zero => intro x2 x _ _ _ _; omega
  | succ q ih =>
    intro x2 x hx x0 x1 hq
    refine ⟨ik, ?_⟩
    rw [nI_clamp (n := k) (by omega)]
    refine ek_if (ca_ltI hx b1) (fun z => absurd z (by omega)) (fun z => ca_allows hn hk ya hx (by omega) (by omega) (fun a => ?_) (fun a => ?_))
    · refine br_f (by decide) (h x2 ?_)
      by_cases e : x = v
      · rw [hx, e]
      · obtain ⟨s, hs, hp⟩ := na x x0 (by omega)
        have := a s hs
        omega
    · have e : x ≠ v := by
        intro e
        subst e
        obtain ⟨s, hs, hp⟩ := a
        have := al s hs
        omega
      exact br_t rfl (nm_e (ih _ (x + -1) (ca_addI hx (by decide : (-1 : Int32).toInt = -1) (by omega) (by omega)) (by omega) (by omega) (by omega)))
theorem ca_yMostN {post : Int32 → SY → Prop} {k : Nat} (hn : n ≤ 12) (hk : k < n) (ya : ca_Ya n A B L U yt yh yl yu)
    (na : ∀ x, L k ≤ x → x ≤ U k → ca_na (fun s => ca_lk (Nat.testBit s) A B (ca_fx L k x) (ca_fx U k x) n))
    (h : post (-5) (nI n, yt, yh, yl, yu)) :
    ∀ (q : Nat) (x2 : Int32) (x : Int), x2.toInt = x → x ≤ U k → L k ≤ x + 1 → x + 1 - L k < q → wY_most_18 post (nI k) q x2 (nI n) yt yh yl yu := by
  have ik : vp_in (nI k) 13 := vp_in_nI (by omega) (by decide)
  obtain ⟨_, b1, b2, b3, b4, b5, b6⟩ := ya k hk
  intro q
  induction q with
  | zero => intro x2 x _ _ _ _; omega
  | succ q ih =>
    intro x2 x hx x0 x1 hq
    refine ⟨ik, ?_⟩
    rw [nI_clamp (n := k) (by omega)]
    refine ek_if (ca_ltI hx b1) (fun z => h) (fun z => ca_allows hn hk ya hx (by omega) (by omega) (fun a => ?_) (fun a => ?_))
    · obtain ⟨s, hs, hp⟩ := na x (by omega) (by omega)
      have := a s hs
      omega
    · exact br_t rfl (nm_e (ih _ (x + -1) (ca_addI hx (by decide : (-1 : Int32).toInt = -1) (by omega) (by omega)) (by omega) (by omega) (by omega)))
theorem ca_YaP {t s : Nat} {x3 : Int32} {x : Int} (ya : ca_Ya n A B L U yt yh yl yu) (ht : t < 6) (hs : s < 6) (hx : x3.toInt = x) (x0 : 0 ≤ x) (x1 : x ≤ 240) : ca_Ya (n + 1) (ca_up A n t) (ca_up B n s) (ca_fx L n x) (ca_fx U n x) (upd yt n (nI t)) (upd yh n (nI s)) (upd yl n x3) (upd yu n x3) := by
  intro a ha
  by_cases e : a = n
  · subst e
    rw [pk_us, pk_us, pk_us, pk_us, ca_fx_s, ca_fx_s, show ca_up A a t a = t from if_pos rfl, show ca_up B a s a = s from if_pos rfl]
    exact ⟨⟨rfl, rfl, ht, hs⟩, hx, hx, x0, x1, x0, x1⟩
  · rw [pk_un e, pk_un e, pk_un e, pk_un e, ca_fx_n e, ca_fx_n e, show ca_up A n t a = A a from if_neg e, show ca_up B n s a = B a from if_neg e]
    exact ya a (by omega)
def ca_Sa (n : Nat) (yt yh yl yu zt zh zl zu : Nat → Int32) : Prop := ∀ a, a < n → zt a = yt a ∧ zh a = yh a ∧ zl a = yl a ∧ zu a = yu a
theorem ca_SaU {zt zh zl zu : Nat → Int32} {p1 p2 p3 p4 : Int32} (h : ca_Sa n yt yh yl yu zt zh zl zu) : ca_Sa n yt yh yl yu (upd zt n p1) (upd zh n p2) (upd zl n p3) (upd zu n p4) := by
  intro a ha
  rw [pk_un (by omega), pk_un (by omega), pk_un (by omega), pk_un (by omega)]
  exact h a ha
theorem ca_YaS {zt zh zl zu : Nat → Int32} (h : ca_Sa n yt yh yl yu zt zh zl zu) (ya : ca_Ya n A B L U yt yh yl yu) : ca_Ya n A B L U zt zh zl zu := by
  intro a ha
  obtain ⟨h1, h2, h3, h4⟩ := h a ha
  rw [h1, h2, h3, h4]
  exact ya a ha
theorem ca_place {post : SY → Prop} {p0 p1 p2 p3 : Int32} (hn : n ≤ 12) (h : post (nI n, upd yt n p0, upd yh n p1, upd yl n p2, upd yu n p3)) : wpY_place post (nI n, yt, yh, yl, yu) p0 p1 p2 p3 := by
  have ik : vp_in (nI n) 13 := vp_in_nI (by omega) (by decide)
  unfold wpY_place
  dsimp only
  rw [nI_clamp (n := n) (by omega)]
  exact ⟨ik, nm_e ⟨ik, nm_e ⟨ik, nm_e ⟨ik, nm_e h⟩⟩⟩⟩
theorem ca_yThr {post : Int32 → SY → Prop} {t s : Nat} {v : Int} (hn : n ≤ 12) (ht : t < 6) (hs : s < 6) (ya : ca_Ya n A B L U yt yh yl yu) (v0 : 0 ≤ v)
    (al : ca_al (fun z => ca_lk (Nat.testBit z) (ca_up A n t) (ca_up B n s) (ca_fx L n v) (ca_fx U n v) (n + 1)))
    (na : ∀ x, x ≤ 240 → v < x → ca_na (fun z => ca_lk (Nat.testBit z) (ca_up A n t) (ca_up B n s) (ca_fx L n x) (ca_fx U n x) (n + 1)))
    (h : ∀ (r : Int32) (zt zh zl zu : Nat → Int32), r.toInt = v → ca_Sa n yt yh yl yu zt zh zl zu → post r (nI n, zt, zh, zl, zu)) :
    ∀ (q : Nat) (x3 : Int32) (x : Int) (zt zh zl zu : Nat → Int32), x3.toInt = x → x ≤ 240 → v ≤ x → x - v < q → ca_Sa n yt yh yl yu zt zh zl zu → wY_through_27 post (nI s) (nI t) q x3 (nI n) zt zh zl zu := by
  intro q
  induction q with
  | zero => intro x3 x zt zh zl zu _ _ _ _; omega
  | succ q ih =>
    intro x3 x zt zh zl zu hx x0 x1 hq sa
    refine br_f (fun z => by rw [ca_ltI hx ca_z] at z; omega) (ca_place hn ?_)
    have e1 : nI n + 1 = nI (n + 1) := nI_1 n
    dsimp only
    rw [e1]
    refine ca_worst2 (by omega) (ca_YaP (ca_YaS sa ya) ht hs hx (by omega) (by omega)) (fun r hr => ?_)
    rcases hr with ⟨r0, a⟩ | ⟨r0, a⟩
    · refine br_t r0 (h x3 _ _ _ _ ?_ (ca_SaU sa))
      by_cases e : x = v
      · rw [hx, e]
      · obtain ⟨z, hz, hp⟩ := na x x0 (by omega)
        have := a z hz
        omega
    · have e : x ≠ v := by
        intro e
        subst e
        obtain ⟨z, hz, hp⟩ := a
        have := al z hz
        omega
      exact br_f r0 (nm_e (ih _ (x + -1) _ _ _ _ (ca_addI hx (by decide : (-1 : Int32).toInt = -1) (by omega) (by omega)) (by omega) (by omega) (by omega) (ca_SaU sa)))
theorem ca_yThrN {post : Int32 → SY → Prop} {t s : Nat} (hn : n ≤ 12) (ht : t < 6) (hs : s < 6) (ya : ca_Ya n A B L U yt yh yl yu)
    (na : ∀ x, 0 ≤ x → x ≤ 240 → ca_na (fun z => ca_lk (Nat.testBit z) (ca_up A n t) (ca_up B n s) (ca_fx L n x) (ca_fx U n x) (n + 1)))
    (h : ∀ (zt zh zl zu : Nat → Int32), ca_Sa n yt yh yl yu zt zh zl zu → post (-5) (nI n, zt, zh, zl, zu)) :
    ∀ (q : Nat) (x3 : Int32) (x : Int) (zt zh zl zu : Nat → Int32), x3.toInt = x → x ≤ 240 → -1 ≤ x → x + 1 < q → ca_Sa n yt yh yl yu zt zh zl zu → wY_through_27 post (nI s) (nI t) q x3 (nI n) zt zh zl zu := by
  intro q
  induction q with
  | zero => intro x3 x zt zh zl zu _ _ _ _; omega
  | succ q ih =>
    intro x3 x zt zh zl zu hx x0 x1 hq sa
    refine ek_if (ca_ltI hx ca_z) (fun z => h _ _ _ _ sa) (fun z => ca_place hn ?_)
    have e1 : nI n + 1 = nI (n + 1) := nI_1 n
    dsimp only
    rw [e1]
    refine ca_worst2 (by omega) (ca_YaP (ca_YaS sa ya) ht hs hx (by omega) (by omega)) (fun r hr => ?_)
    rcases hr with ⟨r0, a⟩ | ⟨r0, a⟩
    · obtain ⟨z, hz, hp⟩ := na x (by omega) x0
      have := a z hz
      omega
    · exact br_f r0 (nm_e (ih _ (x + -1) _ _ _ _ (ca_addI hx (by decide : (-1 : Int32).toInt = -1) (by omega) (by omega)) (by omega) (by omega) (by omega) (ca_SaU sa)))
end
end
section
/-! the relation, and what joins the two sides -/
def ca_Rl (n : Nat) (fr tw lo hi yt yh yl yu : Nat → Int32) : Prop := n ≤ 12 ∧ ∀ a, a < n → (fr a = yt a ∧ tw a = yh a ∧ lo a = yl a ∧ hi a = yu a) ∧ ((0 ≤ (fr a).toInt ∧ (fr a).toInt < 6 ∧ 0 ≤ (tw a).toInt ∧ (tw a).toInt < 6) ∧ 0 ≤ (lo a).toInt ∧ (lo a).toInt ≤ (hi a).toInt ∧ (hi a).toInt ≤ 20)
/-- the two sides count the same arcs, and hold the same of each; what the component keeps besides is built anew before each use -/
def i_Rel (k : Nat) (u : SX) (v : SY) : Prop := match u, v with
  | (c, nd, sn, fr, tw, lo, hi, tl, hd, rm, fl, bb, qq), (yc, yt, yh, yl, yu) => ∃ n : Nat, c = nI n ∧ yc = nI n ∧ ca_Rl n fr tw lo hi yt yh yl yu
def ca_A (f : Nat → Int32) : Nat → Nat := fun a => (f a).toInt.toNat
def ca_I (f : Nat → Int32) : Nat → Int := fun a => (f a).toInt
section
variable {n : Nat} {c nd sn yc : Int32} {fr tw lo hi tl hd rm fl bb qq yt yh yl yu : Nat → Int32}
theorem ca_RlAr (h : ca_Rl n fr tw lo hi yt yh yl yu) : ca_Ar n (ca_A fr) (ca_A tw) (ca_I lo) (ca_I hi) fr tw lo hi := by
  intro a ha
  obtain ⟨_, ⟨b1, b2, b3, b4⟩, b5, b6, b7⟩ := h.2 a ha
  refine ⟨⟨ca_nIn b1, ca_nIn b3, ?_, ?_⟩, rfl, rfl, b5, b6, b7⟩
  · unfold ca_A
    omega
  · unfold ca_A
    omega
theorem ca_RlYa (h : ca_Rl n fr tw lo hi yt yh yl yu) : ca_Ya n (ca_A fr) (ca_A tw) (ca_I lo) (ca_I hi) yt yh yl yu := by
  intro a ha
  obtain ⟨⟨c1, c2, c3, c4⟩, b0⟩ := h.2 a ha
  obtain ⟨a1, a2, a3, a4, a5, a6⟩ := ca_RlAr h a ha
  rw [← c1, ← c2, ← c3, ← c4]
  exact ⟨a1, a2, a3, a4, by omega, by omega, by omega⟩
theorem ca_RlSa {zt zh zl zu : Nat → Int32} (h : ca_Rl n fr tw lo hi yt yh yl yu) (sa : ca_Sa n yt yh yl yu zt zh zl zu) : ca_Rl n fr tw lo hi zt zh zl zu := by
  refine ⟨h.1, fun a ha => ?_⟩
  obtain ⟨s1, s2, s3, s4⟩ := sa a ha
  rw [s1, s2, s3, s4]
  exact h.2 a ha
theorem ca_mx {f g : Nat → Int} {w : Int} (h : ca_Max f w) (e : ∀ s, f s = g s) : ca_Max g w := by
  obtain ⟨h1, s, hs, h2⟩ := h
  exact ⟨fun t ht => (e t) ▸ h1 t ht, s, hs, (e s) ▸ h2⟩
theorem ca_vx (p : Int32) : (∃ j, j < 6 ∧ p = nI j ∧ (∀ post : Int32 → Prop, post 0 → wpX_badVertex post p) ∧ (∀ (post : Int32 → Prop) (u : SY), post 1 → wpY_isVertex post u p)) ∨ ((∀ post : Int32 → Prop, post 1 → wpX_badVertex post p) ∧ (∀ (post : Int32 → Prop) (u : SY), post 0 → wpY_isVertex post u p)) := by
  by_cases h0 : p < 0
  · exact Or.inr ⟨fun _ h => br_t h0 h, fun _ _ h => br_t h0 h⟩
  · obtain ⟨j, hj, rfl⟩ := nI_of h0
    by_cases h6 : j < 6
    · exact Or.inl ⟨j, h6, rfl, fun _ h => br_f h0 (br_t (nI_lt (b := 6) h6 (by decide)) h), fun _ _ h => br_f h0 (br_f (nI_nlt (b := j) (a := 5) (by omega) (by decide)) h)⟩
    · exact Or.inr ⟨fun _ h => br_f h0 (br_f (nI_nlt (b := 6) (by omega) hj) h), fun _ _ h => br_f h0 (br_t (nI_lt (a := 5) (by omega) hj) h)⟩
theorem ca_ax (hn : n ≤ 12) (p : Int32) : (∃ j, j < n ∧ p = nI j ∧ (∀ post : Int32 → Prop, post 0 → wpX_noArc post (nI n, nd, sn, fr, tw, lo, hi, tl, hd, rm, fl, bb, qq) p) ∧ (∀ post : Int32 → Prop, post 1 → wpY_isArc post (nI n, yt, yh, yl, yu) p)) ∨ ((∀ post : Int32 → Prop, post 1 → wpX_noArc post (nI n, nd, sn, fr, tw, lo, hi, tl, hd, rm, fl, bb, qq) p) ∧ (∀ post : Int32 → Prop, post 0 → wpY_isArc post (nI n, yt, yh, yl, yu) p)) := by
  by_cases h0 : p < 0
  · exact Or.inr ⟨fun _ h => br_t h0 h, fun _ h => br_t h0 h⟩
  · obtain ⟨j, hj, rfl⟩ := nI_of h0
    by_cases h6 : j < n
    · exact Or.inl ⟨j, h6, rfl, fun _ h => br_f h0 (br_t (nI_lt h6 (by omega)) h), fun _ h => br_f h0 (br_f (nI_ge h6 (by omega)) h)⟩
    · exact Or.inr ⟨fun _ h => br_f h0 (br_f (nI_nlt (by omega) hj) h), fun _ h => br_f h0 (br_t (nI_le (by omega) hj) h)⟩
theorem ca_or : ∀ s, s < 64 → ∀ v, v < 6 → (nI s ||| ((1 : Int32) <<< (nI v &&& 31))) = nI (s ||| 2 ^ v) ∧ (s ||| 2 ^ v) < 64 := by decide +kernel
theorem ca_xSet {post : Int32 → SX → Prop} (h : ∀ cs, cs < 64 → (∀ v, v < 6 → (cs.testBit v = true ↔ 0 ≤ bb v)) → post (nI cs) (c, nd, sn, fr, tw, lo, hi, tl, hd, rm, fl, bb, qq)) : ∃ n22 : Nat, wX_lackingSet_22 post c nd sn fr tw lo hi tl hd rm fl bb qq n22 0 0 := by
  have key : ∀ (m i q cs : Nat), i + m = 6 → m < q → cs < 64 → (∀ v, v < 6 → (cs.testBit v = true ↔ v < i ∧ 0 ≤ bb v)) → wX_lackingSet_22 post c nd sn fr tw lo hi tl hd rm fl bb qq q (nI cs) (nI i) := by
    intro m
    induction m with
    | zero =>
      intro i q cs hm hq hc h1
      obtain ⟨q, rfl⟩ : ∃ q', q = q' + 1 := ⟨q - 1, by omega⟩
      have i6 : i = 6 := by omega
      subst i6
      refine br_t (nI_le (a := 6) (b := 6) (by omega) (by decide)) (h cs hc (fun v hv => ?_))
      rw [h1 v hv]
      exact ⟨fun a => a.2, fun a => ⟨hv, a⟩⟩
    | succ m ih =>
      intro i q cs hm hq hc h1
      obtain ⟨q, rfl⟩ : ∃ q', q = q' + 1 := ⟨q - 1, by omega⟩
      refine br_f (nI_ge (b := 6) (by omega) (by decide)) ⟨vp_in_nI (by omega) (by decide), ?_⟩
      rw [nI_clamp (n := i) (by omega)]
      have oo := ca_or cs hc i (by omega)
      refine br_c (fun z => nm_r (nI_1 i) (ih (i + 1) q cs (by omega) (by omega) hc (fun v hv => ?_))) (fun z => nm_r oo.1 (nm_r (nI_1 i) (ih (i + 1) q _ (by omega) (by omega) oo.2 (fun v hv => ?_))))
      · rw [h1 v hv]
        constructor
        · exact fun a => ⟨by omega, a.2⟩
        · intro a
          refine ⟨?_, a.2⟩
          by_cases e : v = i
          · subst e
            exact absurd z (ca_ge0.mpr a.2)
          · omega
      · rw [Nat.testBit_or, Nat.testBit_two_pow, Bool.or_eq_true, h1 v hv, decide_eq_true_eq]
        constructor
        · intro a
          rcases a with a | a
          · exact ⟨by omega, a.2⟩
          · subst a
            exact ⟨by omega, ca_ge0.mp z⟩
        · intro a
          by_cases e : v = i
          · exact Or.inr e.symm
          · exact Or.inl ⟨by omega, a.2⟩
  refine ⟨7, key 6 0 7 0 (by omega) (by omega) (by omega) (fun v hv => ?_)⟩
  rw [Nat.zero_testBit]
  exact ⟨fun a => absurd a (by decide), fun a => absurd a.1 (by omega)⟩
end
section
variable {n : Nat} {A B : Nat → Nat} {L U G G' : Nat → Int} {ne m m' : Int}
theorem ca_L_a {e : Nat} (he : e < n) : ca_L n L e = L e := if_pos he
theorem ca_U_a {e : Nat} {u : Int} (he : e < n) : ca_U n U u e = U e := if_pos he
theorem ca_zNone (hn : n ≤ 12) (ab : ca_Ab n A B L U) (sv : ca_Sv (ca_T n A 0) (ca_H n B 0) (ca_R n A B L U 0) ne m G) (hm : m < ne) {j : Nat} (hj : j < n) (x : Int) (h1 : L j ≤ x) (h2 : x ≤ U j) : ca_na (fun s => ca_lk (Nat.testBit s) A B (ca_fx L j x) (ca_fx U j x) n) := by
  obtain ⟨s, hs, h⟩ := ca_aNone (k := j) (x := x) (ca_pPn hn ab (by omega) (by omega)) sv hm (by rw [ca_L_a hj]; exact h1) (by rw [ca_U_a hj]; exact h2)
  rw [ca_qFx hn hj] at h
  exact ⟨s, hs, h⟩
theorem ca_zDown (hn : n ≤ 12) (ab : ca_Ab n A B L U) (sv : ca_Sv (ca_T n A 0) (ca_H n B 0) (ca_R n A B L U 0) ne m G) (hm : m = ne) {j : Nat} (hj : j < n) (ok' : ca_Ok (ca_R n A B L U 0) G') (mv : ca_Mv (ca_T n A 0) (ca_H n B 0) (ca_R n A B L U 0) G j (ca_T n A 0 j) (ca_H n B 0 j) (G j) m' G') :
    (L j ≤ L j + G j - m' ∧ L j + G j - m' ≤ U j) ∧ ca_al (fun s => ca_lk (Nat.testBit s) A B (ca_fx L j (L j + G j - m')) (ca_fx U j (L j + G j - m')) n) ∧ (∀ x, L j ≤ x → x < L j + G j - m' → ca_na (fun s => ca_lk (Nat.testBit s) A B (ca_fx L j x) (ca_fx U j x) n)) := by
  obtain ⟨h1, h2, h3⟩ := ca_aDown (ca_pPn hn ab (by omega) (by omega)) sv hm (by omega) ok' mv
  rw [ca_L_a hj] at h1 h2 h3
  rw [ca_U_a hj] at h1
  refine ⟨h1, fun s hs => ?_, fun x g1 g2 => ?_⟩
  · have a := h2 s hs
    rw [ca_qFx hn hj] at a
    exact a
  · obtain ⟨s, hs, a⟩ := h3 x g1 g2
    rw [ca_qFx hn hj] at a
    exact ⟨s, hs, a⟩
theorem ca_zUp (hn : n ≤ 12) (ab : ca_Ab n A B L U) (sv : ca_Sv (ca_T n A 0) (ca_H n B 0) (ca_R n A B L U 0) ne m G) (hm : m = ne) {j : Nat} (hj : j < n) (ok' : ca_Ok (ca_R n A B L U 0) G') (mv : ca_Mv (ca_T n A 0) (ca_H n B 0) (ca_R n A B L U 0) G j (ca_H n B 0 j) (ca_T n A 0 j) (ca_R n A B L U 0 j - G j) m' G') :
    (L j ≤ L j + G j + m' ∧ L j + G j + m' ≤ U j) ∧ ca_al (fun s => ca_lk (Nat.testBit s) A B (ca_fx L j (L j + G j + m')) (ca_fx U j (L j + G j + m')) n) ∧ (∀ x, x ≤ U j → L j + G j + m' < x → ca_na (fun s => ca_lk (Nat.testBit s) A B (ca_fx L j x) (ca_fx U j x) n)) := by
  obtain ⟨h1, h2, h3⟩ := ca_aUp (ca_pPn hn ab (by omega) (by omega)) sv hm (by omega) ok' mv
  rw [ca_L_a hj] at h1 h2 h3
  rw [ca_U_a hj] at h1 h3
  refine ⟨h1, fun s hs => ?_, fun x g1 g2 => ?_⟩
  · have a := h2 s hs
    rw [ca_qFx hn hj] at a
    exact a
  · obtain ⟨s, hs, a⟩ := h3 x g1 g2
    rw [ca_qFx hn hj] at a
    exact ⟨s, hs, a⟩
theorem ca_L_12 (hn : n ≤ 12) : ca_L n L 12 = 0 := if_neg (by omega)
theorem ca_U_12 {u : Int} (hn : n ≤ 12) : ca_U n U u 12 = u := by
  unfold ca_U
  rw [if_neg (by omega), if_pos rfl]
theorem ca_q12' {S : Nat → Bool} {t s : Nat} {u x : Int} (hn : n ≤ 12) : ca_lk S (ca_T n A t) (ca_H n B s) (ca_fx (ca_L n L) 12 x) (ca_fx (ca_U n U u) 12 x) 13 = ca_lk S (ca_up A n t) (ca_up B n s) (ca_fx L n x) (ca_fx U n x) (n + 1) :=
  ca_q12 hn (fun e he => ⟨if_neg (by omega), if_neg (by omega), ca_fx_n (by omega), ca_fx_n (by omega)⟩) (if_pos rfl) (if_pos rfl) ca_fx_s ca_fx_s
theorem ca_tNone {t s : Nat} (hn : n ≤ 12) (ab : ca_Ab n A B L U) (ht : t < 6) (hs : s < 6) (sv : ca_Sv (ca_T n A t) (ca_H n B s) (ca_R n A B L U 240) ne m G) (hm : m < ne) (x : Int) (h1 : 0 ≤ x) (h2 : x ≤ 240) : ca_na (fun z => ca_lk (Nat.testBit z) (ca_up A n t) (ca_up B n s) (ca_fx L n x) (ca_fx U n x) (n + 1)) := by
  obtain ⟨z, hz, h⟩ := ca_aNone (k := 12) (x := x) (ca_pPn hn ab ht hs) sv hm (by rw [ca_L_12 hn]; exact h1) (by rw [ca_U_12 hn]; exact h2)
  rw [ca_q12' hn] at h
  exact ⟨z, hz, h⟩
theorem ca_tUp {t s : Nat} (hn : n ≤ 12) (ab : ca_Ab n A B L U) (ht : t < 6) (hs : s < 6) (sv : ca_Sv (ca_T n A t) (ca_H n B s) (ca_R n A B L U 240) ne m G) (hm : m = ne) (ok' : ca_Ok (ca_R n A B L U 240) G') (mv : ca_Mv (ca_T n A t) (ca_H n B s) (ca_R n A B L U 240) G 12 s t (240 - G 12) m' G') :
    (0 ≤ G 12 + m' ∧ G 12 + m' ≤ 240) ∧ ca_al (fun z => ca_lk (Nat.testBit z) (ca_up A n t) (ca_up B n s) (ca_fx L n (G 12 + m')) (ca_fx U n (G 12 + m')) (n + 1)) ∧ (∀ x, x ≤ 240 → G 12 + m' < x → ca_na (fun z => ca_lk (Nat.testBit z) (ca_up A n t) (ca_up B n s) (ca_fx L n x) (ca_fx U n x) (n + 1))) := by
  obtain ⟨h1, h2, h3⟩ := ca_aUp (k := 12) (m' := m') (G' := G') (ca_pPn hn ab ht hs) sv hm (by omega) ok' (by rw [ca_T_12 hn, ca_H_12 hn, ca_R_12 hn]; exact mv)
  rw [ca_L_12 hn, Int.zero_add] at h1 h2 h3
  rw [ca_U_12 hn] at h1 h3
  refine ⟨h1, fun z hz => ?_, fun x g1 g2 => ?_⟩
  · have a := h2 z hz
    rw [ca_q12' hn] at a
    exact a
  · obtain ⟨z, hz, a⟩ := h3 x g1 g2
    rw [ca_q12' hn] at a
    exact ⟨z, hz, a⟩
end
end
section
/-! the relation's own lemmas; the calls that change the arcs -/
section
variable {k n : Nat} {nd sn : Int32} {fr tw lo hi tl hd rm fl bb qq yt yh yl yu : Nat → Int32}
theorem ca_mk (h : ca_Rl n fr tw lo hi yt yh yl yu) : i_Rel k (nI n, nd, sn, fr, tw, lo, hi, tl, hd, rm, fl, bb, qq) (nI n, yt, yh, yl, yu) := Exists.intro n ⟨rfl, rfl, h⟩
theorem ca_el {P : SX → SY → Prop} {u : SX} {v : SY} (h : ∀ (n : Nat) (nd sn : Int32) (fr tw lo hi tl hd rm fl bb qq yt yh yl yu : Nat → Int32), ca_Rl n fr tw lo hi yt yh yl yu → P (nI n, nd, sn, fr, tw, lo, hi, tl, hd, rm, fl, bb, qq) (nI n, yt, yh, yl, yu)) (I : i_Rel k u v) : P u v := by
  obtain ⟨c, nd, sn, fr, tw, lo, hi, tl, hd, rm, fl, bb, qq⟩ := u
  obtain ⟨yc, yt, yh, yl, yu⟩ := v
  obtain ⟨n, e1, e2, r⟩ := I
  subst e1 e2
  exact h n nd sn fr tw lo hi tl hd rm fl bb qq yt yh yl yu r
theorem ca_RlN {p q : Nat} {z : Int32} (h : ca_Rl n fr tw lo hi yt yh yl yu) (hn : n < 12) (hp : p < 6) (hq : q < 6) (z0 : 0 ≤ z.toInt) (z1 : z.toInt ≤ 20) : ca_Rl (n + 1) (upd fr n (nI p)) (upd tw n (nI q)) (upd lo n 0) (upd hi n z) (upd yt n (nI p)) (upd yh n (nI q)) (upd yl n 0) (upd yu n z) := by
  refine ⟨by omega, fun a ha => ?_⟩
  by_cases e : a = n
  · subst e
    rw [pk_us, pk_us, pk_us, pk_us, pk_us, pk_us, pk_us, pk_us, nI_toInt (n := p) (by omega), nI_toInt (n := q) (by omega), ca_z]
    exact ⟨⟨rfl, rfl, rfl, rfl⟩, ⟨by omega, by omega, by omega, by omega⟩, by omega, z0, z1⟩
  · rw [pk_un e, pk_un e, pk_un e, pk_un e, pk_un e, pk_un e, pk_un e, pk_un e]
    exact h.2 a (by omega)
theorem ca_RlB {j : Nat} {y z : Int32} (h : ca_Rl n fr tw lo hi yt yh yl yu) (y0 : 0 ≤ y.toInt) (yz : y.toInt ≤ z.toInt) (z1 : z.toInt ≤ 20) : ca_Rl n fr tw (upd lo j y) (upd hi j z) yt yh (upd yl j y) (upd yu j z) := by
  refine ⟨h.1, fun a ha => ?_⟩
  have b := h.2 a ha
  by_cases e : a = j
  · subst e
    rw [pk_us, pk_us, pk_us, pk_us]
    exact ⟨⟨b.1.1, b.1.2.1, rfl, rfl⟩, b.2.1, y0, yz, z1⟩
  · rw [pk_un e, pk_un e, pk_un e, pk_un e]
    exact b
theorem ca_RlR {j : Nat} (hj : j < n) (h : ca_Rl n fr tw lo hi yt yh yl yu) : ca_Rl n (upd fr j (tw j)) (upd tw j (fr j)) lo hi (upd yt j (yh j)) (upd yh j (yt j)) yl yu := by
  refine ⟨h.1, fun a ha => ?_⟩
  have b := h.2 a ha
  by_cases e : a = j
  · subst e
    rw [pk_us, pk_us, pk_us, pk_us]
    exact ⟨⟨b.1.2.1, b.1.1, b.1.2.2⟩, ⟨b.2.1.2.2.1, b.2.1.2.2.2, b.2.1.1, b.2.1.2.1⟩, b.2.2⟩
  · rw [pk_un e, pk_un e, pk_un e, pk_un e]
    exact b
theorem ca_RlD (h : ca_Rl (n + 1) fr tw lo hi yt yh yl yu) : ca_Rl n fr tw lo hi yt yh yl yu :=
  ⟨Nat.le_of_succ_le h.1, fun a ha => h.2 a (Nat.lt_succ_of_lt ha)⟩
end
theorem i_up {k : Nat} {u : SX} {v : SY} (h : i_Rel k u v) : i_Rel (k + 4) u v := h
theorem i_vc0 : wpX_init (fun u => wpY_init (fun v => i_Rel 0 u v)) := by
  unfold wpX_init wpY_init
  exact ca_mk (n := 0) ⟨by omega, fun a ha => absurd ha (by omega)⟩
theorem i_vc_arc {k : Nat} {u : SX} {v : SY} (I : i_Rel k u v) (hk : k + 4 ≤ 2048) (v1 : Int32) (v2 : Int32) (v3 : Int32) : wpX_arc (fun r u' => wpY_arc (fun r' v' => r' = r ∧ i_Rel (k + 4) u' v') v v1 v2 v3) u v1 v2 v3 := by
  refine ca_el (P := fun u v => wpX_arc (fun r u' => wpY_arc (fun r' v' => r' = r ∧ i_Rel (k + 4) u' v') v v1 v2 v3) u v1 v2 v3) ?_ I
  intro n nd sn fr tw lo hi tl hd rm fl bb qq yt yh yl yu r
  unfold wpX_arc
  dsimp only
  have n0 : ¬ (1 : Int32) = 0 := by decide
  have hn := r.1
  rcases ca_vx v1 with ⟨i, hi', e1, x1, y1⟩ | ⟨x1, y1⟩
  · rcases ca_vx v2 with ⟨j, hj, e2, x2, y2⟩ | ⟨x2, y2⟩
    · refine x1 _ (br_t rfl (x2 _ (br_t rfl (br_c (fun h => ?_) (fun h => br_c (fun h2 => ?_) (fun h2 => br_c (fun h3 => ?_) (fun h3 => ?_)))))))
      · unfold wpY_arc
        dsimp only
        exact y1 _ _ (br_f n0 (y2 _ _ (br_f n0 (br_t h ⟨rfl, ca_mk r⟩))))
      · unfold wpY_arc
        dsimp only
        exact y1 _ _ (br_f n0 (y2 _ _ (br_f n0 (br_f h (br_t h2 ⟨rfl, ca_mk r⟩)))))
      · refine ek_if (nI_ltI (b := 12) (by omega) (by decide)) (fun h4 => ?_) (fun h4 => ?_)
        · rw [nI_clamp (n := n) (by omega)]
          have ii : vp_in (nI n) 12 := vp_in_nI h4 (by decide)
          refine ⟨ii, nm_e ⟨ii, nm_e ⟨ii, nm_e ⟨ii, nm_e (nm_e ?_)⟩⟩⟩⟩
          have ne : ¬ nI n = 12 := fun z => by
            have := (nI_eq (b := 12) (by omega) (by decide)).mp z
            omega
          have h2' : 0 ≤ v3.toInt := by
            have := (ca_ltI (x := v3) rfl ca_z)
            rw [this] at h2
            omega
          have h3' : v3.toInt ≤ 20 := (ca_leI (y := 20) rfl (by decide : (20 : Int32).toInt = 20)).mp h3
          unfold wpY_arc
          dsimp only
          refine y1 _ _ (br_f n0 (y2 _ _ (br_f n0 (br_f h (br_f h2 (br_t h3 (br_f ne (ca_place hn (nm_e ⟨?_, ?_⟩)))))))))
          · rw [nI_1, nI_pred]
          · rw [nI_1, e1, e2]
            exact ca_mk (ca_RlN r h4 hi' hj h2' h3')
        · have e : nI n = 12 := (nI_eq (b := 12) (by omega) (by decide)).mpr (by omega)
          unfold wpY_arc
          dsimp only
          exact y1 _ _ (br_f n0 (y2 _ _ (br_f n0 (br_f h (br_f h2 (br_t h3 (br_t e ⟨rfl, ca_mk r⟩)))))))
      · unfold wpY_arc
        dsimp only
        exact y1 _ _ (br_f n0 (y2 _ _ (br_f n0 (br_f h (br_f h2 (br_f h3 ⟨rfl, ca_mk r⟩))))))
    · refine x1 _ (br_t rfl (x2 _ (br_f n0 ?_)))
      unfold wpY_arc
      dsimp only
      exact y1 _ _ (br_f n0 (y2 _ _ (br_t rfl ⟨rfl, ca_mk r⟩)))
  · refine x1 _ (br_f n0 ?_)
    unfold wpY_arc
    dsimp only
    exact y1 _ _ (br_t rfl ⟨rfl, ca_mk r⟩)
theorem i_vc_bounds {k : Nat} {u : SX} {v : SY} (I : i_Rel k u v) (hk : k + 4 ≤ 2048) (v1 : Int32) (v2 : Int32) (v3 : Int32) : wpX_bounds (fun r u' => wpY_bounds (fun r' v' => r' = r ∧ i_Rel (k + 4) u' v') v v1 v2 v3) u v1 v2 v3 := by
  refine ca_el (P := fun u v => wpX_bounds (fun r u' => wpY_bounds (fun r' v' => r' = r ∧ i_Rel (k + 4) u' v') v v1 v2 v3) u v1 v2 v3) ?_ I
  intro n nd sn fr tw lo hi tl hd rm fl bb qq yt yh yl yu r
  unfold wpX_bounds wpY_bounds
  dsimp only
  have n0 : ¬ (1 : Int32) = 0 := by decide
  have hn := r.1
  rcases ca_ax hn v1 with ⟨j, hj, e1, x1, y1⟩ | ⟨x1, y1⟩
  · refine x1 _ (br_t rfl (br_c (fun h => y1 _ (br_f n0 (br_t h ⟨rfl, ca_mk r⟩))) (fun h => br_c (fun h2 => y1 _ (br_f n0 (br_f h (br_t h2 ⟨rfl, ca_mk r⟩)))) (fun h2 => br_c (fun h3 => ?_) (fun h3 => y1 _ (br_f n0 (br_f h (br_f h2 (br_f h3 ⟨rfl, ca_mk r⟩)))))))))
    have ix : vp_in v1 12 := by rw [e1]; exact vp_in_nI (by omega) (by decide)
    have iy : vp_in v1 13 := by rw [e1]; exact vp_in_nI (by omega) (by decide)
    have ec : v1.toNatClampNeg = j := by rw [e1]; exact nI_clamp (by omega)
    have a1 : 0 ≤ v2.toInt := by
      rw [ca_ltI (x := v2) rfl ca_z] at h
      omega
    have a2 : v2.toInt ≤ v3.toInt := by
      rw [ca_ltI (x := v3) (y := v2) rfl rfl] at h2
      omega
    have a3 : v3.toInt ≤ 20 := (ca_leI (y := 20) rfl (by decide : (20 : Int32).toInt = 20)).mp h3
    refine ⟨ix, nm_e ⟨ix, nm_e (y1 _ (br_f n0 (br_f h (br_f h2 (br_t h3 ⟨iy, nm_e ⟨iy, nm_e ⟨rfl, ?_⟩⟩⟩)))))⟩⟩
    rw [ec]
    exact ca_mk (ca_RlB r a1 a2 a3)
  · exact x1 _ (br_f n0 (y1 _ (br_t rfl ⟨rfl, ca_mk r⟩)))
theorem i_vc_reverse {k : Nat} {u : SX} {v : SY} (I : i_Rel k u v) (hk : k + 4 ≤ 2048) (v1 : Int32) : wpX_reverse (fun r u' => wpY_reverse (fun r' v' => r' = r ∧ i_Rel (k + 4) u' v') v v1) u v1 := by
  refine ca_el (P := fun u v => wpX_reverse (fun r u' => wpY_reverse (fun r' v' => r' = r ∧ i_Rel (k + 4) u' v') v v1) u v1) ?_ I
  intro n nd sn fr tw lo hi tl hd rm fl bb qq yt yh yl yu r
  unfold wpX_reverse wpY_reverse
  dsimp only
  have n0 : ¬ (1 : Int32) = 0 := by decide
  have hn := r.1
  rcases ca_ax hn v1 with ⟨j, hj, e1, x1, y1⟩ | ⟨x1, y1⟩
  · have ix : vp_in v1 12 := by rw [e1]; exact vp_in_nI (by omega) (by decide)
    have iy : vp_in v1 13 := by rw [e1]; exact vp_in_nI (by omega) (by decide)
    have ec : v1.toNatClampNeg = j := by rw [e1]; exact nI_clamp (by omega)
    refine x1 _ (br_t rfl ⟨ix, nm_e ⟨ix, ix, nm_e ⟨ix, nm_e (y1 _ (br_f n0 ⟨iy, nm_e ⟨iy, iy, nm_e ⟨iy, nm_e ⟨rfl, ?_⟩⟩⟩⟩))⟩⟩⟩)
    rw [ec]
    exact ca_mk (ca_RlR hj r)
  · exact x1 _ (br_f n0 (y1 _ (br_t rfl ⟨rfl, ca_mk r⟩)))
theorem i_vc_dropLast {k : Nat} {u : SX} {v : SY} (I : i_Rel k u v) (hk : k + 4 ≤ 2048) : wpX_dropLast (fun r u' => wpY_dropLast (fun r' v' => r' = r ∧ i_Rel (k + 4) u' v') v) u := by
  refine ca_el (P := fun u v => wpX_dropLast (fun r u' => wpY_dropLast (fun r' v' => r' = r ∧ i_Rel (k + 4) u' v') v) u) ?_ I
  intro n nd sn fr tw lo hi tl hd rm fl bb qq yt yh yl yu r
  unfold wpX_dropLast wpY_dropLast
  dsimp only
  have hn := r.1
  refine br_c (fun h => br_t h ⟨rfl, ca_mk r⟩) (fun h => nm_e (br_f h (nm_e ⟨rfl, ?_⟩)))
  cases n with
  | zero => exact absurd nI_0 h
  | succ n =>
    rw [nI_pred]
    exact ca_mk (ca_RlD r)
theorem i_vc_arcs {k : Nat} {u : SX} {v : SY} (I : i_Rel k u v) (hk : k + 4 ≤ 2048) : wpX_arcs (fun r => wpY_arcs (fun r' => r' = r ∧ i_Rel (k + 4) u v) v) u := by
  refine ca_el (P := fun u v => wpX_arcs (fun r => wpY_arcs (fun r' => r' = r ∧ i_Rel (k + 4) u v) v) u) ?_ I
  intro n nd sn fr tw lo hi tl hd rm fl bb qq yt yh yl yu r
  unfold wpX_arcs wpY_arcs
  exact ⟨rfl, ca_mk r⟩
end
section
/-! the questions -/
theorem i_vc_possible {k : Nat} {u : SX} {v : SY} (I : i_Rel k u v) (hk : k + 4 ≤ 2048) : wpX_possible (fun r u' => wpY_possible (fun r' => r' = r ∧ i_Rel (k + 4) u' v) v) u := by
  refine ca_el (P := fun u v => wpX_possible (fun r u' => wpY_possible (fun r' => r' = r ∧ i_Rel (k + 4) u' v) v) u) ?_ I
  intro n nd sn fr tw lo hi tl hd rm fl bb qq yt yh yl yu r
  unfold wpX_possible wpY_possible
  dsimp only
  have hn := r.1
  have ar := ca_RlAr r
  have ab := ca_Ar_Ab ar
  have ya := ca_RlYa r
  have pn := ca_pPn (p := 0) (q := 0) (u := 0) hn ab (by omega) (by omega)
  refine ca_build hn ar ?_
  intro tl hd rm fl bd
  try dsimp only
  refine ca_solve (ca_pNV hn ab (by omega) (by omega) (by omega) (by omega) bd) rfl (ca_pne hn ab) ?_
  intro nd sn m G fl bb qq h1 h2 N mv
  try dsimp only
  have sv := ca_sv N pn.1 rfl mv
  refine ek_if (ca_eqI h2 h1) (fun z => ?_) (fun z => ?_)
  · refine ca_worst (by omega) ya (fun w' w hw hm => ?_)
    have e := ca_aLack pn sv (ca_mx hm (fun s => (ca_qLk hn).symm))
    exact br_t ((ca_eqI hw ca_z).mpr (by omega)) ⟨rfl, ca_mk r⟩
  · refine ca_worst (by omega) ya (fun w' w hw hm => ?_)
    have e := ca_aLack pn sv (ca_mx hm (fun s => (ca_qLk hn).symm))
    exact br_f (fun q => z (by have := (ca_eqI hw ca_z).mp q; omega)) ⟨rfl, ca_mk r⟩
theorem i_vc_lack {k : Nat} {u : SX} {v : SY} (I : i_Rel k u v) (hk : k + 4 ≤ 2048) : wpX_lack (fun r u' => wpY_lack (fun r' => r' = r ∧ i_Rel (k + 4) u' v) v) u := by
  refine ca_el (P := fun u v => wpX_lack (fun r u' => wpY_lack (fun r' => r' = r ∧ i_Rel (k + 4) u' v) v) u) ?_ I
  intro n nd sn fr tw lo hi tl hd rm fl bb qq yt yh yl yu r
  unfold wpX_lack wpY_lack
  dsimp only
  have hn := r.1
  have ar := ca_RlAr r
  have ab := ca_Ar_Ab ar
  have ya := ca_RlYa r
  have pn := ca_pPn (p := 0) (q := 0) (u := 0) hn ab (by omega) (by omega)
  have pe := ca_pne (u := 0) hn ab
  refine ca_build hn ar ?_
  intro tl hd rm fl bd
  try dsimp only
  refine ca_solve (ca_pNV hn ab (by omega) (by omega) (by omega) (by omega) bd) rfl pe ?_
  intro nd sn m G fl bb qq h1 h2 N mv
  try dsimp only
  have sv := ca_sv N pn.1 rfl mv
  have m0 := mv.1
  have m1 := mv.2.1
  refine ca_worst (by omega) ya (fun w' w hw hm => ⟨?_, ca_mk r⟩)
  have e := ca_aLack pn sv (ca_mx hm (fun s => (ca_qLk hn).symm))
  exact (ca_eqI hw (ca_subI h1 h2 (by omega) (by omega))).mpr e
theorem i_vc_lackingSet {k : Nat} {u : SX} {v : SY} (I : i_Rel k u v) (hk : k + 4 ≤ 2048) : wpX_lackingSet (fun r u' => wpY_lackingSet (fun r' => r' = r ∧ i_Rel (k + 4) u' v) v) u := by
  refine ca_el (P := fun u v => wpX_lackingSet (fun r u' => wpY_lackingSet (fun r' => r' = r ∧ i_Rel (k + 4) u' v) v) u) ?_ I
  intro n nd sn fr tw lo hi tl hd rm fl bb qq yt yh yl yu r
  unfold wpX_lackingSet wpY_lackingSet
  dsimp only
  have hn := r.1
  have ar := ca_RlAr r
  have ab := ca_Ar_Ab ar
  have ya := ca_RlYa r
  have pn := ca_pPn (p := 0) (q := 0) (u := 0) hn ab (by omega) (by omega)
  refine ca_build hn ar ?_
  intro tl hd rm fl bd
  try dsimp only
  refine ca_solve (ca_pNV hn ab (by omega) (by omega) (by omega) (by omega) bd) rfl (ca_pne hn ab) ?_
  intro nd sn m G fl bb qq h1 h2 N mv
  try dsimp only
  have sv := ca_sv N pn.1 rfl mv
  refine ca_findWay (wo := 25) (x := 6) (y := 7) N ca_m1 (by omega) (by omega) ?_
  intro bb qq fw
  have Z : ∃ n22 : Nat, wX_lackingSet_22 (fun r u' => wpY_worst (fun r_1 => ∃ n14 : Nat, wY_lackingSet_14 (fun r' => r' = r ∧ i_Rel (k + 4) u' (nI n, yt, yh, yl, yu)) r_1 (nI n) yt yh yl yu n14 63 0) (nI n, yt, yh, yl, yu) (nI n)) (nI n) nd sn fr tw lo hi tl hd rm fl bb qq n22 0 0 := by
    refine ca_xSet (fun cs hc hcs => ?_)
    refine ca_worst (by omega) ya (fun w' w hw hm => ca_ySet (by omega) ya hw (fun cs' hc' hcs' => ⟨?_, ca_mk r⟩))
    refine congrArg nI (ca_bits_eq hc' hc (fun v hv => ?_))
    have a := ca_aSet N pn sv fw (ca_mx hm (fun s => (ca_qLk hn).symm)) hv
    rw [Bool.eq_iff_iff, hcs' v hv, hcs v hv, a]
    constructor
    · intro g s hs he
      rw [ca_qLk hn] at he
      exact g s hs he
    · intro g s hs he
      exact g s hs (by rw [ca_qLk hn]; exact he)
  exact ⟨fun _ => Z, fun _ => Z⟩
theorem i_vc_least {k : Nat} {u : SX} {v : SY} (I : i_Rel k u v) (hk : k + 4 ≤ 2048) (v1 : Int32) : wpX_least (fun r u' => wpY_least (fun r' v' => r' = r ∧ i_Rel (k + 4) u' v') v v1) u v1 := by
  refine ca_el (P := fun u v => wpX_least (fun r u' => wpY_least (fun r' v' => r' = r ∧ i_Rel (k + 4) u' v') v v1) u v1) ?_ I
  intro n nd sn fr tw lo hi tl hd rm fl bb qq yt yh yl yu r
  unfold wpX_least wpY_least
  dsimp only
  have n0 : ¬ (1 : Int32) = 0 := by decide
  have hn := r.1
  have ar := ca_RlAr r
  have ab := ca_Ar_Ab ar
  have ya := ca_RlYa r
  have pn := ca_pPn (p := 0) (q := 0) (u := 0) hn ab (by omega) (by omega)
  rcases ca_ax hn v1 with ⟨j, hj, e1, x1, y1⟩ | ⟨x1, y1⟩
  · have i12 : vp_in v1 12 := by rw [e1]; exact vp_in_nI (by omega) (by decide)
    have i13 : vp_in v1 13 := by rw [e1]; exact vp_in_nI (by omega) (by decide)
    have i25 : vp_in v1 25 := by rw [e1]; exact vp_in_nI (by omega) (by decide)
    have ec : v1.toNatClampNeg = j := by rw [e1]; exact nI_clamp (by omega)
    obtain ⟨_, ry1, ry2, ry3, ry4, ry5, ry6⟩ := ya j hj
    refine x1 _ (br_t rfl (ca_build hn ar ?_))
    intro tl hd rm fl bd
    try dsimp only
    refine ca_solve (ca_pNV hn ab (by omega) (by omega) (by omega) (by omega) bd) rfl (ca_pne hn ab) ?_
    intro nd sn m G fl bb qq h1 h2 N mv
    try dsimp only
    have sv := ca_sv N pn.1 rfl mv
    refine ek_if (ca_leI h1 h2) (fun z => ⟨i25, i25, i25, ?_⟩) (fun z => ?_)
    · obtain ⟨⟨a1, t1, a2, t2⟩, a3, a4, f1, f2, f3⟩ := N j (by omega)
      rw [ec, a1, a2]
      refine ca_moveAll (wo := j) N (fun e he => by rw [e1]; exact nI_eq (by omega) (by omega)) t1 t2 a4 f1 (by omega) ?_
      intro mm m' G' fl' bb' qq' g1 N' mv'
      try dsimp only
      have D := ca_zDown hn ab sv (by have := mv.2.1; omega) hj (ca_NV_ok N') mv'
      have gk : (fl' j).toInt = G j := ((N' j (by omega)).2.2.1).trans (mv'.2.2.2.1 j (by omega) rfl)
      have lk : (lo j).toInt = ca_I lo j := rfl
      refine ⟨i12, i25, y1 _ (br_f n0 ⟨i13, nm_e ⟨500, ?_⟩⟩)⟩
      rw [e1]
      refine ca_yLeast hn hj ya D.1.2 D.2.1 D.2.2 (fun rr hr => ⟨?_, ca_mk r⟩) 500 _ _ ry1 (by omega) D.1.1 (by omega)
      exact (ca_eqI hr (ca_subI (ca_addI lk gk (by omega) (by omega)) g1 (by omega) (by omega))).mpr rfl
    · refine y1 _ (br_f n0 ⟨i13, nm_e ⟨500, ?_⟩⟩)
      rw [ec, e1]
      exact ca_yLeastN hn hj ya (ca_zNone hn ab sv (by omega) hj) ⟨rfl, ca_mk r⟩ 500 _ _ ry1 (by omega) (by have := (ab j hj).2.2.2.1; omega) (by omega)
  · exact x1 _ (br_f n0 (y1 _ (br_t rfl ⟨rfl, ca_mk r⟩)))
theorem i_vc_most {k : Nat} {u : SX} {v : SY} (I : i_Rel k u v) (hk : k + 4 ≤ 2048) (v1 : Int32) : wpX_most (fun r u' => wpY_most (fun r' v' => r' = r ∧ i_Rel (k + 4) u' v') v v1) u v1 := by
  refine ca_el (P := fun u v => wpX_most (fun r u' => wpY_most (fun r' v' => r' = r ∧ i_Rel (k + 4) u' v') v v1) u v1) ?_ I
  intro n nd sn fr tw lo hi tl hd rm fl bb qq yt yh yl yu r
  unfold wpX_most wpY_most
  dsimp only
  have n0 : ¬ (1 : Int32) = 0 := by decide
  have hn := r.1
  have ar := ca_RlAr r
  have ab := ca_Ar_Ab ar
  have ya := ca_RlYa r
  have pn := ca_pPn (p := 0) (q := 0) (u := 0) hn ab (by omega) (by omega)
  rcases ca_ax hn v1 with ⟨j, hj, e1, x1, y1⟩ | ⟨x1, y1⟩
  · have i12 : vp_in v1 12 := by rw [e1]; exact vp_in_nI (by omega) (by decide)
    have i13 : vp_in v1 13 := by rw [e1]; exact vp_in_nI (by omega) (by decide)
    have i25 : vp_in v1 25 := by rw [e1]; exact vp_in_nI (by omega) (by decide)
    have ec : v1.toNatClampNeg = j := by rw [e1]; exact nI_clamp (by omega)
    obtain ⟨_, ry1, ry2, ry3, ry4, ry5, ry6⟩ := ya j hj
    refine x1 _ (br_t rfl (ca_build hn ar ?_))
    intro tl hd rm fl bd
    try dsimp only
    refine ca_solve (ca_pNV hn ab (by omega) (by omega) (by omega) (by omega) bd) rfl (ca_pne hn ab) ?_
    intro nd sn m G fl bb qq h1 h2 N mv
    try dsimp only
    have sv := ca_sv N pn.1 rfl mv
    refine ek_if (ca_leI h1 h2) (fun z => ⟨i25, i25, i25, i25, ?_⟩) (fun z => ?_)
    · obtain ⟨⟨a1, t1, a2, t2⟩, a3, a4, f1, f2, f3⟩ := N j (by omega)
      rw [ec, a1, a2]
      refine ca_moveAll (wo := j) N (fun e he => by rw [e1]; exact nI_eq (by omega) (by omega)) t2 t1 (ca_subI a3 a4 (by omega) (by omega)) (by omega) (by omega) ?_
      intro mm m' G' fl' bb' qq' g1 N' mv'
      try dsimp only
      have D := ca_zUp hn ab sv (by have := mv.2.1; omega) hj (ca_NV_ok N') mv'
      have gk : (fl' j).toInt = G j := ((N' j (by omega)).2.2.1).trans (mv'.2.2.2.1 j (by omega) rfl)
      have lk : (lo j).toInt = ca_I lo j := rfl
      refine ⟨i12, i25, y1 _ (br_f n0 ⟨i13, nm_e ⟨500, ?_⟩⟩)⟩
      rw [e1]
      refine ca_yMost hn hj ya D.1.1 D.2.1 D.2.2 (fun rr hr => ⟨?_, ca_mk r⟩) 500 _ _ ry2 (by omega) D.1.2 (by omega)
      exact (ca_eqI hr (ca_addI (ca_addI lk gk (by omega) (by omega)) g1 (by omega) (by omega))).mpr rfl
    · refine y1 _ (br_f n0 ⟨i13, nm_e ⟨500, ?_⟩⟩)
      rw [ec, e1]
      exact ca_yMostN hn hj ya (ca_zNone hn ab sv (by omega) hj) ⟨rfl, ca_mk r⟩ 500 _ _ ry2 (by omega) (by have := (ab j hj).2.2.2.1; omega) (by omega)
  · exact x1 _ (br_f n0 (y1 _ (br_t rfl ⟨rfl, ca_mk r⟩)))
theorem i_vc_through {k : Nat} {u : SX} {v : SY} (I : i_Rel k u v) (hk : k + 4 ≤ 2048) (v1 : Int32) (v2 : Int32) : wpX_through (fun r u' => wpY_through (fun r' v' => r' = r ∧ i_Rel (k + 4) u' v') v v1 v2) u v1 v2 := by
  refine ca_el (P := fun u v => wpX_through (fun r u' => wpY_through (fun r' v' => r' = r ∧ i_Rel (k + 4) u' v') v v1 v2) u v1 v2) ?_ I
  intro n nd sn fr tw lo hi tl hd rm fl bb qq yt yh yl yu r
  unfold wpX_through wpY_through
  dsimp only
  have n0 : ¬ (1 : Int32) = 0 := by decide
  have t240 : (240 : Int32).toInt = 240 := by decide
  have hn := r.1
  have ar := ca_RlAr r
  have ab := ca_Ar_Ab ar
  have ya := ca_RlYa r
  rcases ca_vx v1 with ⟨s, hs, e1, x1, y1⟩ | ⟨x1, y1⟩
  · rcases ca_vx v2 with ⟨t, ht, e2, x2, y2⟩ | ⟨x2, y2⟩
    · subst e1 e2
      have pn := ca_pPn (p := t) (q := s) (u := 240) hn ab ht hs
      refine x1 _ (br_t rfl (x2 _ (br_t rfl (br_c (fun h => y1 _ _ (br_f n0 (y2 _ _ (br_f n0 (br_t h ⟨rfl, ca_mk r⟩))))) (fun h => ca_build hn ar ?_)))))
      intro tl hd rm fl bd
      try dsimp only
      refine ca_setEdge 12 (by omega) rfl ?_
      try dsimp only
      have bd' := ca_pBd (p := t) (q := s) (u := 240) hn bd rfl rfl t240
      refine ca_solve (ca_pNV hn ab ht hs (by omega) (by omega) bd') rfl (ca_pne hn ab) ?_
      intro nd sn m G fl bb qq h1 h2 N mv
      try dsimp only
      have sv := ca_sv N pn.1 rfl mv
      refine ek_if (ca_leI h1 h2) (fun z => ?_) (fun z => ?_)
      · obtain ⟨⟨a1, t1, a2, t2⟩, a3, a4, f1, f2, f3⟩ := N 12 (by omega)
        rw [ca_R_12 hn] at f2
        refine ca_moveAll (wo := 12) N (fun e he => nI_eq (b := 12) (by omega) (by omega)) (by omega) (by omega) (ca_subI t240 a4 (by omega) (by omega)) (by omega) (by omega) ?_
        intro mm m' G' fl' bb' qq' g1 N' mv'
        try dsimp only
        have D := ca_tUp hn ab ht hs sv (by have := mv.2.1; omega) (ca_NV_ok N') mv'
        have gk : (fl' 12).toInt = G 12 := ((N' 12 (by omega)).2.2.1).trans (mv'.2.2.2.1 12 (by omega) rfl)
        refine y1 _ _ (br_f n0 (y2 _ _ (br_f n0 (br_f h ⟨500, ?_⟩))))
        refine ca_yThr hn ht hs ya D.1.1 D.2.1 D.2.2 (fun rr zt zh zl zu hr sa => ⟨?_, ca_mk (ca_RlSa r sa)⟩) 500 _ _ _ _ _ _ t240 (by omega) D.1.2 (by omega) (fun a ha => ⟨rfl, rfl, rfl, rfl⟩)
        exact (ca_eqI hr (ca_addI gk g1 (by omega) (by omega))).mpr rfl
      · refine y1 _ _ (br_f n0 (y2 _ _ (br_f n0 (br_f h ⟨500, ?_⟩))))
        exact ca_yThrN hn ht hs ya (ca_tNone hn ab ht hs sv (by omega)) (fun zt zh zl zu sa => ⟨rfl, ca_mk (ca_RlSa r sa)⟩) 500 _ _ _ _ _ _ t240 (by omega) (by omega) (by omega) (fun a ha => ⟨rfl, rfl, rfl, rfl⟩)
    · exact x1 _ (br_t rfl (x2 _ (br_f n0 (y1 _ _ (br_f n0 (y2 _ _ (br_t rfl ⟨rfl, ca_mk r⟩)))))))
  · exact x1 _ (br_f n0 (y1 _ _ (br_t rfl ⟨rfl, ca_mk r⟩)))
end
