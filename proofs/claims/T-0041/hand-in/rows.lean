section
/-! rows of kit/rows/PURE-ROWS (starting text) -/
theorem pk_us {f : Nat → Int32} {k : Nat} {x : Int32} : upd f k x k = x := if_pos rfl
theorem pk_un {f : Nat → Int32} {k j : Nat} {x : Int32} (h : j ≠ k) : upd f k x j = f j := if_neg h
theorem pk_sub {a b : Nat} (h : b ≤ a) : nI a - nI b = nI (a - b) := by
  obtain ⟨c, rfl⟩ : ∃ c, a = c + b := ⟨a - b, by omega⟩
  rw [← nI_add, Int32.add_sub_cancel, Nat.add_sub_cancel]
theorem pk_m1 (n : Nat) : nI (n + 1) + (-1) = nI n := by
  rw [← nI_1, Int32.add_assoc, show (1 : Int32) + (-1) = 0 from rfl, Int32.add_zero]
theorem pk_mul (a b : Nat) : nI a * nI b = nI (a * b) := (Int32.ofNat_mul a b).symm
theorem pk_div {a d : Nat} (ha : a < 2 ^ 31) (h0 : 0 < d) (hd : d < 2 ^ 31) : nI a / nI d = nI (a / d) := by
  apply Int32.toInt_inj.mp
  rw [lg_idiv_nonneg (by rw [nI_toInt ha]; omega) (by rw [nI_toInt hd]; omega), nI_toInt ha, nI_toInt hd, nI_toInt (Nat.lt_of_le_of_lt (Nat.div_le_self a d) ha)]
  first | rfl | exact (Int.natCast_ediv _ _).symm
theorem pk_le {x y : Int32} {A B : Prop} (a b : Nat) (f : a ≤ b → A) (g : b < a → B) (hx : x = nI a := by rfl) (hy : y = nI b := by rfl) (ha : a < 2 ^ 31 := by omega) (hb : b < 2 ^ 31 := by omega) : (x ≤ y → A) ∧ (¬ x ≤ y → B) := by
  subst hx hy
  rw [nI_leI ha hb]
  exact ⟨f, fun z => g (by omega)⟩
theorem pk_lt {x y : Int32} {A B : Prop} (a b : Nat) (f : a < b → A) (g : b ≤ a → B) (hx : x = nI a := by rfl) (hy : y = nI b := by rfl) (ha : a < 2 ^ 31 := by omega) (hb : b < 2 ^ 31 := by omega) : (x < y → A) ∧ (¬ x < y → B) := by
  subst hx hy
  rw [nI_ltI ha hb]
  exact ⟨f, fun z => g (by omega)⟩
theorem pk_eq {x y : Int32} {A B : Prop} (a b : Nat) (f : a = b → A) (g : a ≠ b → B) (hx : x = nI a := by rfl) (hy : y = nI b := by rfl) (ha : a < 2 ^ 31 := by omega) (hb : b < 2 ^ 31 := by omega) : (x = y → A) ∧ (¬ x = y → B) := by
  subst hx hy
  rw [nI_eq ha hb]
  exact ⟨f, g⟩
theorem pk_in {x : Int32} (n N : Nat) (h : n < N) (hx : x = nI n := by rfl) (hN : N < 2 ^ 31 := by omega) : vp_in x N := by
  subst hx
  exact vp_in_nI h hN
theorem pk_cl {x : Int32} (n : Nat) (hx : x = nI n := by rfl) (h : n < 2 ^ 31 := by omega) : x.toNatClampNeg = n := by
  subst hx
  exact nI_clamp h
/-! own base rows: an array's first cells as a list -/
theorem pr_m1 (x : Int32) : x + (-1) = x - 1 := (Int32.sub_eq_add_neg x 1).symm
theorem pr_pred {k : Nat} (h : 0 < k) : nI k - 1 = nI (k - 1) := pk_sub (b := 1) h
theorem pr_neg : nI 0 - 1 < 0 := by decide
theorem pr_nle : ¬ 0 ≤ nI 0 - 1 := by decide
def pr_R (L : List Nat) (a : Nat → Int32) : Prop := L.length ≤ 5 ∧ ∀ i, i < L.length → a i = nI (L.getD i 0) ∧ L.getD i 0 < 8
theorem pr_b {L : List Nat} {a : Nat → Int32} {i : Nat} (h : pr_R L a) (hi : i < L.length) : L.getD i 0 < 8 := (h.2 i hi).2
theorem pr_g {L : List Nat} {a : Nat → Int32} {i : Nat} (h : pr_R L a) (hi : i < L.length) : a (nI i).toNatClampNeg = nI (L.getD i 0) := by
  have h5 := h.1
  rw [nI_clamp (by omega)]
  exact (h.2 i hi).1
theorem pr_c {L : List Nat} {a : Nat → Int32} {i : Nat} (h : pr_R L a) (hi : i < L.length) : (nI i).toNatClampNeg = i := by
  have h5 := h.1
  exact nI_clamp (by omega)
theorem pr_v {L : List Nat} {a : Nat → Int32} {i : Nat} (h : pr_R L a) (hi : i < L.length) : vp_in (nI i) 5 := by
  have h5 := h.1
  exact vp_in_nI (by omega) (by omega)
theorem pr_gs (L : List Nat) (i v j : Nat) (hi : i < L.length) : (L.set i v).getD j 0 = if j = i then v else L.getD j 0 := by
  by_cases z : j = i
  · subst z
    rw [if_pos rfl, List.getD_eq_getElem?_getD, List.getElem?_set_self hi]
    rfl
  · rw [if_neg z, List.getD_eq_getElem?_getD, List.getD_eq_getElem?_getD, List.getElem?_set_ne (fun e => z e.symm)]
theorem pr_set {L : List Nat} {a : Nat → Int32} {i v : Nat} (h : pr_R L a) (hi : i < L.length) (hv : v < 8) : pr_R (L.set i v) (upd a i (nI v)) := by
  refine ⟨by rw [List.length_set]; exact h.1, fun j hj => ?_⟩
  rw [List.length_set] at hj
  rw [pr_gs L i v j hi]
  by_cases z : j = i
  · subst z
    rw [if_pos rfl, pk_us]
    exact ⟨rfl, hv⟩
  · rw [if_neg z, pk_un z]
    exact h.2 j hj
theorem pr_ga (L : List Nat) (v j : Nat) : (L ++ [v]).getD j 0 = if j = L.length then v else L.getD j 0 := by
  by_cases z : j = L.length
  · subst z
    rw [if_pos rfl, List.getD_eq_getElem?_getD]
    simp
  · rw [if_neg z]
    by_cases w : j < L.length
    · rw [List.getD_eq_getElem?_getD, List.getD_eq_getElem?_getD, List.getElem?_append_left w]
    · rw [List.getD_eq_getElem?_getD, List.getD_eq_getElem?_getD, List.getElem?_eq_none (by simp; omega), List.getElem?_eq_none (by omega)]
theorem pr_app {L : List Nat} {a : Nat → Int32} {v : Nat} (h : pr_R L a) (hl : L.length < 5) (hv : v < 8) : pr_R (L ++ [v]) (upd a L.length (nI v)) := by
  refine ⟨by simp; omega, fun j hj => ?_⟩
  rw [pr_ga L v j]
  by_cases z : j = L.length
  · subst z
    rw [if_pos rfl, pk_us]
    exact ⟨rfl, hv⟩
  · rw [if_neg z, pk_un z]
    have : j < L.length + 1 := by simpa using hj
    exact h.2 j (by omega)
end
section
/-! the pure functions: X's and Y's methods over lists of naturals -/
def pr_fa : Nat → Nat
  | 0 => 1
  | k + 1 => (k + 1) * pr_fa k
def px_i (L : List Nat) : Nat → Nat
  | 0 => 0
  | k + 1 => if L.getD k 0 < L.getD (k + 1) 0 then k + 1 else px_i L k
def px_j (L : List Nat) (i : Nat) : Nat → Nat
  | 0 => 0
  | j + 1 => if j + 1 ≤ i then j + 1 else if L.getD i 0 < L.getD (j + 1) 0 then j + 1 else px_j L i j
def px_sw (L : List Nat) (i j : Nat) : List Nat := (L.set i (L.getD j 0)).set j (L.getD i 0)
def px_rev : Nat → List Nat → Nat → Nat → List Nat
  | 0, L, _, _ => L
  | n + 1, L, lo, hi => if hi ≤ lo then L else px_rev n (px_sw L lo hi) (lo + 1) (hi - 1)
def px_fin (m : Nat) (L : List Nat) (i : Nat) : List Nat := px_rev 6 (px_sw L i (px_j L i (m - 1))) (i + 1) (m - 1)
def px_nx (m : Nat) (L : List Nat) : Nat → Option (List Nat)
  | 0 => none
  | i + 1 => some (px_fin m L i)
def px_next (m : Nat) (L : List Nat) : Option (List Nat) := if m < 2 then none else px_nx m L (px_i L (m - 1))
def px_fl (m : Nat) : Nat → Nat → Nat → Nat
  | 0, f, _ => f
  | n + 1, f, k => if m < k then f else px_fl m n (f * k) (k + 1)
def px_ch (U : List Nat) : Nat → Nat → Nat → Option Nat
  | 0, _, _ => none
  | k + 1, v, d => if U.getD v 0 = 0 then (if d = 0 then some v else px_ch U k (v + 1) (d - 1)) else px_ch U k (v + 1) d
def px_sk (m : Nat) : Nat → Nat → List Nat → List Nat → Option (List Nat)
  | 0, _, acc, _ => some acc
  | k + 1, rem, acc, U => match px_ch U m 0 (rem / pr_fa k) with
    | none => none
    | some c => px_sk m k (rem - rem / pr_fa k * pr_fa k) (acc ++ [c]) (U.set c 1)
def px_ct (L : List Nat) (i : Nat) : Nat → Nat → Nat → Nat
  | 0, _, c => c
  | k + 1, j, c => if L.getD i 0 ≤ L.getD j 0 then px_ct L i k (j + 1) c else px_ct L i k (j + 1) (c + 1)
def px_rk (L : List Nat) : Nat → Nat → Nat → Nat
  | 0, r, _ => r
  | k + 1, r, i => px_rk L k (r + px_ct L i k (i + 1) 0 * pr_fa k) (i + 1)
def py_b (m : Nat) : Nat → List Nat → Nat × List Nat
  | 0, L => (0, L)
  | k + 1, L => if m - 1 ≤ L.getD k 0 then py_b m k (L.set k 0) else (1, L.set k (L.getD k 0 + 1))
def py_d1 (L : List Nat) (i : Nat) : Nat → Nat → Bool
  | 0, _ => true
  | k + 1, j => if L.getD i 0 = L.getD j 0 then false else py_d1 L i k (j + 1)
def py_d (L : List Nat) : Nat → Nat → Bool
  | 0, _ => true
  | k + 1, i => if py_d1 L i i 0 = true then py_d L k (i + 1) else false
def py_f (A T : List Nat) : Nat → Nat → Bool
  | 0, _ => false
  | k + 1, i => if A.getD i 0 ≤ T.getD i 0 then (if T.getD i 0 ≤ A.getD i 0 then py_f A T k (i + 1) else false) else true
/-- the digit string with code c, of m digits to the base m -/
def py_D (m c : Nat) : List Nat := (List.range m).map (fun i => c / m ^ (m - 1 - i) % m)
def py_ds (m c : Nat) : Bool := py_d (py_D m c) m 0
/-- how many codes below c have distinct digits -/
def py_K (m : Nat) : Nat → Nat
  | 0 => 0
  | c + 1 => py_K m c + (if py_ds m c = true then 1 else 0)
/-- the code of the permutation of rank r -/
def py_C (m r : Nat) : Nat := ((px_sk m m r [] (List.replicate 5 0)).getD []).foldl (fun s d => s * m + d) 0
def py_P (m r : Nat) : List Nat := py_D m (py_C m r)
def ck_s (m : Nat) : Nat → Nat → Bool
  | 0, k => Nat.beq k 0
  | c + 1, k => if py_ds m c = true then (Nat.ble 1 k && (Nat.beq (py_C m (k - 1)) c && ck_s m c (k - 1))) else ck_s m c k
def ck_l : List Nat → List Nat → Bool
  | [], [] => true
  | x :: xs, y :: ys => Nat.beq x y && ck_l xs ys
  | _, _ => false
def ck_b (m M : Nat) : Nat → Bool
  | 0 => true
  | c + 1 => (Nat.beq (py_b m m (py_D m c)).1 (if c + 1 < M then 1 else 0) && ck_l (py_b m m (py_D m c)).2 (py_D m ((c + 1) % M))) && ck_b m M c
theorem ck_lS : ∀ {A B : List Nat}, ck_l A B = true → A = B := by
  intro A
  induction A with
  | nil => intro B h; cases B with
    | nil => rfl
    | cons y ys => simp [ck_l] at h
  | cons x xs ih => intro B h; cases B with
    | nil => simp [ck_l] at h
    | cons y ys =>
      rw [ck_l, Bool.and_eq_true] at h
      rw [Nat.eq_of_beq_eq_true h.1, ih h.2]
theorem py_Dl (m c : Nat) : (py_D m c).length = m := by simp [py_D]
theorem py_Dg {m c i : Nat} (h : i < m) : (py_D m c).getD i 0 = c / m ^ (m - 1 - i) % m := by
  simp [py_D, List.getD_eq_getElem?_getD, h]
theorem py_Dlt {m c i : Nat} (h : i < m) : (py_D m c).getD i 0 < m := by
  rw [py_Dg h]
  exact Nat.mod_lt _ (by omega)
theorem py_Pl (m r : Nat) : (py_P m r).length = m := py_Dl m _
end
section
/-! the law of the pure functions: closed checks, then what they give -/
theorem pr_m6 {P : Nat → Prop} (h0 : P 0) (h1 : P 1) (h2 : P 2) (h3 : P 3) (h4 : P 4) (h5 : P 5) : ∀ m, m < 6 → P m
  | 0, _ => h0
  | 1, _ => h1
  | 2, _ => h2
  | 3, _ => h3
  | 4, _ => h4
  | 5, _ => h5
  | _ + 6, h => absurd h (by omega)
theorem pr_faB : ∀ m, m < 6 → 0 < pr_fa m ∧ pr_fa m ≤ 120 := by decide +kernel
theorem pr_flF : ∀ m, m < 6 → px_fl m 7 1 2 = pr_fa m := by decide +kernel
theorem pr_MB : ∀ m, m < 6 → 0 < m ^ m ∧ m ^ m ≤ 3125 := by decide +kernel
theorem pr_A0 : ∀ m, m < 6 → py_P m 0 = List.range m := by decide +kernel
theorem pr_A1 : ∀ m, m < 6 → ∀ r, r < pr_fa m → px_sk m m r [] (List.replicate 5 0) = some (py_P m r) := by decide +kernel
theorem pr_A2 : ∀ m, m < 6 → ∀ r, r < pr_fa m → px_next m (py_P m r) = if r + 1 < pr_fa m then some (py_P m (r + 1)) else none := by decide +kernel
theorem pr_A3 : ∀ m, m < 6 → ∀ r, r < pr_fa m → px_rk (py_P m r) m 0 0 = r := by decide +kernel
theorem pr_A4 : ∀ m, m < 6 → ∀ r, r < pr_fa m → py_C m r < m ^ m ∧ py_ds m (py_C m r) = true := by decide +kernel
theorem ck_s5 : ck_s 5 3125 120 = true := by decide +kernel
theorem ck_sA : ∀ m, m < 6 → ck_s m (m ^ m) (pr_fa m) = true :=
  pr_m6 (P := fun m => ck_s m (m ^ m) (pr_fa m) = true) (by decide +kernel) (by decide +kernel) (by decide +kernel) (by decide +kernel) (by decide +kernel) ck_s5
theorem ck_b5 : ck_b 5 3125 3125 = true := by decide +kernel
theorem ck_bA : ∀ m, m < 6 → ck_b m (m ^ m) (m ^ m) = true :=
  pr_m6 (P := fun m => ck_b m (m ^ m) (m ^ m) = true) (by decide +kernel) (by decide +kernel) (by decide +kernel) (by decide +kernel) (by decide +kernel) ck_b5
theorem ck_bS {m M : Nat} : ∀ n, ck_b m M n = true → ∀ c, c < n → (py_b m m (py_D m c)).1 = (if c + 1 < M then 1 else 0) ∧ (py_b m m (py_D m c)).2 = py_D m ((c + 1) % M) := by
  intro n
  induction n with
  | zero => intro _ c h; omega
  | succ n ih =>
    intro h c hc
    rw [ck_b, Bool.and_eq_true, Bool.and_eq_true] at h
    by_cases z : c = n
    · subst z
      exact ⟨Nat.eq_of_beq_eq_true h.1.1, ck_lS h.1.2⟩
    · exact ih h.2 c (by omega)
theorem ck_sS {m : Nat} : ∀ c k, ck_s m c k = true → py_K m c = k ∧ ∀ c', c' < c → py_ds m c' = true → py_C m (py_K m c') = c' ∧ py_K m c' < k := by
  intro c
  induction c with
  | zero =>
    intro k h
    rw [ck_s] at h
    exact ⟨(Nat.eq_of_beq_eq_true h).symm, fun c' hc => by omega⟩
  | succ c ih =>
    intro k h
    rw [ck_s] at h
    by_cases z : py_ds m c = true
    · rw [if_pos z, Bool.and_eq_true, Bool.and_eq_true] at h
      obtain ⟨h1, h2, h3⟩ := h
      have g1 : 1 ≤ k := Nat.le_of_ble_eq_true h1
      have g2 := Nat.eq_of_beq_eq_true h2
      obtain ⟨e, f⟩ := ih (k - 1) h3
      refine ⟨by rw [py_K, if_pos z, e]; omega, fun c' hc hd => ?_⟩
      by_cases w : c' = c
      · subst w
        rw [e]
        exact ⟨g2, by omega⟩
      · have := f c' (by omega) hd
        exact ⟨this.1, by omega⟩
    · rw [if_neg z] at h
      obtain ⟨e, f⟩ := ih k h
      refine ⟨by rw [py_K, if_neg z, e]; rfl, fun c' hc hd => ?_⟩
      by_cases w : c' = c
      · subst w
        exact absurd hd z
      · exact f c' (by omega) hd
theorem pl_1 {m : Nat} (hm : m < 6) : py_K m (m ^ m) = pr_fa m := (ck_sS _ _ (ck_sA m hm)).1
theorem pl_2 {m c : Nat} (hm : m < 6) (hc : c < m ^ m) (hd : py_ds m c = true) : py_C m (py_K m c) = c ∧ py_K m c < pr_fa m := (ck_sS _ _ (ck_sA m hm)).2 c hc hd
theorem pl_3 {m r : Nat} (hm : m < 6) (hr : r < pr_fa m) : py_K m (py_C m r) = r := by
  obtain ⟨h1, h2⟩ := pr_A4 m hm r hr
  obtain ⟨h3, h4⟩ := pl_2 hm h1 h2
  have e1 := pr_A3 m hm r hr
  have e2 := pr_A3 m hm _ h4
  have e3 : py_P m (py_K m (py_C m r)) = py_P m r := by unfold py_P; rw [h3]
  rw [e3, e1] at e2
  exact e2.symm
theorem pl_s {m c : Nat} (hd : py_ds m c = true) : py_K m (c + 1) = py_K m c + 1 := by rw [py_K, if_pos hd]
theorem pl_n {m c : Nat} (hd : ¬ py_ds m c = true) : py_K m (c + 1) = py_K m c := by rw [py_K, if_neg hd]; rfl
theorem pl_b1 {m c : Nat} (hm : m < 6) (hc : c + 1 < m ^ m) : py_b m m (py_D m c) = (1, py_D m (c + 1)) := by
  obtain ⟨e1, e2⟩ := ck_bS _ (ck_bA m hm) c (by omega)
  rw [if_pos hc] at e1
  rw [Nat.mod_eq_of_lt hc] at e2
  exact Prod.ext e1 e2
theorem pl_b0 {m c : Nat} (hm : m < 6) (hc : c + 1 = m ^ m) : (py_b m m (py_D m c)).1 = 0 := by
  obtain ⟨e1, e2⟩ := ck_bS _ (ck_bA m hm) c (by omega)
  rw [if_neg (by omega)] at e1
  exact e1
theorem pl_lt {m c c' : Nat} : ∀ k i, i + k = m → c / m ^ k = c' / m ^ k → py_f (py_D m c') (py_D m c) k i = decide (c < c') := by
  intro k
  induction k with
  | zero =>
    intro i _ h
    rw [Nat.pow_zero, Nat.div_one, Nat.div_one] at h
    rw [py_f, h]
    simp
  | succ k ih =>
    intro i hi h
    have ei : m - 1 - i = k := by omega
    rw [py_f, py_Dg (by omega), py_Dg (by omega), ei]
    rw [Nat.pow_succ, ← Nat.div_div_eq_div_mul, ← Nat.div_div_eq_div_mul] at h
    have q1 := Nat.div_add_mod (c / m ^ k) m
    have q2 := Nat.div_add_mod (c' / m ^ k) m
    rw [h] at q1
    by_cases z : c' / m ^ k % m ≤ c / m ^ k % m
    · rw [if_pos z]
      by_cases w : c / m ^ k % m ≤ c' / m ^ k % m
      · rw [if_pos w]
        exact ih (i + 1) (by omega) (by omega)
      · rw [if_neg w]
        have g : c' / m ^ k < c / m ^ k := by omega
        have g2 : c' < c := by
          rcases Nat.lt_or_ge c' c with y | y
          · exact y
          · exact absurd (Nat.div_le_div_right (c := m ^ k) y) (by omega)
        exact (decide_eq_false (by omega)).symm
    · rw [if_neg z]
      have g : c / m ^ k < c' / m ^ k := by omega
      have g2 : c < c' := by
        rcases Nat.lt_or_ge c c' with y | y
        · exact y
        · exact absurd (Nat.div_le_div_right (c := m ^ k) y) (by omega)
      exact (decide_eq_true g2).symm
theorem pl_bef {m c c' : Nat} (h : c < m ^ m) (h' : c' < m ^ m) : py_f (py_D m c') (py_D m c) m 0 = decide (c < c') :=
  pl_lt m 0 (by omega) (by rw [Nat.div_eq_of_lt h, Nat.div_eq_of_lt h'])
end
section
/-! X.next against px_next -/
theorem px_swl (L : List Nat) (i j : Nat) : (px_sw L i j).length = L.length := by
  rw [px_sw, List.length_set, List.length_set]
theorem px_swR {L : List Nat} {a : Nat → Int32} {i j : Nat} (h : pr_R L a) (hi : i < L.length) (hj : j < L.length) :
    pr_R (px_sw L i j) (upd (upd a i (nI (L.getD j 0))) j (nI (L.getD i 0))) :=
  pr_set (pr_set h hi (pr_b h hj)) (by rw [List.length_set]; exact hj) (pr_b h hi)
theorem px_w122 {post : Int32 → SX → Prop} {f : Int32} {us : Nat → Int32} : ∀ (n : Nat) (L : List Nat) (a : Nat → Int32) (lo hi : Nat),
    pr_R L a → hi < L.length → lo ≤ L.length → hi - lo < n → (∀ a', pr_R (px_rev n L lo hi) a' → post 0 (f, a', us)) → wX_next_122 post f n (nI lo) (nI hi) a us := by
  intro n
  induction n with
  | zero => intro L a lo hi _ _ _ h; omega
  | succ n ih =>
    intro L a lo hi hR hh hl hn hp
    have h5 := hR.1
    refine pk_le hi lo (fun c => ?_) (fun c => ?_)
    · exact hp a (by rw [px_rev, if_pos c]; exact hR)
    · have hlo : lo < L.length := by omega
      have v1 := pr_v hR hlo
      have v2 := pr_v hR hh
      have K : ∀ a', pr_R (px_rev n (px_sw L lo hi) (lo + 1) (hi - 1)) a' → post 0 (f, a', us) := fun a' ha' => hp a' (by rw [px_rev, if_neg (by omega)]; exact ha')
      have S := ih (px_sw L lo hi) _ (lo + 1) (hi - 1) (px_swR hR hlo hh) (by rw [px_swl]; omega) (by rw [px_swl]; omega) (by omega) K
      refine ⟨v1, nm_r (pr_g hR hlo) ⟨v2, v1, nm_r (e' := upd a lo (nI (L.getD hi 0))) (by rw [pr_g hR hh, pr_c hR hlo]) ⟨v2, nm_r (e' := upd (upd a lo (nI (L.getD hi 0))) hi (nI (L.getD lo 0))) (by rw [pr_c hR hh]) (nm_r (nI_1 lo) (nm_r (e' := nI (hi - 1)) ?_ S))⟩⟩⟩
      rw [pr_m1, pr_pred (by omega)]
theorem px_w83 {post : Int32 → SX → Prop} {us a : Nat → Int32} {m i j : Nat} {L : List Nat} (hl : L.length = m) (hR : pr_R L a) (hi : i < m) (hj : j < m)
    (hp : ∀ a', pr_R (px_rev 6 (px_sw L i j) (i + 1) (m - 1)) a' → post 0 (nI m, a', us)) : wX_next_83 post (nI i) (nI j) (nI m) a us := by
  subst hl
  have h5 := hR.1
  have v1 := pr_v hR hi
  have v2 := pr_v hR hj
  have S := px_w122 6 (px_sw L i j) _ (i + 1) (L.length - 1) (px_swR hR hi hj) (by rw [px_swl]; omega) (by rw [px_swl]; omega) (by omega) hp
  exact ⟨v1, nm_r (pr_g hR hi) ⟨v2, v1, nm_r (e' := upd a i (nI (L.getD j 0))) (by rw [pr_g hR hj, pr_c hR hi]) ⟨v2, nm_r (e' := upd (upd a i (nI (L.getD j 0))) j (nI (L.getD i 0))) (by rw [pr_c hR hj]) (nm_r (nI_1 i) (nm_r (pr_pred (by omega)) ⟨6, S⟩))⟩⟩⟩
theorem px_w57 {post : Int32 → SX → Prop} {us a : Nat → Int32} {m i : Nat} {L : List Nat} (hl : L.length = m) (hR : pr_R L a) (hi : i < m) : ∀ (n j : Nat), j < n → j < m →
    wX_next_83 post (nI i) (nI (px_j L i j)) (nI m) a us → wX_next_57 post (nI i) (nI m) a us n (nI j) := by
  subst hl
  have h5 := hR.1
  intro n
  induction n with
  | zero => intro j h; omega
  | succ n ih =>
    intro j hn hj K
    refine pk_le j i (fun c => ?_) (fun c => ?_)
    · have e : px_j L i j = j := by
        cases j with
        | zero => rfl
        | succ j => rw [px_j, if_pos c]
      rw [e] at K
      exact K
    · cases j with
      | zero => omega
      | succ j =>
        rw [px_j, if_neg (by omega)] at K
        refine ⟨pr_v hR hj, pr_v hR hi, pk_lt (L.getD i 0) (L.getD (j + 1) 0) (fun d => ?_) (fun d => ?_) (pr_g hR hi) (pr_g hR hj) (by have := pr_b hR hi; omega) (by have := pr_b hR hj; omega)⟩
        · rw [if_pos d] at K
          exact K
        · rw [if_neg (by omega)] at K
          exact nm_r (pk_m1 j) (ih j (by omega) (by omega) K)
theorem px_jle (L : List Nat) (i : Nat) : ∀ j, px_j L i j ≤ j := by
  intro j
  induction j with
  | zero => exact Nat.le_refl _
  | succ j ih =>
    rw [px_j]
    by_cases c : j + 1 ≤ i
    · rw [if_pos c]; omega
    · rw [if_neg c]
      by_cases d : L.getD i 0 < L.getD (j + 1) 0
      · rw [if_pos d]; omega
      · rw [if_neg d]; omega
theorem px_ile (L : List Nat) : ∀ j, px_i L j ≤ j := by
  intro j
  induction j with
  | zero => exact Nat.le_refl _
  | succ j ih =>
    rw [px_i]
    by_cases d : L.getD j 0 < L.getD (j + 1) 0
    · rw [if_pos d]; omega
    · rw [if_neg d]; omega
theorem px_w44 {post : Int32 → SX → Prop} {us a : Nat → Int32} {m q : Nat} {L : List Nat} (hl : L.length = m) (hR : pr_R L a) (hq : q < m)
    (h0 : px_nx m L q = none → post (-1) (nI m, a, us)) (h1 : ∀ L', px_nx m L q = some L' → ∀ a', pr_R L' a' → post 0 (nI m, a', us)) : wX_next_44 post (nI q - 1) (nI m) a us := by
  cases q with
  | zero => exact br_f pr_nle (h0 rfl)
  | succ i =>
    have h5 := hR.1
    rw [nI_pred]
    have hj := px_jle L i (m - 1)
    exact br_t (nI_pos' (by omega)) (nm_r (pr_pred (by omega)) ⟨m, px_w57 hl hR (by omega) m (m - 1) (by omega) (by omega) (px_w83 hl hR (by omega) (by omega) (fun a' ha' => h1 _ rfl a' ha'))⟩)
theorem px_w17 {post : Int32 → SX → Prop} {us a : Nat → Int32} {m : Nat} {L : List Nat} (hl : L.length = m) (hR : pr_R L a) : ∀ (n k : Nat), k < n → k < m →
    wX_next_44 post (nI (px_i L k) - 1) (nI m) a us → wX_next_17 post (nI m) a us n (nI k - 1) := by
  subst hl
  have h5 := hR.1
  intro n
  induction n with
  | zero => intro j h; omega
  | succ n ih =>
    intro k hn hk K
    cases k with
    | zero => exact br_t pr_neg K
    | succ k =>
      have hk' : k < L.length := by omega
      rw [nI_pred]
      refine br_f (nI_pos (by omega)) ⟨pr_v hR hk', by rw [nI_1]; exact pr_v hR hk, pk_lt (L.getD k 0) (L.getD (k + 1) 0) (fun d => ?_) (fun d => ?_) (pr_g hR hk') (by rw [nI_1]; exact pr_g hR hk) (by have := pr_b hR hk'; omega) (by have := pr_b hR hk; omega)⟩
      · rw [px_i, if_pos d, nI_pred] at K
        exact K
      · rw [px_i, if_neg (by omega)] at K
        exact nm_r (pr_m1 _) (ih k (by omega) (by omega) K)
theorem px_nextW {post : Int32 → SX → Prop} {us a : Nat → Int32} {m : Nat} {L : List Nat} (hl : L.length = m) (hR : pr_R L a)
    (h0 : px_next m L = none → post (-1) (nI m, a, us)) (h1 : ∀ L', px_next m L = some L' → ∀ a', pr_R L' a' → post 0 (nI m, a', us)) : wpX_next post (nI m, a, us) := by
  have h5 := hR.1
  rw [hl] at h5
  refine pk_le 2 m (fun c => ?_) (fun c => ?_)
  · rw [px_next, if_neg (by omega)] at h0 h1
    have hi := px_ile L (m - 1)
    refine nm_r (e' := nI (m - 1) - 1) ?_ ⟨m, px_w17 hl hR m (m - 1) (by omega) (by omega) (px_w44 hl hR (by omega) h0 h1)⟩
    rw [pr_pred (by omega)]
    exact pk_sub (b := 2) c
  · exact h0 (by rw [px_next, if_pos c])
end
section
/-! X.seek against px_sk, X.rank against px_rk -/
theorem px_w36 {post : Int32 → SX → Prop} {a : Nat → Int32} {x1 x2 f : Int32} (K : ∀ us', pr_R (List.replicate 5 0) us' → ∃ n59 : Nat, wX_seek_59 post f n59 x2 x1 0 a us') : ∀ (n i : Nat) (us : Nat → Int32), i ≤ 5 → 5 - i < n → (∀ j, j < i → us j = 0) → wX_seek_36 post x1 x2 f n (nI i) a us := by
  intro n
  induction n with
  | zero => intro i us _ h; omega
  | succ n ih =>
    intro i us hi hn hu
    refine pk_le 5 i (fun c => ?_) (fun c => ?_)
    · refine K us ⟨by simp, fun j hj => ?_⟩
      have hj' : j < 5 := by simpa using hj
      have e : (List.replicate 5 0).getD j 0 = 0 := (by decide : ∀ j, j < 5 → (List.replicate 5 0).getD j 0 = 0) j hj'
      rw [e, hu j (by omega)]
      exact ⟨rfl, by omega⟩
    · refine ⟨vp_in_nI c (by omega), nm_r (e' := upd us i 0) (by rw [nI_clamp (by omega)]) (nm_r (nI_1 i) (ih (i + 1) _ (by omega) (by omega) (lt_s (fun j hj => ?_) pk_us)))⟩
      rw [pk_un (by omega)]
      exact hu j hj
theorem px_w96b {post : Int32 → SX → Prop} {J : Int32 → Int32 → Int32 → (Nat → Int32) → (Nat → Int32) → Prop} {x2 x3 x5 : Int32} {a us : Nat → Int32} {m i c : Nat} (hm : m < 6) (hi : i < 5) (hc : c < 5)
    (K : J x2 x3 (nI (i + 1)) (upd a i (nI c)) (upd us c 1)) : ∀ (k n v : Nat), v + k = m → k < n → wX_seek_96 post J x2 x3 (nI i) (nI m) a us n x5 (nI c) (nI v) := by
  intro k
  induction k with
  | zero =>
    intro n v hv hn
    cases n with
    | zero => omega
    | succ n =>
      refine br_t (nI_le (by omega) (by omega)) (br_f (nI_pos (by omega)) ⟨vp_in_nI hc (by omega), nm_r (e' := upd us c 1) (by rw [nI_clamp (by omega)]) ⟨vp_in_nI hi (by omega), nm_r (e' := upd a i (nI c)) (by rw [nI_clamp (by omega)]) (nm_r (nI_1 i) K)⟩⟩)
  | succ k ih =>
    intro n v hv hn
    cases n with
    | zero => omega
    | succ n =>
      exact br_f (nI_ge (by omega) (by omega)) (br_t (nI_pos' (by omega)) (nm_r (nI_1 v) (ih n (v + 1) (by omega) (by omega))))
theorem px_w96 {post : Int32 → SX → Prop} {J : Int32 → Int32 → Int32 → (Nat → Int32) → (Nat → Int32) → Prop} {x2 x3 : Int32} {a us : Nat → Int32} {m i c : Nat} {U : List Nat} (hm : m < 6) (hi : i < 5) (hU : pr_R U us) (hl : U.length = 5)
    (K : J x2 x3 (nI (i + 1)) (upd a i (nI c)) (upd us c 1)) : ∀ (k n v d : Nat), v + k = m → k < n → d < 2 ^ 31 → px_ch U k v d = some c → wX_seek_96 post J x2 x3 (nI i) (nI m) a us n (nI d) (-1) (nI v) := by
  intro k
  induction k with
  | zero =>
    intro n v d hv hn hd h
    rw [px_ch] at h
    cases h
  | succ k ih =>
    intro n v d hv hn hd h
    cases n with
    | zero => omega
    | succ n =>
      have hv' : v < U.length := by omega
      have hb := pr_b hU hv'
      rw [px_ch] at h
      refine br_f (nI_ge (by omega) (by omega)) (br_f (by decide) ⟨pr_v hU hv', pk_eq (U.getD v 0) 0 (fun z => ?_) (fun z => ?_) (pr_g hU hv') rfl (by omega) (by omega)⟩)
      · rw [if_pos z] at h
        refine pk_eq d 0 (fun w => ?_) (fun w => ?_) rfl rfl hd (by omega)
        · rw [if_pos w] at h
          have hvc : v = c := Option.some.inj h
          subst hvc
          exact nm_r (nI_1 v) (px_w96b hm hi (by omega) K k n (v + 1) (by omega) (by omega))
        · rw [if_neg w] at h
          refine nm_r (e' := nI (d - 1)) ?_ (nm_r (nI_1 v) (ih n (v + 1) (d - 1) (by omega) (by omega) (by omega) h))
          rw [pr_m1, pr_pred (by omega)]
      · rw [if_neg z] at h
        exact nm_r (nI_1 v) (ih n (v + 1) d (by omega) (by omega) hd h)
theorem px_chlt {U : List Nat} {c : Nat} : ∀ k v d, px_ch U k v d = some c → c < v + k := by
  intro k
  induction k with
  | zero => intro v d h; rw [px_ch] at h; cases h
  | succ k ih =>
    intro v d h
    rw [px_ch] at h
    by_cases z : U.getD v 0 = 0
    · rw [if_pos z] at h
      by_cases w : d = 0
      · rw [if_pos w] at h
        cases h
        omega
      · rw [if_neg w] at h
        have := ih _ _ h
        omega
    · rw [if_neg z] at h
      have := ih _ _ h
      omega
theorem px_w59 {post : Int32 → SX → Prop} {m : Nat} {R : List Nat} (hm : m < 6) (hp : ∀ a' us', pr_R R a' → post 0 (nI m, a', us')) : ∀ (k n rem : Nat) (acc U : List Nat) (a us : Nat → Int32), k < n → acc.length + k = m → pr_R acc a → pr_R U us → U.length = 5 → rem < 2 ^ 31 →
    px_sk m k rem acc U = some R → wX_seek_59 post (nI m) n (nI (pr_fa k)) (nI rem) (nI acc.length) a us := by
  intro k
  induction k with
  | zero =>
    intro n rem acc U a us hn hk hA hU hl hr h
    cases n with
    | zero => omega
    | succ n =>
      rw [px_sk] at h
      cases h
      exact br_t (nI_le (by omega) (by omega)) (hp a us hA)
  | succ k ih =>
    intro n rem acc U a us hn hk hA hU hl hr h
    cases n with
    | zero => omega
    | succ n =>
      obtain ⟨f0, f1⟩ := pr_faB k (by omega)
      have e : nI m - nI acc.length = nI (k + 1) := by
        rw [pk_sub (by omega)]
        exact congrArg nI (by omega)
      have ef : pr_fa (k + 1) / (k + 1) = pr_fa k := by rw [pr_fa]; exact Nat.mul_div_cancel_left _ (by omega)
      have g1 : nI (pr_fa (k + 1)) / (nI m - nI acc.length) = nI (pr_fa k) := by
        have := pr_faB (k + 1) (by omega)
        rw [e, pk_div (by omega) (by omega) (by omega), ef]
      have g2 : nI rem / nI (pr_fa k) = nI (rem / pr_fa k) := pk_div hr f0 (by omega)
      have g3 : nI rem - nI (rem / pr_fa k) * nI (pr_fa k) = nI (rem - rem / pr_fa k * pr_fa k) := by
        rw [pk_mul, pk_sub (Nat.div_mul_le_self _ _)]
      have hd : rem / pr_fa k < 2 ^ 31 := Nat.lt_of_le_of_lt (Nat.div_le_self _ _) hr
      rw [px_sk] at h
      cases hc : px_ch U m 0 (rem / pr_fa k) with
      | none => rw [hc] at h; cases h
      | some c =>
        rw [hc] at h
        have hlt := px_chlt _ _ _ hc
        have S := ih n (rem - rem / pr_fa k * pr_fa k) (acc ++ [c]) (U.set c 1) (upd a acc.length (nI c)) (upd us c 1) (by omega) (by rw [List.length_append, List.length_singleton]; omega) (pr_app hA (by omega) (by omega)) (pr_set hU (by omega) (by omega)) (by rw [List.length_set]; exact hl) (by omega) h
        rw [List.length_append, List.length_singleton] at S
        exact br_f (nI_ge (by omega) (by omega)) ⟨by rw [e]; exact nI_ne0 (by omega) (by omega), nm_r g1 ⟨nI_ne0 f0 (by omega), nm_r g2 (nm_r g3 ⟨m + 1, px_w96 hm (by omega) hU hl S m (m + 1) 0 (rem / pr_fa k) (by omega) (by omega) hd hc⟩)⟩⟩
theorem px_w4s {post : Int32 → SX → Prop} {a us : Nat → Int32} {x1 : Int32} {m : Nat} (hm : m < 6) : ∀ (n f k : Nat), k ≤ 7 → m + 1 - k < n →
    ((x1 < 0 → (post (-2) (nI m, a, us))) ∧ (¬ x1 < 0 → (((x1 < nI (px_fl m n f k) → (∃ n36 : Nat, wX_seek_36 post x1 (nI (px_fl m n f k)) (nI m) n36 0 a us)) ∧ (¬ x1 < nI (px_fl m n f k) → (post (-2) (nI m, a, us))))))) →
    wX_seek_4 post x1 (nI m) a us n (nI f) (nI k) := by
  intro n
  induction n with
  | zero => intro f k _ h; omega
  | succ n ih =>
    intro f k hk hn K
    rw [px_fl] at K
    refine pk_lt m k (fun c => ?_) (fun c => ?_)
    · rw [if_pos c] at K
      exact K
    · rw [if_neg (by omega)] at K
      exact nm_r (pk_mul f k) (nm_r (nI_1 k) (ih (f * k) (k + 1) (by omega) (by omega) K))
theorem px_seekW {post : Int32 → SX → Prop} {a us : Nat → Int32} {x1 : Int32} {m : Nat} (hm : m < 6)
    (h0 : (∀ r, r < pr_fa m → x1 ≠ nI r) → post (-2) (nI m, a, us)) (h1 : ∀ r, r < pr_fa m → x1 = nI r → ∀ a' us', pr_R (py_P m r) a' → post 0 (nI m, a', us')) : wpX_seek post (nI m, a, us) x1 := by
  obtain ⟨f0, f1⟩ := pr_faB m hm
  refine ⟨7, px_w4s hm 7 1 2 (by omega) (by omega) ?_⟩
  rw [pr_flF m hm]
  refine br_c (fun c => h0 (fun r hr e => ?_)) (fun c => ?_)
  · rw [e] at c
    exact nI_pos (by omega) c
  · obtain ⟨r, hr, rfl⟩ := nI_of c
    refine pk_lt r (pr_fa m) (fun d => ?_) (fun d => ?_) rfl rfl hr (by omega)
    · refine ⟨6, px_w36 (fun us' hu => ?_) 6 0 us (by omega) (by omega) lt_0⟩
      exact ⟨m + 1, px_w59 hm (h1 r d rfl) m (m + 1) r [] (List.replicate 5 0) a us' (by omega) (by simp) ⟨by simp, fun i hi => by simp at hi⟩ hu (by simp) hr (pr_A1 m hm r d)⟩
    · refine h0 (fun q hq e => ?_)
      rw [nI_eq hr (by omega)] at e
      omega
theorem px_w51 {post : Int32 → Prop} {J : Int32 → Int32 → Int32 → Prop} {x1 x2 : Int32} {a us : Nat → Int32} {m i : Nat} {L : List Nat} (hl : L.length = m) (hR : pr_R L a) (hi : i < m) : ∀ (k n j c : Nat), j + k = m → k < n →
    J x1 (x2 + nI (px_ct L i k j c) * x1) (nI (i + 1)) → wX_rank_51 post J x1 x2 (nI i) (nI m) a us n (nI c) (nI j) := by
  subst hl
  have h5 := hR.1
  intro k
  induction k with
  | zero =>
    intro n j c hj hn K
    cases n with
    | zero => omega
    | succ n => exact br_t (nI_le (by omega) (by omega)) (nm_e (nm_r (nI_1 i) K))
  | succ k ih =>
    intro n j c hj hn K
    cases n with
    | zero => omega
    | succ n =>
      have hj' : j < L.length := by omega
      rw [px_ct] at K
      refine br_f (nI_ge (by omega) (by omega)) ⟨pr_v hR hj', pr_v hR hi, pk_le (L.getD i 0) (L.getD j 0) (fun d => ?_) (fun d => ?_) (pr_g hR hi) (pr_g hR hj') (by have := pr_b hR hi; omega) (by have := pr_b hR hj'; omega)⟩
      · rw [if_pos d] at K
        exact nm_r (nI_1 j) (ih n (j + 1) c (by omega) (by omega) K)
      · rw [if_neg (by omega)] at K
        exact nm_r (nI_1 c) (nm_r (nI_1 j) (ih n (j + 1) (c + 1) (by omega) (by omega) K))
theorem px_w26 {post : Int32 → Prop} {a us : Nat → Int32} {m : Nat} {L : List Nat} (hl : L.length = m) (hR : pr_R L a) : ∀ (k n r i : Nat), i + k = m → k < n →
    post (nI (px_rk L k r i)) → wX_rank_26 post (nI m) a us n (nI (pr_fa k)) (nI r) (nI i) := by
  have h5 := hR.1
  rw [hl] at h5
  intro k
  induction k with
  | zero =>
    intro n r i hi hn K
    cases n with
    | zero => omega
    | succ n => exact br_t (nI_le (by omega) (by omega)) K
  | succ k ih =>
    intro n r i hi hn K
    cases n with
    | zero => omega
    | succ n =>
      have e : nI m - nI i = nI (k + 1) := by
        rw [pk_sub (by omega)]
        exact congrArg nI (by omega)
      have ef : pr_fa (k + 1) / (k + 1) = pr_fa k := by rw [pr_fa]; exact Nat.mul_div_cancel_left _ (by omega)
      have g1 : nI (pr_fa (k + 1)) / (nI m - nI i) = nI (pr_fa k) := by
        have := pr_faB (k + 1) (by omega)
        rw [e, pk_div (by omega) (by omega) (by omega), ef]
      rw [px_rk] at K
      refine br_f (nI_ge (by omega) (by omega)) ⟨by rw [e]; exact nI_ne0 (by omega) (by omega), nm_r g1 (nm_r (nI_1 i) ⟨m + 1, px_w51 hl hR (by omega) k (m + 1) (i + 1) 0 (by omega) (by omega) ?_⟩)⟩
      rw [pk_mul, nI_add]
      exact ih n _ (i + 1) (by omega) (by omega) K
theorem px_w4r {post : Int32 → Prop} {a us : Nat → Int32} {m : Nat} (hm : m < 6) : ∀ (n f k : Nat), k ≤ 7 → m + 1 - k < n →
    (∃ n26 : Nat, wX_rank_26 post (nI m) a us n26 (nI (px_fl m n f k)) 0 0) →
    wX_rank_4 post (nI m) a us n (nI f) (nI k) := by
  intro n
  induction n with
  | zero => intro f k _ h; omega
  | succ n ih =>
    intro f k hk hn K
    rw [px_fl] at K
    refine pk_lt m k (fun c => ?_) (fun c => ?_)
    · rw [if_pos c] at K
      exact K
    · rw [if_neg (by omega)] at K
      exact nm_r (pk_mul f k) (nm_r (nI_1 k) (ih (f * k) (k + 1) (by omega) (by omega) K))
theorem px_rankW {post : Int32 → Prop} {a us : Nat → Int32} {m r : Nat} (hm : m < 6) (hr : r < pr_fa m) (hR : pr_R (py_P m r) a) (hp : post (nI r)) : wpX_rank post (nI m, a, us) := by
  refine ⟨7, px_w4r hm 7 1 2 (by omega) (by omega) ⟨m + 1, ?_⟩⟩
  rw [pr_flF m hm]
  exact px_w26 (py_Pl m r) hR m (m + 1) 0 0 (by omega) (by omega) (by rw [pr_A3 m hm r hr]; exact hp)
end
section
/-! Y's own methods: bump, distinct, before, over the digits of a code -/
theorem py_w7 {post : Int32 → SY → Prop} {b : Nat → Int32} {m : Nat} (hm : m < 6) : ∀ (k n : Nat) (L : List Nat) (t : Nat → Int32), k ≤ m → k < n → L.length = m → (∀ i, i < m → L.getD i 0 < m) → pr_R L t →
    (∀ t', pr_R (py_b m k L).2 t' → post (nI (py_b m k L).1) (nI m, b, t')) → wY_bump_7 post (nI m) n (nI k - 1) b t := by
  intro k
  induction k with
  | zero =>
    intro n L t hk hn hl hB hR K
    cases n with
    | zero => omega
    | succ n => exact br_t pr_neg (K t hR)
  | succ k ih =>
    intro n L t hk hn hl hB hR K
    cases n with
    | zero => omega
    | succ n =>
      have hk' : k < L.length := by omega
      have hb := hB k (by omega)
      have v := pr_v hR hk'
      rw [py_b] at K
      rw [nI_pred]
      refine br_f (nI_pos (by omega)) ⟨v, pk_le (m - 1) (L.getD k 0) (fun d => ?_) (fun d => ?_) (pr_pred (by omega)) (pr_g hR hk') (by omega) (by omega)⟩
      · rw [if_pos d] at K
        refine ⟨v, nm_r (e' := upd t k (nI 0)) (by rw [pr_c hR hk']; rfl) (nm_r (pr_m1 _) (ih n (L.set k 0) _ (by omega) (by omega) (by rw [List.length_set]; exact hl) (fun i hi => ?_) (pr_set hR hk' (by omega)) K))⟩
        rw [pr_gs L k 0 i hk']
        by_cases z : i = k
        · rw [if_pos z]; omega
        · rw [if_neg z]; exact hB i hi
      · rw [if_neg (by omega)] at K
        exact ⟨v, v, nm_r (e' := upd t k (nI (L.getD k 0 + 1))) (by rw [pr_g hR hk', nI_1, pr_c hR hk']) (K _ (pr_set hR hk' (by omega)))⟩
theorem py_bump {post : Int32 → SY → Prop} {b t : Nat → Int32} {m c : Nat} (hm : m < 6) (hc : c < m ^ m) (hR : pr_R (py_D m c) t)
    (h1 : c + 1 < m ^ m → ∀ t', pr_R (py_D m (c + 1)) t' → post 1 (nI m, b, t')) (h0 : c + 1 = m ^ m → ∀ t', post 0 (nI m, b, t')) : wpY_bump post (nI m, b, t) := by
  refine nm_e ⟨m + 1, py_w7 hm m (m + 1) (py_D m c) t (by omega) (by omega) (py_Dl m c) (fun i hi => py_Dlt hi) hR (fun t' ht' => ?_)⟩
  by_cases z : c + 1 < m ^ m
  · rw [pl_b1 hm z] at ht' ⊢
    exact h1 z t' ht'
  · rw [pl_b0 hm (by omega)]
    exact h0 (by omega) t'
theorem py_w12 {post : Int32 → Prop} {J : Int32 → Prop} {b t : Nat → Int32} {m i : Nat} {f : Int32} {L : List Nat} (hl : L.length = m) (hR : pr_R L t) (hi : i < m) : ∀ (k n j : Nat), j + k = i → k < n →
    (py_d1 L i k j = true → J (nI (i + 1))) → (py_d1 L i k j = false → post 0) → wY_distinct_12 post J (nI i) f b t n (nI j) := by
  subst hl
  have h5 := hR.1
  intro k
  induction k with
  | zero =>
    intro n j hj hn K1 K0
    cases n with
    | zero => omega
    | succ n => exact br_t (nI_le (by omega) (by omega)) (nm_r (nI_1 i) (K1 rfl))
  | succ k ih =>
    intro n j hj hn K1 K0
    cases n with
    | zero => omega
    | succ n =>
      have hj' : j < L.length := by omega
      rw [py_d1] at K1 K0
      refine br_f (nI_ge (by omega) (by omega)) ⟨pr_v hR hi, pr_v hR hj', pk_eq (L.getD i 0) (L.getD j 0) (fun d => ?_) (fun d => ?_) (pr_g hR hi) (pr_g hR hj') (by have := pr_b hR hi; omega) (by have := pr_b hR hj'; omega)⟩
      · exact K0 (if_pos d)
      · rw [if_neg d] at K1 K0
        exact nm_r (nI_1 j) (ih n (j + 1) (by omega) (by omega) K1 K0)
theorem py_w2d {post : Int32 → Prop} {b t : Nat → Int32} {m : Nat} {L : List Nat} (hl : L.length = m) (hR : pr_R L t) : ∀ (k n i : Nat), i + k = m → k < n →
    (py_d L k i = true → post 1) → (py_d L k i = false → post 0) → wY_distinct_2 post (nI m) b t n (nI i) := by
  have h5 := hR.1
  rw [hl] at h5
  intro k
  induction k with
  | zero =>
    intro n i hi hn K1 K0
    cases n with
    | zero => omega
    | succ n => exact br_t (nI_le (by omega) (by omega)) (K1 rfl)
  | succ k ih =>
    intro n i hi hn K1 K0
    cases n with
    | zero => omega
    | succ n =>
      rw [py_d] at K1 K0
      refine br_f (nI_ge (by omega) (by omega)) ⟨i + 1, py_w12 hl hR (by omega) i (i + 1) 0 (by omega) (by omega) (fun d => ?_) (fun d => ?_)⟩
      · rw [if_pos d] at K1 K0
        exact ih n (i + 1) (by omega) (by omega) K1 K0
      · exact K0 (if_neg (by rw [d]; decide))
theorem py_dist {post : Int32 → Prop} {b t : Nat → Int32} {m c : Nat} (hR : pr_R (py_D m c) t) (h1 : py_ds m c = true → post 1) (h0 : ¬ py_ds m c = true → post 0) : wpY_distinct post (nI m, b, t) :=
  ⟨m + 1, py_w2d (py_Dl m c) hR m (m + 1) 0 (by omega) (by omega) h1 (fun e => h0 (by unfold py_ds; rw [e]; decide))⟩
theorem py_w2b {post : Int32 → Prop} {b t : Nat → Int32} {m : Nat} {A T : List Nat} (hl : A.length = m) (hl' : T.length = m) (hA : pr_R A b) (hT : pr_R T t) : ∀ (k n i : Nat), i + k = m → k < n →
    (py_f A T k i = true → post 1) → (py_f A T k i = false → post 0) → wY_before_2 post (nI m) b t n (nI i) := by
  have h5 := hA.1
  rw [hl] at h5
  intro k
  induction k with
  | zero =>
    intro n i hi hn K1 K0
    cases n with
    | zero => omega
    | succ n => exact br_t (nI_le (by omega) (by omega)) (K0 rfl)
  | succ k ih =>
    intro n i hi hn K1 K0
    cases n with
    | zero => omega
    | succ n =>
      have iA : i < A.length := by omega
      have iT : i < T.length := by omega
      have bA := pr_b hA iA
      have bT := pr_b hT iT
      have v := pr_v hA iA
      rw [py_f] at K1 K0
      refine br_f (nI_ge (by omega) (by omega)) ⟨v, v, pk_le (A.getD i 0) (T.getD i 0) (fun d => ?_) (fun d => ?_) (pr_g hA iA) (pr_g hT iT) (by omega) (by omega)⟩
      · rw [if_pos d] at K1 K0
        refine ⟨v, v, pk_le (T.getD i 0) (A.getD i 0) (fun z => ?_) (fun z => ?_) (pr_g hT iT) (pr_g hA iA) (by omega) (by omega)⟩
        · rw [if_pos z] at K1 K0
          exact nm_r (nI_1 i) (ih n (i + 1) (by omega) (by omega) K1 K0)
        · exact K0 (if_neg (by omega))
      · exact K1 (if_neg (by omega))
theorem py_before {post : Int32 → Prop} {b t : Nat → Int32} {m c c' : Nat} (hc : c < m ^ m) (hc' : c' < m ^ m) (hA : pr_R (py_D m c') b) (hR : pr_R (py_D m c) t) (h1 : c < c' → post 1) (h0 : ¬ c < c' → post 0) : wpY_before post (nI m, b, t) :=
  ⟨m + 1, py_w2b (py_Dl m c') (py_Dl m c) hA hR m (m + 1) 0 (by omega) (by omega) (fun e => h1 (by rw [pl_bef hc hc'] at e; exact of_decide_eq_true e)) (fun e => h0 (by rw [pl_bef hc hc'] at e; exact of_decide_eq_false e))⟩
theorem py_RD {m c : Nat} {t : Nat → Int32} (hm : m < 6) (h : ∀ i, i < m → t i = nI ((py_D m c).getD i 0)) : pr_R (py_D m c) t := by
  refine ⟨by rw [py_Dl]; omega, fun i hi => ?_⟩
  rw [py_Dl] at hi
  have := py_Dlt (c := c) hi
  exact ⟨h i hi, by omega⟩
theorem py_RG {m c i : Nat} {t : Nat → Int32} (h : pr_R (py_D m c) t) (hi : i < m) : t i = nI ((py_D m c).getD i 0) := (h.2 i (by rw [py_Dl]; exact hi)).1
theorem py_D0 {m i : Nat} (hi : i < m) : (py_D m 0).getD i 0 = 0 := by
  rw [py_Dg hi, Nat.zero_div, Nat.zero_mod]
end
section
/-! Y.next, Y.seek, Y.rank against the code -/
theorem py_w44 {post : Int32 → SY → Prop} {t : Nat → Int32} {m c : Nat} (hm : m < 6) (hR : pr_R (py_D m c) t) (K : ∀ b', pr_R (py_D m c) b' → post 0 (nI m, b', t)) : ∀ (k n i : Nat) (b : Nat → Int32), i + k = m → k < n → (∀ j, j < i → b j = nI ((py_D m c).getD j 0)) → wY_next_44 post (nI m) n (nI i) b t := by
  intro k
  induction k with
  | zero =>
    intro n i b hi hn h
    cases n with
    | zero => omega
    | succ n => exact br_t (nI_le (by omega) (by omega)) (K b (py_RD hm (fun j hj => h j (by omega))))
  | succ k ih =>
    intro n i b hi hn h
    cases n with
    | zero => omega
    | succ n =>
      have v : vp_in (nI i) 5 := vp_in_nI (by omega) (by omega)
      refine br_f (nI_ge (by omega) (by omega)) ⟨v, v, nm_r (e' := upd b i (nI ((py_D m c).getD i 0))) (by rw [nI_clamp (by omega), py_RG hR (by omega)]) (nm_r (nI_1 i) (ih n (i + 1) _ (by omega) (by omega) (lt_s (fun j hj => ?_) pk_us)))⟩
      rw [pk_un (by omega)]
      exact h j hj
theorem py_w46 {post : Int32 → SY → Prop} {t : Nat → Int32} {m c : Nat} (hm : m < 6) (hR : pr_R (py_D m c) t) (K : ∀ b', pr_R (py_D m c) b' → post 0 (nI m, b', t)) : ∀ (k n i : Nat) (b : Nat → Int32), i + k = m → k < n → (∀ j, j < i → b j = nI ((py_D m c).getD j 0)) → wY_seek_46 post (nI m) n (nI i) b t := by
  intro k
  induction k with
  | zero =>
    intro n i b hi hn h
    cases n with
    | zero => omega
    | succ n => exact br_t (nI_le (by omega) (by omega)) (K b (py_RD hm (fun j hj => h j (by omega))))
  | succ k ih =>
    intro n i b hi hn h
    cases n with
    | zero => omega
    | succ n =>
      have v : vp_in (nI i) 5 := vp_in_nI (by omega) (by omega)
      refine br_f (nI_ge (by omega) (by omega)) ⟨v, v, nm_r (e' := upd b i (nI ((py_D m c).getD i 0))) (by rw [nI_clamp (by omega), py_RG hR (by omega)]) (nm_r (nI_1 i) (ih n (i + 1) _ (by omega) (by omega) (lt_s (fun j hj => ?_) pk_us)))⟩
      rw [pk_un (by omega)]
      exact h j hj
theorem py_w2n {post : Int32 → SY → Prop} {b : Nat → Int32} {m c : Nat} (hm : m < 6) (hR : pr_R (py_D m c) b) (K : ∀ t', pr_R (py_D m c) t' → ∃ n28 : Nat, wY_next_28 post n28 (nI m) b t') : ∀ (k n i : Nat) (t : Nat → Int32), i + k = m → k < n → (∀ j, j < i → t j = nI ((py_D m c).getD j 0)) → wY_next_2 post (nI m) n (nI i) b t := by
  intro k
  induction k with
  | zero =>
    intro n i t hi hn h
    cases n with
    | zero => omega
    | succ n => exact br_t (nI_le (by omega) (by omega)) (K t (py_RD hm (fun j hj => h j (by omega))))
  | succ k ih =>
    intro n i t hi hn h
    cases n with
    | zero => omega
    | succ n =>
      have v : vp_in (nI i) 5 := vp_in_nI (by omega) (by omega)
      refine br_f (nI_ge (by omega) (by omega)) ⟨v, v, nm_r (e' := upd t i (nI ((py_D m c).getD i 0))) (by rw [nI_clamp (by omega), py_RG hR (by omega)]) (nm_r (nI_1 i) (ih n (i + 1) _ (by omega) (by omega) (lt_s (fun j hj => ?_) pk_us)))⟩
      rw [pk_un (by omega)]
      exact h j hj
theorem py_w2s {post : Int32 → SY → Prop} {b : Nat → Int32} {x1 : Int32} {m : Nat} (hm : m < 6) (K : ∀ t', pr_R (py_D m 0) t' → ∃ n27 : Nat, wY_seek_27 post x1 n27 0 1 (nI m) b t') : ∀ (k n i : Nat) (t : Nat → Int32), i + k = m → k < n → (∀ j, j < i → t j = nI ((py_D m 0).getD j 0)) → wY_seek_2 post x1 (nI m) n (nI i) b t := by
  intro k
  induction k with
  | zero =>
    intro n i t hi hn h
    cases n with
    | zero => omega
    | succ n => exact br_t (nI_le (by omega) (by omega)) (K t (py_RD hm (fun j hj => h j (by omega))))
  | succ k ih =>
    intro n i t hi hn h
    cases n with
    | zero => omega
    | succ n =>
      have v : vp_in (nI i) 5 := vp_in_nI (by omega) (by omega)
      refine br_f (nI_ge (by omega) (by omega)) ⟨v, nm_r (e' := upd t i (nI ((py_D m 0).getD i 0))) (by rw [nI_clamp (by omega), py_D0 (by omega)]; rfl) (nm_r (nI_1 i) (ih n (i + 1) _ (by omega) (by omega) (lt_s (fun j hj => ?_) pk_us)))⟩
      rw [pk_un (by omega)]
      exact h j hj
theorem py_w2r {post : Int32 → SY → Prop} {b : Nat → Int32} {m : Nat} (hm : m < 6) (K : ∀ t', pr_R (py_D m 0) t' → ∃ n27 : Nat, wY_rank_27 post n27 0 1 (nI m) b t') : ∀ (k n i : Nat) (t : Nat → Int32), i + k = m → k < n → (∀ j, j < i → t j = nI ((py_D m 0).getD j 0)) → wY_rank_2 post (nI m) n (nI i) b t := by
  intro k
  induction k with
  | zero =>
    intro n i t hi hn h
    cases n with
    | zero => omega
    | succ n => exact br_t (nI_le (by omega) (by omega)) (K t (py_RD hm (fun j hj => h j (by omega))))
  | succ k ih =>
    intro n i t hi hn h
    cases n with
    | zero => omega
    | succ n =>
      have v : vp_in (nI i) 5 := vp_in_nI (by omega) (by omega)
      refine br_f (nI_ge (by omega) (by omega)) ⟨v, nm_r (e' := upd t i (nI ((py_D m 0).getD i 0))) (by rw [nI_clamp (by omega), py_D0 (by omega)]; rfl) (nm_r (nI_1 i) (ih n (i + 1) _ (by omega) (by omega) (lt_s (fun j hj => ?_) pk_us)))⟩
      rw [pk_un (by omega)]
      exact h j hj
theorem py_w28 {post : Int32 → SY → Prop} {b : Nat → Int32} {m r : Nat} (hm : m < 6) (h0 : ¬ r + 1 < pr_fa m → ∀ t', post (-1) (nI m, b, t')) (h1 : r + 1 < pr_fa m → ∀ b' t', pr_R (py_P m (r + 1)) b' → post 0 (nI m, b', t')) :
    ∀ (n c : Nat) (t : Nat → Int32), m ^ m - c < n → c < m ^ m → pr_R (py_D m c) t → py_K m (c + 1) = r + 1 → wY_next_28 post n (nI m) b t := by
  intro n
  induction n with
  | zero => intro c t h; omega
  | succ n ih =>
    intro c t hn hc hR hK
    refine py_bump hm hc hR (fun z t' ht' => ?_) (fun z t' => ?_)
    · refine br_f (by decide) (py_dist ht' (fun d => ?_) (fun d => ?_))
      · obtain ⟨e1, e2⟩ := pl_2 hm z d
        rw [hK] at e1 e2
        refine br_f (by decide) ⟨m + 1, py_w44 hm ht' (fun b' hb' => h1 e2 b' t' ?_) m (m + 1) 0 b (by omega) (by omega) lt_0⟩
        unfold py_P
        rw [e1]
        exact hb'
      · exact br_t rfl (ih (c + 1) t' (by omega) z ht' (by rw [pl_n d]; exact hK))
    · refine br_t rfl (h0 ?_ t')
      rw [z, pl_1 hm] at hK
      omega
theorem py_nextW {post : Int32 → SY → Prop} {b t : Nat → Int32} {m r : Nat} (hm : m < 6) (hr : r < pr_fa m) (hR : pr_R (py_P m r) b) (h0 : ¬ r + 1 < pr_fa m → ∀ t', post (-1) (nI m, b, t')) (h1 : r + 1 < pr_fa m → ∀ b' t', pr_R (py_P m (r + 1)) b' → post 0 (nI m, b', t')) : wpY_next post (nI m, b, t) := by
  obtain ⟨g1, g2⟩ := pr_A4 m hm r hr
  exact ⟨m + 1, py_w2n hm hR (fun t' ht' => ⟨m ^ m + 1, py_w28 hm h0 h1 (m ^ m + 1) (py_C m r) t' (by omega) g1 ht' (by rw [pl_s g2, pl_3 hm hr])⟩) m (m + 1) 0 t (by omega) (by omega) lt_0⟩
theorem py_w27e {post : Int32 → SY → Prop} {b t : Nat → Int32} {x1 x2 : Int32} {m n : Nat} (h : post (-2) (nI m, b, t)) : wY_seek_27 post x1 (n + 1) x2 0 (nI m) b t := br_t rfl h
theorem py_w27n {post : Int32 → SY → Prop} {b : Nat → Int32} {x1 : Int32} {m : Nat} (hm : m < 6) (hx : ∀ r, r < pr_fa m → x1 ≠ nI r) (h0 : ∀ t', post (-2) (nI m, b, t')) :
    ∀ (n c : Nat) (t : Nat → Int32), m ^ m + 1 - c < n → c < m ^ m → pr_R (py_D m c) t → wY_seek_27 post x1 n (nI (py_K m c)) 1 (nI m) b t := by
  intro n
  induction n with
  | zero => intro c t h; omega
  | succ n ih =>
    intro c t hn hc hR
    have S : wpY_bump (fun r_8 u => match u with | (f_n_9, a_a_10, a_t_11) => (wY_seek_27 post x1 n (nI (py_K m (c + 1))) r_8 f_n_9 a_a_10 a_t_11)) (nI m, b, t) := by
      refine py_bump hm hc hR (fun z t' ht' => ih (c + 1) t' (by omega) z ht') (fun z t' => ?_)
      obtain ⟨n', rfl⟩ : ∃ n', n = n' + 1 := ⟨n - 1, by omega⟩
      exact py_w27e (h0 t')
    refine br_f (by decide) (py_dist hR (fun d => ?_) (fun d => ?_))
    · obtain ⟨e1, e2⟩ := pl_2 hm hc d
      refine br_f (by decide) (br_f (fun e => hx _ e2 e.symm) (nm_r (nI_1 _) ?_))
      rw [pl_s d] at S
      exact S
    · refine br_t rfl ?_
      rw [pl_n d] at S
      exact S
theorem py_w27s {post : Int32 → SY → Prop} {b : Nat → Int32} {m r : Nat} (hm : m < 6) (hr : r < pr_fa m) (h1 : ∀ b' t', pr_R (py_P m r) b' → post 0 (nI m, b', t')) :
    ∀ (n c : Nat) (t : Nat → Int32), m ^ m - c < n → c ≤ py_C m r → pr_R (py_D m c) t → wY_seek_27 post (nI r) n (nI (py_K m c)) 1 (nI m) b t := by
  obtain ⟨g1, g2⟩ := pr_A4 m hm r hr
  have fB := pr_faB m hm
  intro n
  induction n with
  | zero => intro c t h; omega
  | succ n ih =>
    intro c t hn hc hR
    have S : c ≠ py_C m r → wpY_bump (fun r_8 u => match u with | (f_n_9, a_a_10, a_t_11) => (wY_seek_27 post (nI r) n (nI (py_K m (c + 1))) r_8 f_n_9 a_a_10 a_t_11)) (nI m, b, t) := by
      intro q
      exact py_bump hm (by omega) hR (fun z t' ht' => ih (c + 1) t' (by omega) (by omega) ht') (fun z t' => by omega)
    refine br_f (by decide) (py_dist hR (fun d => ?_) (fun d => ?_))
    · obtain ⟨e1, e2⟩ := pl_2 hm (by omega : c < m ^ m) d
      refine br_f (by decide) (pk_eq (py_K m c) r (fun e => ?_) (fun e => ?_) rfl rfl (by omega) (by omega))
      · rw [e] at e1
        refine ⟨m + 1, py_w46 hm hR (fun b' hb' => h1 b' t ?_) m (m + 1) 0 b (by omega) (by omega) lt_0⟩
        unfold py_P
        rw [e1]
        exact hb'
      · have S' := S (fun q => e (by rw [q]; exact pl_3 hm hr))
        rw [pl_s d] at S'
        exact nm_r (nI_1 _) S'
    · have S' := S (fun q => d (by rw [q]; exact g2))
      rw [pl_n d] at S'
      exact br_t rfl S'
theorem py_seekW {post : Int32 → SY → Prop} {b t : Nat → Int32} {x1 : Int32} {m : Nat} (hm : m < 6)
    (h0 : (∀ r, r < pr_fa m → x1 ≠ nI r) → ∀ t', post (-2) (nI m, b, t')) (h1 : ∀ r, r < pr_fa m → x1 = nI r → ∀ b' t', pr_R (py_P m r) b' → post 0 (nI m, b', t')) : wpY_seek post (nI m, b, t) x1 := by
  have mB := pr_MB m hm
  refine ⟨m + 1, py_w2s hm (fun t' ht' => ⟨m ^ m + 2, ?_⟩) m (m + 1) 0 t (by omega) (by omega) lt_0⟩
  by_cases z : ∃ r, r < pr_fa m ∧ x1 = nI r
  · obtain ⟨r, hr, rfl⟩ := z
    exact py_w27s hm hr (h1 r hr rfl) (m ^ m + 2) 0 t' (by omega) (by omega) ht'
  · have hx : ∀ r, r < pr_fa m → x1 ≠ nI r := fun r hr e => z ⟨r, hr, e⟩
    exact py_w27n hm hx (h0 hx) (m ^ m + 2) 0 t' (by omega) (by omega) ht'
theorem py_w27r {post : Int32 → SY → Prop} {b : Nat → Int32} {m r : Nat} (hm : m < 6) (hr : r < pr_fa m) (hA : pr_R (py_P m r) b) (hp : ∀ t', post (nI r) (nI m, b, t')) :
    ∀ (n c : Nat) (t : Nat → Int32), m ^ m + 1 - c < n → c < m ^ m → pr_R (py_D m c) t → wY_rank_27 post n (nI (py_K m (if c < py_C m r then c else py_C m r))) 1 (nI m) b t := by
  obtain ⟨g1, g2⟩ := pr_A4 m hm r hr
  intro n
  induction n with
  | zero => intro c t h; omega
  | succ n ih =>
    intro c t hn hc hR
    have S : wpY_bump (fun r_8 u => match u with | (f_n_9, a_a_10, a_t_11) => (wY_rank_27 post n (nI (py_K m (if c + 1 < py_C m r then c + 1 else py_C m r))) r_8 f_n_9 a_a_10 a_t_11)) (nI m, b, t) := by
      refine py_bump hm hc hR (fun z t' ht' => ih (c + 1) t' (by omega) z ht') (fun z t' => ?_)
      obtain ⟨n', rfl⟩ : ∃ n', n = n' + 1 := ⟨n - 1, by omega⟩
      refine br_t rfl ?_
      rw [if_neg (by omega), pl_3 hm hr]
      exact hp t'
    by_cases w : c < py_C m r
    · have e : (if c + 1 < py_C m r then c + 1 else py_C m r) = c + 1 := by
        by_cases q : c + 1 < py_C m r
        · rw [if_pos q]
        · rw [if_neg q]; omega
      rw [e] at S
      rw [if_pos w]
      refine br_f (by decide) (py_dist hR (fun d => ?_) (fun d => ?_))
      · rw [pl_s d] at S
        exact br_f (by decide) (py_before hc g1 hA hR (fun _ => br_f (by decide) (nm_r (nI_1 _) S)) (fun q => absurd w q))
      · rw [pl_n d] at S
        exact br_t rfl S
    · rw [if_neg (by omega)] at S
      rw [if_neg w]
      refine br_f (by decide) (py_dist hR (fun d => ?_) (fun d => ?_))
      · exact br_f (by decide) (py_before hc g1 hA hR (fun q => absurd q w) (fun _ => br_t rfl S))
      · exact br_t rfl S
theorem py_rankW {post : Int32 → SY → Prop} {b t : Nat → Int32} {m r : Nat} (hm : m < 6) (hr : r < pr_fa m) (hR : pr_R (py_P m r) b) (hp : ∀ t', post (nI r) (nI m, b, t')) : wpY_rank post (nI m, b, t) := by
  have mB := pr_MB m hm
  refine ⟨m + 1, py_w2r hm (fun t' ht' => ⟨m ^ m + 2, ?_⟩) m (m + 1) 0 t (by omega) (by omega) lt_0⟩
  have S := py_w27r hm hr hR hp (m ^ m + 2) 0 t' (by omega) (by omega) ht'
  have e : (if 0 < py_C m r then 0 else py_C m r) = 0 := by
    by_cases q : 0 < py_C m r
    · rw [if_pos q]
    · rw [if_neg q]; omega
  rw [e] at S
  exact S
end
section
/-! the relation and what is owed -/
def i_Rel (_ : Nat) (u : SX) (v : SY) : Prop := ∃ (m r : Nat) (a us b t : Nat → Int32), m < 6 ∧ r < pr_fa m ∧ u = (nI m, a, us) ∧ v = (nI m, b, t) ∧ pr_R (py_P m r) a ∧ pr_R (py_P m r) b
theorem i_up {k : Nat} {u : SX} {v : SY} (h : i_Rel k u v) : i_Rel (k + 2) u v := h
theorem pi_x40 {post : SX → Prop} {f : Int32} (K : ∀ a us, (∀ j, j < 5 → a j = nI j) → post (f, a, us)) : ∀ (k n i : Nat) (a us : Nat → Int32), i + k = 5 → k < n → (∀ j, j < i → a j = nI j) → wX_init_40 post f n (nI i) a us := by
  intro k
  induction k with
  | zero =>
    intro n i a us hi hn h
    cases n with
    | zero => omega
    | succ n =>
      have e : i = 5 := by omega
      subst e
      exact br_t (by decide) (K a us h)
  | succ k ih =>
    intro n i a us hi hn h
    cases n with
    | zero => omega
    | succ n =>
      have v : vp_in (nI i) 5 := vp_in_nI (by omega) (by omega)
      refine br_f (lt5' i (by omega)) ⟨v, nm_r (e' := upd a i (nI i)) (by rw [nI_clamp (by omega)]) ⟨v, nm_e (nm_r (nI_1 i) (ih n (i + 1) _ _ (by omega) (by omega) (lt_s (fun j hj => ?_) pk_us)))⟩⟩
      rw [pk_un (by omega)]
      exact h j hj
theorem pi_y42 {post : SY → Prop} {m : Nat} (hm : m < 6) (K : ∀ a t, (∀ j, j < m → a j = nI j) → post (nI m, a, t)) : ∀ (k n i : Nat) (a t : Nat → Int32), i + k = m → k < n → (∀ j, j < i → a j = nI j) → wY_init_42 post (nI m) n (nI i) a t := by
  intro k
  induction k with
  | zero =>
    intro n i a t hi hn h
    cases n with
    | zero => omega
    | succ n => exact br_t (nI_le (by omega) (by omega)) (K a t (fun j hj => h j (by omega)))
  | succ k ih =>
    intro n i a t hi hn h
    cases n with
    | zero => omega
    | succ n =>
      have v : vp_in (nI i) 5 := vp_in_nI (by omega) (by omega)
      refine br_f (nI_ge (by omega) (by omega)) ⟨v, nm_r (e' := upd a i (nI i)) (by rw [nI_clamp (by omega)]) (nm_r (nI_1 i) (ih n (i + 1) _ _ (by omega) (by omega) (lt_s (fun j hj => ?_) pk_us)))⟩
      rw [pk_un (by omega)]
      exact h j hj
theorem pi_R0 {m : Nat} {a : Nat → Int32} (hm : m < 6) (h : ∀ j, j < m → a j = nI j) : pr_R (py_P m 0) a := by
  rw [pr_A0 m hm]
  refine ⟨by rw [List.length_range]; omega, fun i hi => ?_⟩
  rw [List.length_range] at hi
  have e : (List.range m).getD i 0 = i := by simp [List.getD_eq_getElem?_getD, hi]
  rw [e]
  exact ⟨h i hi, by omega⟩
theorem pi_m {m : Nat} (hm : m < 6) : ∃ n40 : Nat, wX_init_40 (fun u => ∃ n42 : Nat, wY_init_42 (fun v => i_Rel 1 u v) (nI m) n42 0 (fun _ => 0) (fun _ => 0)) (nI m) n40 0 (fun _ => 0) (fun _ => 0) :=
  ⟨6, pi_x40 (fun a us ha => ⟨m + 1, pi_y42 hm (fun b t hb => ⟨m, 0, a, us, b, t, hm, (pr_faB m hm).1, rfl, rfl, pi_R0 hm (fun j hj => ha j (by omega)), pi_R0 hm hb⟩) m (m + 1) 0 _ _ (by omega) (by omega) lt_0⟩) 5 6 0 _ _ (by omega) (by omega) lt_0⟩
theorem i_vc0 (k0 : Int32) : wpX_init (fun u => wpY_init (fun v => i_Rel 1 u v) k0) k0 := by
  unfold wpX_init wpY_init wX_init_26 wY_init_23
  refine br_c (fun c => br_c (fun d => ?_) (fun d => ?_)) (fun c => br_t (by decide) ?_)
  · obtain ⟨j, hj, rfl⟩ := nI_of2 (M := 5) (n := 5) (by decide) (Int32.not_lt.mpr c) d
    obtain ⟨n, hn⟩ := pi_m (m := j) (by omega)
    refine ⟨n, ?_⟩
    simp only [c, d, not_true_eq_false, false_implies, true_implies, and_true]
    exact hn
  · obtain ⟨n, hn⟩ := pi_m (m := 5) (by omega)
    refine ⟨n, ?_⟩
    simp only [c, d, not_true_eq_false, not_false_eq_true, false_implies, true_implies, and_true, true_and]
    exact hn
  · obtain ⟨n, hn⟩ := pi_m (m := 0) (by omega)
    refine ⟨n, ?_⟩
    simp only [c, not_false_eq_true, false_implies, true_implies, true_and]
    exact hn
theorem i_vc_size {k : Nat} {u : SX} {v : SY} (I : i_Rel k u v) (hk : k + 2 ≤ 1025) : wpX_size (fun r => wpY_size (fun r' => r' = r ∧ i_Rel (k + 2) u v) v) u := by
  have I' := I
  obtain ⟨m, r, a, us, b, t, hm, hr, rfl, rfl, hA, hB⟩ := I
  exact ⟨rfl, I'⟩
theorem i_vc_next {k : Nat} {u : SX} {v : SY} (I : i_Rel k u v) (hk : k + 2 ≤ 1025) : wpX_next (fun r u' => wpY_next (fun r' v' => r' = r ∧ i_Rel (k + 2) u' v') v) u := by
  obtain ⟨m, r, a, us, b, t, hm, hr, rfl, rfl, hA, hB⟩ := I
  have e := pr_A2 m hm r hr
  refine px_nextW (py_Pl m r) hA (fun h => ?_) (fun L' h a' ha' => ?_)
  · refine py_nextW hm hr hB (fun z t' => ⟨rfl, m, r, a, us, b, t', hm, hr, rfl, rfl, hA, hB⟩) (fun z => ?_)
    rw [if_pos z, h] at e
    cases e
  · refine py_nextW hm hr hB (fun z => ?_) (fun z b' t' hb' => ?_)
    · rw [if_neg z, h] at e
      cases e
    · rw [if_pos z, h] at e
      cases e
      exact ⟨rfl, m, r + 1, a', us, b', t', hm, z, rfl, rfl, ha', hb'⟩
theorem i_vc_get {k : Nat} {u : SX} {v : SY} (I : i_Rel k u v) (hk : k + 2 ≤ 1025) (v1 : Int32) : wpX_get (fun r => wpY_get (fun r' => r' = r ∧ i_Rel (k + 2) u v) v v1) u v1 := by
  have I' := I
  obtain ⟨m, r, a, us, b, t, hm, hr, rfl, rfl, hA, hB⟩ := I
  refine br_c (fun c => br_t c ⟨rfl, I'⟩) (fun c => br_c (fun d => ?_) (fun d => br_f c (br_f d ⟨rfl, I'⟩)))
  have c' := c
  have d' := d
  obtain ⟨j, hj, rfl⟩ := nI_of c
  rw [nI_ltI hj (by omega)] at d
  have v : vp_in (nI j) 5 := vp_in_nI (by omega) (by omega)
  refine ⟨v, br_f c' (br_t d' ⟨v, ?_, I'⟩)⟩
  rw [pr_g hA (by rw [py_Pl]; exact d), pr_g hB (by rw [py_Pl]; exact d)]
theorem i_vc_seek {k : Nat} {u : SX} {v : SY} (I : i_Rel k u v) (hk : k + 2 ≤ 1025) (v1 : Int32) : wpX_seek (fun r u' => wpY_seek (fun r' v' => r' = r ∧ i_Rel (k + 2) u' v') v v1) u v1 := by
  obtain ⟨m, r, a, us, b, t, hm, hr, rfl, rfl, hA, hB⟩ := I
  refine px_seekW hm (fun h => ?_) (fun q hq h a' us' ha' => ?_)
  · exact py_seekW hm (fun _ t' => ⟨rfl, m, r, a, us, b, t', hm, hr, rfl, rfl, hA, hB⟩) (fun q hq h' => absurd h' (h q hq))
  · refine py_seekW hm (fun h' => absurd h (h' q hq)) (fun q' hq' h' b' t' hb' => ?_)
    have fB := pr_faB m hm
    rw [h, nI_eq (by omega) (by omega)] at h'
    subst h'
    exact ⟨rfl, m, q, a', us', b', t', hm, hq, rfl, rfl, ha', hb'⟩
theorem i_vc_rank {k : Nat} {u : SX} {v : SY} (I : i_Rel k u v) (hk : k + 2 ≤ 1025) : wpX_rank (fun r => wpY_rank (fun r' v' => r' = r ∧ i_Rel (k + 2) u v') v) u := by
  obtain ⟨m, r, a, us, b, t, hm, hr, rfl, rfl, hA, hB⟩ := I
  exact px_rankW hm hr hA (py_rankW hm hr hB (fun t' => ⟨rfl, m, r, a, us, b, t', hm, hr, rfl, rfl, hA, hB⟩))
end
