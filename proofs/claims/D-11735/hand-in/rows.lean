section
/-! whole numbers as ints -/
def dt_z (z : Int) : Int32 := Int32.ofInt z
theorem dt_z_nat (n : Nat) : nI n = dt_z (n : Int) := Int32.ofInt_eq_ofNat.symm
theorem dt_z_add (a b : Int) : dt_z a + dt_z b = dt_z (a + b) := (Int32.ofInt_add a b).symm
theorem dt_z_sub (a b : Int) : dt_z a - dt_z b = dt_z (a - b) := (Int32.ofInt_sub a b).symm
theorem dt_z_neg (a : Int) : - dt_z a = dt_z (-a) := (Int32.ofInt_neg a).symm
theorem dt_z_toInt {a : Int} (h : -100000 ≤ a ∧ a ≤ 100000) : (dt_z a).toInt = a := Int32.toInt_ofInt_of_le (by omega) (by omega)
theorem dt_le {x y : Int32} {A B : Prop} (a b : Int) (f : a ≤ b → A) (g : b < a → B) (hx : x = dt_z a) (hy : y = dt_z b) (ha : -100000 ≤ a ∧ a ≤ 100000) (hb : -100000 ≤ b ∧ b ≤ 100000) : (x ≤ y → A) ∧ (¬ x ≤ y → B) := by
  subst hx hy
  rw [Int32.le_iff_toInt_le, dt_z_toInt ha, dt_z_toInt hb]
  exact ⟨f, fun z => g (by omega)⟩
theorem dt_lt {x y : Int32} {A B : Prop} (a b : Int) (f : a < b → A) (g : b ≤ a → B) (hx : x = dt_z a) (hy : y = dt_z b) (ha : -100000 ≤ a ∧ a ≤ 100000) (hb : -100000 ≤ b ∧ b ≤ 100000) : (x < y → A) ∧ (¬ x < y → B) := by
  subst hx hy
  rw [Int32.lt_iff_toInt_lt, dt_z_toInt ha, dt_z_toInt hb]
  exact ⟨f, fun z => g (by omega)⟩
theorem dt_inj {a b : Int} (h : dt_z a = dt_z b) (ha : -100000 ≤ a ∧ a ≤ 100000) (hb : -100000 ≤ b ∧ b ≤ 100000) : a = b := by
  have e := congrArg Int32.toInt h
  rw [dt_z_toInt ha, dt_z_toInt hb] at e
  exact e
theorem dt_eq {x y : Int32} {A B : Prop} (a b : Int) (f : a = b → A) (g : a ≠ b → B) (hx : x = dt_z a) (hy : y = dt_z b) (ha : -100000 ≤ a ∧ a ≤ 100000) (hb : -100000 ≤ b ∧ b ≤ 100000) : (x = y → A) ∧ (¬ x = y → B) := by
  subst hx hy
  exact ⟨fun z => f (dt_inj z ha hb), fun z => g (fun e => z (by rw [e]))⟩
/-! times of the three points; matrices of differences -/
def dt_tm (x y : Int) : Nat → Int
  | 0 => x
  | 1 => y
  | _ => 0
def dt_ok (M : Nat → Nat → Int) : Prop := (∀ p, p < 3 → M p p = 0) ∧ (∀ p q, p < 3 → q < 3 → M p q ≤ 7) ∧ (∀ p q r, p < 3 → q < 3 → r < 3 → M p r ≤ M p q + M q r)
theorem dt_lo {M : Nat → Nat → Int} (h : dt_ok M) {p q : Nat} (hp : p < 3) (hq : q < 3) : -7 ≤ M p q ∧ M p q ≤ 7 := by
  have h1 := h.2.2 p q p hp hq hp
  have h2 := h.2.1 q p hq hp
  have h3 := h.1 p hp
  have h4 := h.2.1 p q hp hq
  omega
def dt_D (M : Nat → Nat → Int) (x y : Int) : Prop := ∀ p q, p < 3 → q < 3 → dt_tm x y p - dt_tm x y q ≤ M p q
theorem dt_3 {p : Nat} (h : p < 3) : p = 0 ∨ p = 1 ∨ p = 2 := by omega
theorem dt_att {M : Nat → Nat → Int} (h : dt_ok M) {i j : Nat} (hi : i < 3) (hj : j < 3) : ∃ x y, dt_D M x y ∧ dt_tm x y i - dt_tm x y j = M i j := by
  have key : ∀ p, p < 3 → dt_tm (M 0 j - M 2 j) (M 1 j - M 2 j) p = M p j - M 2 j := by
    intro p hp
    rcases dt_3 hp with e | e | e
    · rw [e]; rfl
    · rw [e]; rfl
    · rw [e]
      show (0 : Int) = M 2 j - M 2 j
      omega
  refine ⟨M 0 j - M 2 j, M 1 j - M 2 j, fun p q hp hq => ?_, ?_⟩
  · rw [key p hp, key q hq]
    have := h.2.2 p q j hp hq hj
    omega
  · rw [key i hi, key j hj]
    have := h.1 j hj
    omega
def dt_T (M : Nat → Nat → Int) (i j : Nat) (k : Int) : Nat → Nat → Int := fun p q => if M p q ≤ M p i + k + M j q then M p q else M p i + k + M j q
theorem dt_T_ok {M : Nat → Nat → Int} (h : dt_ok M) {i j : Nat} {k : Int} (hi : i < 3) (hj : j < 3) (hk : 0 ≤ M j i + k) : dt_ok (dt_T M i j k) := by
  refine ⟨fun p hp => ?_, fun p q hp hq => ?_, fun p q r hp hq hr => ?_⟩
  · have h1 := h.1 p hp
    have h2 := h.2.2 j p i hj hp hi
    show (if M p p ≤ M p i + k + M j p then M p p else M p i + k + M j p) = 0
    rw [if_pos (by omega)]
    exact h1
  · have h1 := h.2.1 p q hp hq
    unfold dt_T
    split <;> omega
  · have a1 := h.2.2 p q r hp hq hr
    have a2 := h.2.2 p q i hp hq hi
    have a3 := h.2.2 j q r hj hq hr
    have a4 := h.2.2 j q i hj hq hi
    unfold dt_T
    split <;> split <;> split <;> omega
theorem dt_T_D {M : Nat → Nat → Int} (h : dt_ok M) {i j : Nat} {k : Int} (hi : i < 3) (hj : j < 3) (x y : Int) : dt_D (dt_T M i j k) x y ↔ dt_D M x y ∧ dt_tm x y i - dt_tm x y j ≤ k := by
  constructor
  · intro hd
    refine ⟨fun p q hp hq => ?_, ?_⟩
    · have h1 := hd p q hp hq
      unfold dt_T at h1
      split at h1 <;> omega
    · have h1 := hd i j hi hj
      have h2 := h.1 i hi
      have h3 := h.1 j hj
      unfold dt_T at h1
      split at h1 <;> omega
  · intro hd p q hp hq
    have h0 := hd.2
    have h1 := hd.1 p q hp hq
    have h2 := hd.1 p i hp hi
    have h3 := hd.1 j q hj hq
    unfold dt_T
    split <;> omega
theorem dt_T_row {M : Nat → Nat → Int} {i j : Nat} {k : Int} (hk : 0 ≤ M j i + k) (p : Nat) : dt_T M i j k p i = M p i := if_pos (by omega)
theorem dt_T_col {M : Nat → Nat → Int} {i j : Nat} {k : Int} (hk : 0 ≤ M j i + k) (q : Nat) : dt_T M i j k j q = M j q := if_pos (by omega)
def dt_M0 : Nat → Nat → Int := fun p q => if p = q ∨ p = 2 then 0 else 7
theorem dt_M0_ok : dt_ok dt_M0 := by
  refine ⟨fun p hp => ?_, fun p q hp hq => ?_, fun p q r hp hq hr => ?_⟩
  · exact if_pos (Or.inl rfl)
  · unfold dt_M0
    split <;> omega
  · unfold dt_M0
    split <;> split <;> split <;> omega
theorem dt_M0_D (x y : Int) : dt_D dt_M0 x y ↔ (0 ≤ x ∧ x ≤ 7) ∧ (0 ≤ y ∧ y ≤ 7) := by
  constructor
  · intro h
    have h1 : (0 : Int) - x ≤ 0 := h 2 0 (by omega) (by omega)
    have h2 : x - 0 ≤ 7 := h 0 2 (by omega) (by omega)
    have h3 : (0 : Int) - y ≤ 0 := h 2 1 (by omega) (by omega)
    have h4 : y - 0 ≤ 7 := h 1 2 (by omega) (by omega)
    omega
  · intro h p q hp hq
    rcases dt_3 hp with e | e | e <;> rcases dt_3 hq with e' | e' | e' <;> subst e <;> subst e' <;> simp [dt_tm, dt_M0] <;> omega
/-! one comparison, read off its number 0 .. 63 -/
def dt_lf (n : Nat) : Nat := n % 8 % 6 / 2
def dt_rt (n : Nat) : Nat := (dt_lf n + 1 + n % 2) % 3
def dt_k (n : Nat) : Int := ((n / 8 : Nat) : Int) - 4
theorem dt_lf_3 (n : Nat) : dt_lf n < 3 := by
  unfold dt_lf
  omega
theorem dt_rt_3 (n : Nat) : dt_rt n < 3 := by
  unfold dt_rt
  omega
theorem dt_k_b {n : Nat} (h : n < 64) : -4 ≤ dt_k n ∧ dt_k n ≤ 3 := by
  unfold dt_k
  omega
theorem dt_lr (n : Nat) : dt_lf n ≠ dt_rt n := by
  have h := dt_lf_3 n
  unfold dt_rt
  omega
def dt_alt (v : Nat) (x y : Int) : Prop := dt_tm x y (dt_lf v) - dt_tm x y (dt_rt v) ≤ dt_k v
/-- constraint c of the numbers V, the one at place s left out -/
def dt_con (V : Nat → Nat → Nat) (s : Int) (c : Nat) (x y : Int) : Prop := (c : Int) = s ∨ dt_alt (V c 0) x y ∨ dt_alt (V c 1) x y
/-- met anyway by all of a matrix -/
def dt_any (M : Nat → Nat → Int) (V : Nat → Nat → Nat) (s : Int) (d : Nat) : Prop := (d : Int) = s ∨ M (dt_lf (V d 0)) (dt_rt (V d 0)) ≤ dt_k (V d 0) ∨ M (dt_lf (V d 1)) (dt_rt (V d 1)) ≤ dt_k (V d 1)
/-- what turn t of depth d still has to look at -/
def dt_rem (M : Nat → Nat → Int) (V : Nat → Nat → Nat) (s : Int) (d t : Nat) (x y : Int) : Prop := (dt_any M V s d ∧ t = 0) ∨ (¬ dt_any M V s d ∧ ((t = 0 ∧ dt_alt (V d 0) x y) ∨ (t ≤ 1 ∧ dt_alt (V d 1) x y)))
theorem dt_any_con {M : Nat → Nat → Int} {V : Nat → Nat → Nat} {s : Int} {d : Nat} {x y : Int} (hD : dt_D M x y) (h : dt_any M V s d) : dt_con V s d x y := by
  rcases h with e | e | e
  · exact Or.inl e
  · exact Or.inr (Or.inl (Int.le_trans (hD _ _ (dt_lf_3 _) (dt_rt_3 _)) e))
  · exact Or.inr (Or.inr (Int.le_trans (hD _ _ (dt_lf_3 _) (dt_rt_3 _)) e))
theorem dt_rem_con {M : Nat → Nat → Int} {V : Nat → Nat → Nat} {s : Int} {d t : Nat} {x y : Int} (hD : dt_D M x y) (h : dt_rem M V s d t x y) : dt_con V s d x y := by
  rcases h with e | ⟨_, e | e⟩
  · exact dt_any_con hD e.1
  · exact Or.inr (Or.inl e.2)
  · exact Or.inr (Or.inr e.2)
theorem dt_rem_0 {M : Nat → Nat → Int} {V : Nat → Nat → Nat} {s : Int} {d : Nat} {x y : Int} (h : dt_con V s d x y) : dt_rem M V s d 0 x y := by
  by_cases ha : dt_any M V s d
  · exact Or.inl ⟨ha, rfl⟩
  · rcases h with e | e | e
    · exact absurd (Or.inl e) ha
    · exact Or.inr ⟨ha, Or.inl ⟨rfl, e⟩⟩
    · exact Or.inr ⟨ha, Or.inr ⟨by omega, e⟩⟩
end
section
/-! the methods that write the arrays start and matrix -/
section
variable {n0 cnt ds ac sk sb be : Int32} {a1 a2 a3 a4 a5 a6 a7 a8 a9 a10 : Nat → Int32}
theorem dt_le_of {a b : Int} (h : dt_z a ≤ dt_z b) (ha : -100000 ≤ a ∧ a ≤ 100000) (hb : -100000 ≤ b ∧ b ≤ 100000) : a ≤ b := by
  rw [Int32.le_iff_toInt_le, dt_z_toInt ha, dt_z_toInt hb] at h
  exact h
theorem dt_nle_of {a b : Int} (h : ¬ dt_z a ≤ dt_z b) (ha : -100000 ≤ a ∧ a ≤ 100000) (hb : -100000 ≤ b ∧ b ≤ 100000) : b < a := by
  rw [Int32.le_iff_toInt_le, dt_z_toInt ha, dt_z_toInt hb] at h
  omega
/-- the matrix M stands in the array a from place b on, in rows of five -/
def dt_h (a : Nat → Int32) (b : Nat) (M : Nat → Nat → Int) : Prop := ∀ p q, p < 3 → q < 3 → a (b + (5 * p + q)) = dt_z (M p q)
theorem dt_h0 {a : Nat → Int32} {M : Nat → Nat → Int} (h : dt_h a 0 M) {p q : Nat} (hp : p < 3) (hq : q < 3) : a (5 * p + q) = dt_z (M p q) := by
  have e := h p q hp hq
  rw [Nat.zero_add] at e
  exact e
theorem dt_ix (i j : Nat) : 5 * nI i + nI j = nI (5 * i + j) := by
  rw [show (5 : Int32) = nI 5 from rfl, pk_mul, nI_add]
theorem dt_ix25 (i j : Nat) : 25 * nI i + nI j = nI (25 * i + j) := by
  rw [show (25 : Int32) = nI 25 from rfl, pk_mul, nI_add]
theorem dt_ix25' (i j : Nat) : 25 * nI i + 25 + nI j = nI (25 * i + 25 + j) := by
  rw [show (25 : Int32) = nI 25 from rfl, pk_mul, nI_add, nI_add]
theorem dt_ixb (b i j : Nat) : nI b + 5 * nI i + nI j = nI (b + 5 * i + j) := by
  rw [show (5 : Int32) = nI 5 from rfl, pk_mul, nI_add, nI_add]
theorem dt_fill {f s : Nat → Int32} {i k : Nat} {v : Int32} (hk : k = i) (h : ∀ j, j < i → s j = f j) (hv : v = f i) : ∀ j, j < i + 1 → upd s k v j = f j := by
  intro j hj
  rw [hk]
  by_cases e : j = i
  · rw [e, pk_us, hv]
  · rw [pk_un e]
    exact h j (by omega)
theorem dt_keep {f s : Nat → Int32} {i k : Nat} {v : Int32} (hk : k = i) (h : ∀ j, j < i → s j = f j) : ∀ j, j < i → upd s k v j = f j := by
  intro j hj
  rw [hk, pk_un (by omega)]
  exact h j hj
theorem dt_open {post : St2 → Prop} (H : ∀ b8, dt_h b8 0 dt_M0 → post (2, cnt, ds, ac, sk, 0, be, a1, a2, a3, a4, a5, a6, a7, b8, a9, a10)) : wpX_openStart post (2, cnt, ds, ac, sk, sb, be, a1, a2, a3, a4, a5, a6, a7, a8, a9, a10) := by
  unfold wpX_openStart
  refine pk_loop (fun n i s => wX_openStart_7 post 2 cnt ds ac sk 0 be n (nI i) a1 a2 a3 a4 a5 a6 a7 s a9 a10) (fun i s => ∀ j, j < i → s j = dt_z (dt_M0 (j / 5) (j % 5))) 25 0 a8 (by omega) (fun j hj => absurd hj (by omega)) ?_ ?_
  · intro n s h
    exact pk_le 25 25 (fun _ => H s (fun p q hp hq => by
      rw [Nat.zero_add, h _ (by omega), show (5 * p + q) / 5 = p by omega, show (5 * p + q) % 5 = q by omega])) (fun z => absurd z (by omega))
  · intro n i s hi h hw
    refine pk_le 25 i (fun z => absurd z (by omega)) (fun _ => ⟨by decide, nm_r (pk_div (d := 5) (by omega) (by omega) (by omega)) ⟨by decide, nm_r (pk_rem (d := 5) (by omega) (by omega) (by omega)) ⟨pk_in i 25 hi, nm_e ?_⟩⟩⟩)
    refine pk_eq (i / 5) (i % 5) (fun e => ⟨pk_in i 25 hi, nm_e (nm_r (nI_1 i) (hw _ ?_))⟩) (fun e => pk_eq (i / 5) 2 (fun e2 => ⟨pk_in i 25 hi, nm_e (nm_r (nI_1 i) (hw _ ?_))⟩) (fun e2 => nm_r (nI_1 i) (hw _ ?_)))
    · exact dt_fill (f := fun j => dt_z (dt_M0 (j / 5) (j % 5))) (nI_clamp (by omega)) (dt_keep (nI_clamp (by omega)) h) (by
        show (0 : Int32) = dt_z (dt_M0 (i / 5) (i % 5))
        rw [show dt_M0 (i / 5) (i % 5) = 0 from if_pos (Or.inl e)]
        rfl)
    · exact dt_fill (f := fun j => dt_z (dt_M0 (j / 5) (j % 5))) (nI_clamp (by omega)) (dt_keep (nI_clamp (by omega)) h) (by
        show (0 : Int32) = dt_z (dt_M0 (i / 5) (i % 5))
        rw [show dt_M0 (i / 5) (i % 5) = 0 from if_pos (Or.inr e2)]
        rfl)
    · exact dt_fill (f := fun j => dt_z (dt_M0 (j / 5) (j % 5))) (nI_clamp (by omega)) h (by
        show (7 : Int32) = dt_z (dt_M0 (i / 5) (i % 5))
        rw [show dt_M0 (i / 5) (i % 5) = 7 from if_neg (fun z => z.elim e e2)]
        rfl)
theorem dt_ts_loop {post : St2 → Prop} {M : Nat → Nat → Int} {i j : Nat} {k : Int} (hM : dt_ok M) (hi : i < 3) (hj : j < 3) (hk : 0 ≤ M j i + k) (hk2 : k ≤ 30) (h8 : dt_h a8 0 M) (H : ∀ b8, dt_h b8 0 (dt_T M i j k) → post (n0, cnt, ds, ac, sk, sb, be, a1, a2, a3, a4, a5, a6, a7, b8, a9, a10)) : ∃ fu, wX_tightenStart_46 post (nI i) (nI j) (dt_z k) n0 cnt ds ac sk sb be fu 0 a1 a2 a3 a4 a5 a6 a7 a8 a9 a10 := by
  refine pk_loop (fun n m s => wX_tightenStart_46 post (nI i) (nI j) (dt_z k) n0 cnt ds ac sk sb be n (nI m) a1 a2 a3 a4 a5 a6 a7 s a9 a10) (fun m s => ∀ p q, p < 3 → q < 3 → s (5 * p + q) = dt_z (if 5 * p + q < m then dt_T M i j k p q else M p q)) 25 0 a8 (by omega) ?_ ?_ ?_
  · intro p q hp hq
    rw [if_neg (by omega)]
    exact dt_h0 h8 hp hq
  · intro n s h
    exact pk_le 25 25 (fun _ => H s (fun p q hp hq => by rw [Nat.zero_add, h p q hp hq, if_pos (by omega)])) (fun z => absurd z (by omega))
  · intro n m s hm h hw
    have e1 : 5 * nI (m / 5) + nI i = nI (5 * (m / 5) + i) := dt_ix _ _
    have e2 : 5 * nI j + nI (m % 5) = nI (5 * j + m % 5) := dt_ix _ _
    have hw' : ∀ v, (m / 5 < 3 → m % 5 < 3 → v = dt_z (dt_T M i j k (m / 5) (m % 5))) → wX_tightenStart_46 post (nI i) (nI j) (dt_z k) n0 cnt ds ac sk sb be n (nI (m + 1)) a1 a2 a3 a4 a5 a6 a7 (upd s m v) a9 a10 := by
      intro v hv
      refine hw _ (fun p q hp hq => ?_)
      by_cases e : 5 * p + q = m
      · have ep : m / 5 = p := by omega
        have eq : m % 5 = q := by omega
        rw [e, pk_us, if_pos (by omega), hv (by omega) (by omega), ep, eq]
      · rw [pk_un e, h p q hp hq]
        by_cases l : 5 * p + q < m
        · rw [if_pos l, if_pos (by omega)]
        · rw [if_neg l, if_neg (by omega)]
    have v0 : m / 5 < 3 → m % 5 < 3 → s m = dt_z (M (m / 5) (m % 5)) := by
      intro hp hq
      have e := h (m / 5) (m % 5) hp hq
      rw [show 5 * (m / 5) + m % 5 = m by omega, if_neg (by omega)] at e
      exact e
    have v1 : m / 5 < 3 → s (5 * (m / 5) + i) = dt_z (M (m / 5) i) := by
      intro hp
      have e := h (m / 5) i hp hi
      rw [dt_T_row hk, ite_self] at e
      exact e
    have v2 : m % 5 < 3 → s (5 * j + m % 5) = dt_z (M j (m % 5)) := by
      intro hq
      have e := h j (m % 5) hj hq
      rw [dt_T_col hk, ite_self] at e
      exact e
    refine pk_le 25 m (fun z => absurd z (by omega)) (fun _ => ⟨by decide, nm_r (pk_div (d := 5) (by omega) (by omega) (by omega)) ⟨by decide, nm_r (pk_rem (d := 5) (by omega) (by omega) (by omega)) ⟨pk_in (5 * (m / 5) + i) 25 (by omega) e1, pk_in (5 * j + m % 5) 25 (by omega) e2, nm_e ⟨pk_in m 25 hm, ?_⟩⟩⟩⟩)
    rw [e1, e2, nI_clamp (show m < 2 ^ 31 by omega), nI_clamp (show 5 * (m / 5) + i < 2 ^ 31 by omega), nI_clamp (show 5 * j + m % 5 < 2 ^ 31 by omega)]
    have bj := dt_lo hM hj hi
    refine br_c (fun hle => ⟨pk_in m 25 hm, pk_in m 25 hm, nm_e (nm_r (nI_1 m) (hw' _ (fun hp hq => ?_)))⟩) (fun hgt => ⟨pk_in m 25 hm, nm_e (nm_r (nI_1 m) (hw' _ (fun hp hq => ?_)))⟩)
    · have b1 := dt_lo hM hp hq
      have b2 := dt_lo hM hp hi
      have b3 := dt_lo hM hj hq
      rw [v0 hp hq, v1 hp, v2 hq, dt_z_add, dt_z_add] at hle
      rw [v0 hp hq]
      exact congrArg dt_z (if_pos (dt_le_of hle (by omega) (by omega))).symm
    · have b1 := dt_lo hM hp hq
      have b2 := dt_lo hM hp hi
      have b3 := dt_lo hM hj hq
      rw [v0 hp hq, v1 hp, v2 hq, dt_z_add, dt_z_add] at hgt
      rw [v1 hp, v2 hq, dt_z_add, dt_z_add]
      have g := dt_nle_of hgt (by omega) (by omega)
      exact congrArg dt_z (if_neg (by omega)).symm
/-- the start matrix stands for the set S, or is marked bad and S is empty -/
def dt_St (sb : Int32) (a8 : Nat → Int32) (S : Int → Int → Prop) : Prop := (sb = 0 ∧ ∃ M, dt_ok M ∧ dt_h a8 0 M ∧ ∀ x y, dt_D M x y ↔ S x y) ∨ (sb = 1 ∧ ∀ x y, ¬ S x y)
theorem dt_ts {post : St2 → Prop} {S : Int → Int → Prop} {i j : Nat} {k : Int} {p0 p1 p2 : Int32} (hS : dt_St sb a8 S) (hi : i < 3) (hj : j < 3) (hk : -30 ≤ k ∧ k ≤ 30) (h0 : p0 = nI i) (h1 : p1 = nI j) (h2 : p2 = dt_z k)
    (H : ∀ c b8, dt_St c b8 (fun x y => S x y ∧ dt_tm x y i - dt_tm x y j ≤ k) → post (n0, cnt, ds, ac, sk, c, be, a1, a2, a3, a4, a5, a6, a7, b8, a9, a10)) : wpX_tightenStart post (n0, cnt, ds, ac, sk, sb, be, a1, a2, a3, a4, a5, a6, a7, a8, a9, a10) p0 p1 p2 := by
  subst h0 h1 h2
  unfold wpX_tightenStart
  rcases hS with ⟨e, M, hM, h8, hD⟩ | ⟨e, hE⟩
  · have v1 : a8 (5 * nI i + nI j).toNatClampNeg = dt_z (M i j) := by
      rw [dt_ix, nI_clamp (by omega)]
      exact dt_h0 h8 hi hj
    have v2 : a8 (5 * nI j + nI i).toNatClampNeg = dt_z (M j i) := by
      rw [dt_ix, nI_clamp (by omega)]
      exact dt_h0 h8 hj hi
    have b1 := dt_lo hM hi hj
    have b2 := dt_lo hM hj hi
    refine br_t e ⟨pk_in (5 * i + j) 25 (by omega) (dt_ix i j), dt_lt k (M i j) (fun hlt => ⟨pk_in (5 * j + i) 25 (by omega) (dt_ix j i), dt_le 0 (M j i + k) (fun h0 => ?_) (fun h0 => ?_) rfl (by rw [v2, dt_z_add]) (by omega) (by omega)⟩) (fun hge => ?_) rfl v1 (by omega) (by omega)⟩
    · exact dt_ts_loop hM hi hj h0 (by omega) h8 (fun b8 hb => H _ _ (Or.inl ⟨e, _, dt_T_ok hM hi hj h0, hb, fun x y => by rw [dt_T_D hM hi hj, hD]⟩))
    · refine H _ _ (Or.inr ⟨rfl, fun x y hxy => ?_⟩)
      have g := (hD x y).mpr hxy.1 j i hj hi
      have g2 := hxy.2
      omega
    · refine H _ _ (Or.inl ⟨e, M, hM, h8, fun x y => ⟨fun hd => ⟨(hD x y).mp hd, ?_⟩, fun hs => (hD x y).mpr hs.1⟩⟩)
      have g := hd i j hi hj
      omega
  · exact br_f (by rw [e]; decide) (H _ _ (Or.inr ⟨e, fun x y hxy => hE x y hxy.1⟩))
/-- level d + 1 of b is level d of a, and below that nothing changed -/
def dt_cp (a b : Nat → Int32) (d : Nat) : Prop := (∀ m, m < 25 * d + 25 → b m = a m) ∧ ∀ c, c < 25 → b (25 * d + 25 + c) = a (25 * d + c)
theorem dt_copyOn {post : St2 → Prop} {d : Nat} (hd : d < 8) (H : ∀ b9, dt_cp a9 b9 d → post (n0, cnt, ds, ac, sk, sb, be, a1, a2, a3, a4, a5, a6, a7, a8, b9, a10)) : wpX_copyOn post (n0, cnt, ds, ac, sk, sb, be, a1, a2, a3, a4, a5, a6, a7, a8, a9, a10) (nI d) := by
  unfold wpX_copyOn
  refine pk_loop (fun n i s => wX_copyOn_2 post (nI d) n0 cnt ds ac sk sb be n (nI i) a1 a2 a3 a4 a5 a6 a7 a8 s a10) (fun i s => (∀ m, m < 25 * d + 25 → s m = a9 m) ∧ ∀ c, c < i → s (25 * d + 25 + c) = a9 (25 * d + c)) 25 0 a9 (by omega) ⟨fun _ _ => rfl, fun c hc => absurd hc (by omega)⟩ ?_ ?_
  · intro n s h
    exact pk_le 25 25 (fun _ => H s h) (fun z => absurd z (by omega))
  · intro n i s hi h hw
    have hw' : (∀ m, m < 25 * d + 25 → upd s (25 * d + 25 + i) (s (25 * d + i)) m = a9 m) ∧ (∀ c, c < i + 1 → upd s (25 * d + 25 + i) (s (25 * d + i)) (25 * d + 25 + c) = a9 (25 * d + c)) → wX_copyOn_2 post (nI d) n0 cnt ds ac sk sb be n (nI (i + 1)) a1 a2 a3 a4 a5 a6 a7 a8 (upd s (25 * d + 25 + i) (s (25 * d + i))) a10 := fun g => hw _ g
    refine pk_le 25 i (fun z => absurd z (by omega)) (fun _ => ⟨pk_in (25 * d + i) 225 (by omega) (dt_ix25 d i), pk_in (25 * d + 25 + i) 225 (by omega) (dt_ix25' d i), nm_r (by rw [dt_ix25, dt_ix25', nI_clamp (by omega), nI_clamp (by omega)]) (nm_r (nI_1 i) (hw' ⟨fun m hm => ?_, fun c hc => ?_⟩))⟩)
    · rw [pk_un (by omega)]
      exact h.1 m hm
    · by_cases e : c = i
      · rw [e, pk_us]
        exact h.1 _ (by omega)
      · rw [pk_un (by omega)]
        exact h.2 c (by omega)
theorem dt_cp_h {a b : Nat → Int32} {d : Nat} {M : Nat → Nat → Int} (hc : dt_cp a b d) (h : dt_h a (25 * d) M) : dt_h b (25 * d) M ∧ dt_h b (25 * d + 25) M := by
  refine ⟨fun p q hp hq => ?_, fun p q hp hq => ?_⟩
  · rw [hc.1 _ (by omega)]
    exact h p q hp hq
  · rw [hc.2 _ (by omega)]
    exact h p q hp hq
theorem dt_tighten {post : St2 → Prop} {M : Nat → Nat → Int} {d i j : Nat} {k : Int} {p0 p1 p2 p3 : Int32} (hd : d < 8) (hM : dt_ok M) (hi : i < 3) (hj : j < 3) (hk : -30 ≤ k ∧ k ≤ 30) (h0 : dt_h a9 (25 * d) M) (h1 : dt_h a9 (25 * d + 25) M)
    (e0 : p0 = nI (d + 1)) (e1 : p1 = nI i) (e2 : p2 = nI j) (e3 : p3 = dt_z k)
    (H : ∀ b9, (∀ m, m < 25 * d + 25 → b9 m = a9 m) → dt_h b9 (25 * d + 25) (dt_T M i j k) → post (n0, cnt, ds, ac, sk, sb, be, a1, a2, a3, a4, a5, a6, a7, a8, b9, a10)) : wpX_tighten post (n0, cnt, ds, ac, sk, sb, be, a1, a2, a3, a4, a5, a6, a7, a8, a9, a10) p0 p1 p2 p3 := by
  subst e0 e1 e2 e3
  unfold wpX_tighten
  refine nm_r (e' := nI (25 * d + 25)) (by rw [show (25 : Int32) = nI 25 from rfl, pk_mul]; exact congrArg nI (by omega)) (nm_r (e' := nI (25 * d)) (by rw [show (25 : Int32) = nI 25 from rfl, pk_sub (by omega)]; exact congrArg nI (by omega)) ?_)
  refine pk_loop (fun n m s => wX_tighten_16 post (nI i) (nI j) (dt_z k) (nI (25 * d + 25)) (nI (25 * d)) n0 cnt ds ac sk sb be n (nI m) a1 a2 a3 a4 a5 a6 a7 a8 s a10) (fun m s => (∀ q, q < 25 * d + 25 → s q = a9 q) ∧ ∀ p q, p < 3 → q < 3 → s (25 * d + 25 + (5 * p + q)) = dt_z (if 5 * p + q < m then dt_T M i j k p q else M p q)) 25 0 a9 (by omega) ?_ ?_ ?_
  · refine ⟨fun _ _ => rfl, fun p q hp hq => ?_⟩
    rw [if_neg (by omega)]
    exact h1 p q hp hq
  · intro n s h
    exact pk_le 25 25 (fun _ => H s h.1 (fun p q hp hq => by rw [h.2 p q hp hq, if_pos (by omega)])) (fun z => absurd z (by omega))
  · intro n m s hm h hw
    have e1 : nI (25 * d) + 5 * nI (m / 5) + nI i = nI (25 * d + 5 * (m / 5) + i) := dt_ixb _ _ _
    have e2 : nI (25 * d) + 5 * nI j + nI (m % 5) = nI (25 * d + 5 * j + m % 5) := dt_ixb _ _ _
    have e3 : nI (25 * d + 25) + nI m = nI (25 * d + 25 + m) := nI_add _ _
    have hw' : ∀ r : Nat → Int32, (∀ q, q ≠ 25 * d + 25 + m → r q = s q) → (m / 5 < 3 → m % 5 < 3 → r (25 * d + 25 + m) = dt_z (dt_T M i j k (m / 5) (m % 5))) → wX_tighten_16 post (nI i) (nI j) (dt_z k) (nI (25 * d + 25)) (nI (25 * d)) n0 cnt ds ac sk sb be n (nI (m + 1)) a1 a2 a3 a4 a5 a6 a7 a8 r a10 := by
      intro r hr hv
      refine hw _ ⟨fun q hq => ?_, fun p q hp hq => ?_⟩
      · rw [hr q (by omega)]
        exact h.1 q hq
      · by_cases e : 5 * p + q = m
        · have ep : m / 5 = p := by omega
          have eq : m % 5 = q := by omega
          rw [e, if_pos (by omega), hv (by omega) (by omega), ep, eq]
        · rw [hr _ (by omega), h.2 p q hp hq]
          by_cases l : 5 * p + q < m
          · rw [if_pos l, if_pos (by omega)]
          · rw [if_neg l, if_neg (by omega)]
    have v0 : m / 5 < 3 → m % 5 < 3 → s (25 * d + 25 + m) = dt_z (M (m / 5) (m % 5)) := by
      intro hp hq
      have e := h.2 (m / 5) (m % 5) hp hq
      rw [show 5 * (m / 5) + m % 5 = m by omega, if_neg (by omega)] at e
      exact e
    have v1 : m / 5 < 3 → s (25 * d + 5 * (m / 5) + i) = dt_z (M (m / 5) i) := by
      intro hp
      rw [h.1 _ (by omega), Nat.add_assoc]
      exact h0 (m / 5) i hp hi
    have v2 : m % 5 < 3 → s (25 * d + 5 * j + m % 5) = dt_z (M j (m % 5)) := by
      intro hq
      rw [h.1 _ (by omega), Nat.add_assoc]
      exact h0 j (m % 5) hj hq
    refine pk_le 25 m (fun z => absurd z (by omega)) (fun _ => ⟨by decide, nm_r (pk_div (d := 5) (by omega) (by omega) (by omega)) ⟨by decide, nm_r (pk_rem (d := 5) (by omega) (by omega) (by omega)) ⟨pk_in (25 * d + 5 * (m / 5) + i) 225 (by omega) e1, pk_in (25 * d + 5 * j + m % 5) 225 (by omega) e2, nm_e ⟨pk_in (25 * d + 25 + m) 225 (by omega) e3, ?_⟩⟩⟩⟩)
    rw [e1, e2, e3, nI_clamp (show 25 * d + 25 + m < 2 ^ 31 by omega), nI_clamp (show 25 * d + 5 * (m / 5) + i < 2 ^ 31 by omega), nI_clamp (show 25 * d + 5 * j + m % 5 < 2 ^ 31 by omega)]
    refine br_c (fun hle => nm_r (nI_1 m) (hw' _ (fun _ _ => rfl) (fun hp hq => ?_))) (fun hgt => ⟨pk_in (25 * d + 25 + m) 225 (by omega), nm_e (nm_r (nI_1 m) (hw' _ (fun q hq => pk_un hq) (fun hp hq => ?_)))⟩)
    · have b1 := dt_lo hM hp hq
      have b2 := dt_lo hM hp hi
      have b3 := dt_lo hM hj hq
      rw [v0 hp hq, v1 hp, v2 hq, dt_z_add, dt_z_add] at hle
      rw [v0 hp hq]
      exact congrArg dt_z (if_pos (dt_le_of hle (by omega) (by omega))).symm
    · have b1 := dt_lo hM hp hq
      have b2 := dt_lo hM hp hi
      have b3 := dt_lo hM hj hq
      rw [v0 hp hq, v1 hp, v2 hq, dt_z_add, dt_z_add] at hgt
      rw [pk_us, v1 hp, v2 hq, dt_z_add, dt_z_add]
      have g := dt_nle_of hgt (by omega) (by omega)
      exact congrArg dt_z (if_neg (by omega)).symm
end
end
section
/-! goOn: the next matrix of a depth -/
/-- the three constraints of two comparisons each, held in the arrays, as the numbers V say -/
def dt_cf (V : Nat → Nat → Nat) (a1 a2 a3 a4 : Nat → Int32) : Prop := (∀ c, c < 3 → a4 c = nI 2) ∧ ∀ c a, c < 3 → a < 2 → V c a < 64 ∧ a1 (3 * c + a) = nI (dt_lf (V c a)) ∧ a2 (3 * c + a) = nI (dt_rt (V c a)) ∧ a3 (3 * c + a) = dt_z (dt_k (V c a))
def dt_K0 (post : Int32 → St2 → Prop) (n0 cnt ds ac sk sb be : Int32) (a1 a2 a3 a4 a5 a6 a7 a8 a9 a10 : Nat → Int32) (M : Nat → Nat → Int) (V : Nat → Nat → Nat) (s : Int) (d t : Nat) : Prop :=
  ∀ b9 b10 : Nat → Int32, (∀ m, m < 25 * d + 25 → b9 m = a9 m) → (∀ m, m < d → b10 m = a10 m) → (∀ x y, dt_D M x y → ¬ dt_rem M V s d t x y) → post 0 (n0, cnt, ds, ac, sk, sb, be, a1, a2, a3, a4, a5, a6, a7, a8, b9, b10)
def dt_K1 (post : Int32 → St2 → Prop) (n0 cnt ds ac sk sb be : Int32) (a1 a2 a3 a4 a5 a6 a7 a8 a9 a10 : Nat → Int32) (M : Nat → Nat → Int) (V : Nat → Nat → Nat) (s : Int) (d t : Nat) : Prop :=
  ∀ (b9 b10 : Nat → Int32) (t' : Nat) (M' : Nat → Nat → Int), (∀ m, m < 25 * d + 25 → b9 m = a9 m) → (∀ m, m < d → b10 m = a10 m) → t < t' → t' ≤ 2 → b10 d = nI t' → dt_ok M' → dt_h b9 (25 * d + 25) M' →
    (∀ x y, dt_D M' x y → dt_D M x y ∧ dt_rem M V s d t x y) → (∀ x y, dt_D M x y → dt_rem M V s d t x y → dt_D M' x y ∨ dt_rem M V s d t' x y) → (∀ x y, dt_rem M V s d t' x y → dt_rem M V s d t x y) → post 1 (n0, cnt, ds, ac, sk, sb, be, a1, a2, a3, a4, a5, a6, a7, a8, b9, b10)
theorem dt_ix3 (i j : Nat) : 3 * nI i + nI j = nI (3 * i + j) := by
  rw [show (3 : Int32) = nI 3 from rfl, pk_mul, nI_add]
theorem dt_rem_le {M : Nat → Nat → Int} {V : Nat → Nat → Nat} {s : Int} {d t t' : Nat} {x y : Int} (h : t ≤ t') (hr : dt_rem M V s d t' x y) : dt_rem M V s d t x y := by
  rcases hr with e | ⟨n, e | e⟩
  · exact Or.inl ⟨e.1, by omega⟩
  · exact Or.inr ⟨n, Or.inl ⟨by omega, e.2⟩⟩
  · exact Or.inr ⟨n, Or.inr ⟨by omega, e.2⟩⟩
section
variable {n0 cnt ds ac sk sb be : Int32} {a1 a2 a3 a4 a5 a6 a7 a8 a9 a10 : Nat → Int32} {post : Int32 → St2 → Prop} {V : Nat → Nat → Nat} {M : Nat → Nat → Int} {s : Int} {d t : Nat}
theorem dt_145_step {n k : Nat} (hcf : dt_cf V a1 a2 a3 a4) (hd : d < 3) (hk : k < 3) (ht : a10 d = nI t) (ht2 : t < 2) (hM : dt_ok M) (h9 : dt_h a9 (25 * d) M)
    (H1 : 0 ≤ M (dt_rt (V d t)) (dt_lf (V d t)) + dt_k (V d t) → ∀ b9, (∀ m, m < 25 * d + 25 → b9 m = a9 m) → dt_h b9 (25 * d + 25) (dt_T M (dt_lf (V d t)) (dt_rt (V d t)) (dt_k (V d t))) → post 1 (n0, cnt, ds, ac, sk, sb, be, a1, a2, a3, a4, a5, a6, a7, a8, b9, upd a10 d (nI (t + 1))))
    (H0 : M (dt_rt (V d t)) (dt_lf (V d t)) + dt_k (V d t) < 0 → wX_goOn_145 post (nI d) (nI (25 * d)) (nI 2) n0 cnt ds ac sk sb be n (nI (k + 1)) a1 a2 a3 a4 a5 a6 a7 a8 a9 (upd a10 d (nI (t + 1)))) :
    wX_goOn_145 post (nI d) (nI (25 * d)) (nI 2) n0 cnt ds ac sk sb be (n + 1) (nI k) a1 a2 a3 a4 a5 a6 a7 a8 a9 a10 := by
  obtain ⟨hv, c1, c2, c3⟩ := hcf.2 d t hd ht2
  have et : a10 (nI d).toNatClampNeg = nI t := by
    rw [nI_clamp (by omega)]
    exact ht
  have e6 : 3 * nI d + a10 (nI d).toNatClampNeg = nI (3 * d + t) := by rw [et, dt_ix3]
  have ea : upd a10 (nI d).toNatClampNeg (a10 (nI d).toNatClampNeg + 1) = upd a10 d (nI (t + 1)) := by rw [et, nI_clamp (by omega), nI_1]
  have g1 : a1 (nI (3 * d + t)).toNatClampNeg = nI (dt_lf (V d t)) := by
    rw [nI_clamp (by omega)]
    exact c1
  have g2 : a2 (nI (3 * d + t)).toNatClampNeg = nI (dt_rt (V d t)) := by
    rw [nI_clamp (by omega)]
    exact c2
  have g3 : a3 (nI (3 * d + t)).toNatClampNeg = dt_z (dt_k (V d t)) := by
    rw [nI_clamp (by omega)]
    exact c3
  have l1 := dt_lf_3 (V d t)
  have l2 := dt_rt_3 (V d t)
  have l3 := dt_k_b hv
  have b1 := dt_lo hM l2 l1
  have ei : nI (25 * d) + 5 * a2 (nI (3 * d + t)).toNatClampNeg + a1 (nI (3 * d + t)).toNatClampNeg = nI (25 * d + 5 * dt_rt (V d t) + dt_lf (V d t)) := by rw [g1, g2, dt_ixb]
  have ev : a9 (nI (25 * d) + 5 * a2 (nI (3 * d + t)).toNatClampNeg + a1 (nI (3 * d + t)).toNatClampNeg).toNatClampNeg + a3 (nI (3 * d + t)).toNatClampNeg = dt_z (M (dt_rt (V d t)) (dt_lf (V d t)) + dt_k (V d t)) := by
    rw [ei, g3, nI_clamp (by omega), Nat.add_assoc, h9 _ _ l2 l1, dt_z_add]
  have p24 : vp_in (nI (3 * d + t)) 24 := pk_in (3 * d + t) 24 (by omega)
  have p9 : vp_in (nI d) 9 := pk_in d 9 (by omega)
  refine pk_le 3 k (fun z => absurd z (by omega)) (fun _ => ⟨p9, pk_le 2 t (fun z => absurd z (by omega)) (fun _ => ⟨p9, nm_r e6 ⟨p9, p9, nm_r ea ⟨p24, p24, pk_in (25 * d + 5 * dt_rt (V d t) + dt_lf (V d t)) 225 (by omega) ei, p24, ?_⟩⟩⟩) rfl et⟩)
  refine dt_lt (M (dt_rt (V d t)) (dt_lf (V d t)) + dt_k (V d t)) 0 (fun hl => nm_r (nI_1 k) (H0 hl)) (fun hg => ?_) ev rfl (by omega) (by omega)
  refine dt_copyOn (by omega) (fun b9 hb => ⟨p24, p24, p24, ?_⟩)
  refine dt_tighten (d := d) (by omega) hM l1 l2 (by omega) (dt_cp_h hb h9).1 (dt_cp_h hb h9).2 (nI_1 d) g1 g2 g3 (fun c9 hc hT => ?_)
  exact H1 hg c9 (fun m hm => by rw [hc m hm, hb.1 m hm]) hT
theorem dt_145_exit {n k : Nat} (hd : d < 3) (hk : k < 3) (ht : a10 d = nI 2) (H : post 0 (n0, cnt, ds, ac, sk, sb, be, a1, a2, a3, a4, a5, a6, a7, a8, a9, a10)) : wX_goOn_145 post (nI d) (nI (25 * d)) (nI 2) n0 cnt ds ac sk sb be (n + 1) (nI k) a1 a2 a3 a4 a5 a6 a7 a8 a9 a10 := by
  have et : a10 (nI d).toNatClampNeg = nI 2 := by
    rw [nI_clamp (by omega)]
    exact ht
  exact pk_le 3 k (fun z => absurd z (by omega)) (fun _ => ⟨pk_in d 9 (by omega), pk_le 2 2 (fun _ => H) (fun z => absurd z (by omega)) rfl et⟩)
theorem dt_infeas {v : Nat} {x y : Int} (hD : dt_D M x y) (h : M (dt_rt v) (dt_lf v) + dt_k v < 0) (ha : dt_alt v x y) : False := by
  have g := hD _ _ (dt_rt_3 v) (dt_lf_3 v)
  unfold dt_alt at ha
  omega
theorem dt_145 (hcf : dt_cf V a1 a2 a3 a4) (hd : d < 3) (ht : a10 d = nI t) (ht2 : t ≤ 2) (hM : dt_ok M) (h9 : dt_h a9 (25 * d) M) (hn : ¬ dt_any M V s d)
    (H0 : dt_K0 post n0 cnt ds ac sk sb be a1 a2 a3 a4 a5 a6 a7 a8 a9 a10 M V s d t) (H1 : dt_K1 post n0 cnt ds ac sk sb be a1 a2 a3 a4 a5 a6 a7 a8 a9 a10 M V s d t) : ∃ fu, wX_goOn_145 post (nI d) (nI (25 * d)) (nI 2) n0 cnt ds ac sk sb be fu 0 a1 a2 a3 a4 a5 a6 a7 a8 a9 a10 := by
  have fr : ∀ z : Int32, ∀ m, m < d → upd a10 d z m = a10 m := fun z m hm => pk_un (by omega)
  have fr2 : ∀ z w : Int32, ∀ m, m < d → upd (upd a10 d z) d w m = a10 m := fun z w m hm => by rw [pk_un (by omega), pk_un (by omega)]
  have l1 : ∀ a, dt_lf (V d a) < 3 := fun a => dt_lf_3 _
  have l2 : ∀ a, dt_rt (V d a) < 3 := fun a => dt_rt_3 _
  rcases Nat.lt_or_ge t 1 with h | h
  · have t0 : t = 0 := by omega
    subst t0
    refine ⟨3, dt_145_step (k := 0) (t := 0) hcf hd (by omega) ht (by omega) hM h9 (fun f b9 hb hT => ?_) (fun f0 => ?_)⟩
    · refine H1 b9 _ 1 _ hb (fr _) (by omega) (by omega) pk_us (dt_T_ok hM (l1 0) (l2 0) f) hT (fun x y hd' => ?_) (fun x y hD hr => ?_) (fun x y hr => dt_rem_le (by omega) hr)
      · have g := (dt_T_D hM (l1 0) (l2 0) x y).mp hd'
        exact ⟨g.1, Or.inr ⟨hn, Or.inl ⟨rfl, g.2⟩⟩⟩
      · rcases hr with e | ⟨_, e | e⟩
        · exact absurd e.1 hn
        · exact Or.inl ((dt_T_D hM (l1 0) (l2 0) x y).mpr ⟨hD, e.2⟩)
        · exact Or.inr (Or.inr ⟨hn, Or.inr ⟨by omega, e.2⟩⟩)
    · refine dt_145_step (k := 1) (t := 1) hcf hd (by omega) pk_us (by omega) hM h9 (fun f b9 hb hT => ?_) (fun f1 => ?_)
      · refine H1 b9 _ 2 _ hb (fr2 _ _) (by omega) (by omega) pk_us (dt_T_ok hM (l1 1) (l2 1) f) hT (fun x y hd' => ?_) (fun x y hD hr => ?_) (fun x y hr => dt_rem_le (by omega) hr)
        · have g := (dt_T_D hM (l1 1) (l2 1) x y).mp hd'
          exact ⟨g.1, Or.inr ⟨hn, Or.inr ⟨by omega, g.2⟩⟩⟩
        · rcases hr with e | ⟨_, e | e⟩
          · exact absurd e.1 hn
          · exact (dt_infeas hD f0 e.2).elim
          · exact Or.inl ((dt_T_D hM (l1 1) (l2 1) x y).mpr ⟨hD, e.2⟩)
      · refine dt_145_exit (k := 2) hd (by omega) pk_us (H0 a9 _ (fun _ _ => rfl) (fr2 _ _) (fun x y hD hr => ?_))
        rcases hr with e | ⟨_, e | e⟩
        · exact absurd e.1 hn
        · exact dt_infeas hD f0 e.2
        · exact dt_infeas hD f1 e.2
  · rcases Nat.lt_or_ge t 2 with h2 | h2
    · have t1 : t = 1 := by omega
      subst t1
      refine ⟨2, dt_145_step (k := 0) (t := 1) hcf hd (by omega) ht (by omega) hM h9 (fun f b9 hb hT => ?_) (fun f1 => ?_)⟩
      · refine H1 b9 _ 2 _ hb (fr _) (by omega) (by omega) pk_us (dt_T_ok hM (l1 1) (l2 1) f) hT (fun x y hd' => ?_) (fun x y hD hr => ?_) (fun x y hr => dt_rem_le (by omega) hr)
        · have g := (dt_T_D hM (l1 1) (l2 1) x y).mp hd'
          exact ⟨g.1, Or.inr ⟨hn, Or.inr ⟨by omega, g.2⟩⟩⟩
        · rcases hr with e | ⟨_, e | e⟩
          · exact absurd e.1 hn
          · exact absurd e.1 (by omega)
          · exact Or.inl ((dt_T_D hM (l1 1) (l2 1) x y).mpr ⟨hD, e.2⟩)
      · refine dt_145_exit (k := 1) hd (by omega) pk_us (H0 a9 _ (fun _ _ => rfl) (fr _) (fun x y hD hr => ?_))
        rcases hr with e | ⟨_, e | e⟩
        · exact absurd e.1 hn
        · exact absurd e.1 (by omega)
        · exact dt_infeas hD f1 e.2
    · have t2 : t = 2 := by omega
      subst t2
      refine ⟨1, dt_145_exit (k := 0) hd (by omega) ht (H0 a9 a10 (fun _ _ => rfl) (fun _ _ => rfl) (fun x y hD hr => ?_))⟩
      rcases hr with e | ⟨_, e | e⟩
      · exact absurd e.1 hn
      · exact absurd e.1 (by omega)
      · exact absurd e.1 (by omega)
theorem dt_44_any {n z : Nat} (hd : d < 3) (hz : z ≤ 2) (ht : a10 d = nI t) (ht2 : t ≤ 2) (hM : dt_ok M) (h9 : dt_h a9 (25 * d) M) (ha : dt_any M V s d)
    (H0 : dt_K0 post n0 cnt ds ac sk sb be a1 a2 a3 a4 a5 a6 a7 a8 a9 a10 M V s d t) (H1 : dt_K1 post n0 cnt ds ac sk sb be a1 a2 a3 a4 a5 a6 a7 a8 a9 a10 M V s d t) : wX_goOn_44 post (nI d) (nI (25 * d)) (nI z) n0 cnt ds ac sk sb be a1 a2 a3 a4 a5 a6 a7 a8 a9 a10 (n + 1) 1 (nI (3 * d + z)) := by
  have p9 : vp_in (nI d) 9 := pk_in d 9 (by omega)
  have et : a10 (nI d).toNatClampNeg = nI t := by
    rw [nI_clamp (by omega)]
    exact ht
  have ea : upd a10 (nI d).toNatClampNeg (a10 (nI d).toNatClampNeg + 1) = upd a10 d (nI (t + 1)) := by rw [et, nI_clamp (by omega), nI_1]
  have fr : ∀ m, m < d → upd a10 d (nI (t + 1)) m = a10 m := fun m hm => pk_un (by omega)
  have eu : upd a10 d (nI (t + 1)) (nI d).toNatClampNeg = nI (t + 1) := by
    rw [nI_clamp (by omega)]
    exact pk_us
  refine pk_le (3 * d + z) (3 * d + z) (fun _ => br_f (by decide) ⟨p9, p9, nm_r ea (dt_copyOn (by omega) (fun b9 hb => ⟨p9, pk_eq (t + 1) 1 (fun e => ?_) (fun e => ?_) eu rfl⟩))⟩) (fun z => absurd z (by omega)) (dt_ix3 d z) rfl
  · have t0 : t = 0 := by omega
    subst t0
    exact H1 b9 _ 1 M hb.1 fr (by omega) (by omega) pk_us hM (dt_cp_h hb h9).2 (fun x y hD => ⟨hD, Or.inl ⟨ha, rfl⟩⟩) (fun x y hD _ => Or.inl hD) (fun x y hr => dt_rem_le (by omega) hr)
  · refine H0 b9 _ hb.1 fr (fun x y hD hr => ?_)
    rcases hr with g | g
    · exact absurd g.2 (by omega)
    · exact g.1 ha
theorem dt_44_1 {n a : Nat} (hd : d < 3) (ha : a < 2) (H : wX_goOn_44 post (nI d) (nI (25 * d)) (nI 2) n0 cnt ds ac sk sb be a1 a2 a3 a4 a5 a6 a7 a8 a9 a10 n 1 (nI (3 * d + a + 1))) : wX_goOn_44 post (nI d) (nI (25 * d)) (nI 2) n0 cnt ds ac sk sb be a1 a2 a3 a4 a5 a6 a7 a8 a9 a10 (n + 1) 1 (nI (3 * d + a)) :=
  pk_le (3 * d + 2) (3 * d + a) (fun z => absurd z (by omega)) (fun _ => br_f (by decide) (nm_r (nI_1 _) H)) (dt_ix3 d 2) rfl
theorem dt_44_0 {n a : Nat} (hcf : dt_cf V a1 a2 a3 a4) (hd : d < 3) (ha : a < 2) (hM : dt_ok M) (h9 : dt_h a9 (25 * d) M)
    (H1 : M (dt_lf (V d a)) (dt_rt (V d a)) ≤ dt_k (V d a) → wX_goOn_44 post (nI d) (nI (25 * d)) (nI 2) n0 cnt ds ac sk sb be a1 a2 a3 a4 a5 a6 a7 a8 a9 a10 n 1 (nI (3 * d + a + 1)))
    (H0 : dt_k (V d a) < M (dt_lf (V d a)) (dt_rt (V d a)) → wX_goOn_44 post (nI d) (nI (25 * d)) (nI 2) n0 cnt ds ac sk sb be a1 a2 a3 a4 a5 a6 a7 a8 a9 a10 n 0 (nI (3 * d + a + 1))) :
    wX_goOn_44 post (nI d) (nI (25 * d)) (nI 2) n0 cnt ds ac sk sb be a1 a2 a3 a4 a5 a6 a7 a8 a9 a10 (n + 1) 0 (nI (3 * d + a)) := by
  obtain ⟨hv, c1, c2, c3⟩ := hcf.2 d a hd ha
  have g1 : a1 (nI (3 * d + a)).toNatClampNeg = nI (dt_lf (V d a)) := by
    rw [nI_clamp (by omega)]
    exact c1
  have g2 : a2 (nI (3 * d + a)).toNatClampNeg = nI (dt_rt (V d a)) := by
    rw [nI_clamp (by omega)]
    exact c2
  have g3 : a3 (nI (3 * d + a)).toNatClampNeg = dt_z (dt_k (V d a)) := by
    rw [nI_clamp (by omega)]
    exact c3
  have l1 := dt_lf_3 (V d a)
  have l2 := dt_rt_3 (V d a)
  have l3 := dt_k_b hv
  have b1 := dt_lo hM l1 l2
  have ei : nI (25 * d) + 5 * a1 (nI (3 * d + a)).toNatClampNeg + a2 (nI (3 * d + a)).toNatClampNeg = nI (25 * d + 5 * dt_lf (V d a) + dt_rt (V d a)) := by rw [g1, g2, dt_ixb]
  have ev : a9 (nI (25 * d) + 5 * a1 (nI (3 * d + a)).toNatClampNeg + a2 (nI (3 * d + a)).toNatClampNeg).toNatClampNeg = dt_z (M (dt_lf (V d a)) (dt_rt (V d a))) := by
    rw [ei, nI_clamp (by omega), Nat.add_assoc, h9 _ _ l1 l2]
  have p24 : vp_in (nI (3 * d + a)) 24 := pk_in (3 * d + a) 24 (by omega)
  exact pk_le (3 * d + 2) (3 * d + a) (fun z => absurd z (by omega)) (fun _ => br_t rfl ⟨p24, p24, pk_in (25 * d + 5 * dt_lf (V d a) + dt_rt (V d a)) 225 (by omega) ei, p24, dt_lt (dt_k (V d a)) (M (dt_lf (V d a)) (dt_rt (V d a))) (fun h => nm_r (nI_1 _) (H0 h)) (fun h => nm_r (nI_1 _) (H1 h)) g3 ev (by omega) (by omega)⟩) (dt_ix3 d 2) rfl
theorem dt_goOn (hcf : dt_cf V a1 a2 a3 a4) (hd : d < 3) (ht : a10 d = nI t) (ht2 : t ≤ 2) (hM : dt_ok M) (h9 : dt_h a9 (25 * d) M) (hs : -1 ≤ s ∧ s ≤ 8) (hsk : sk = dt_z s)
    (H0 : dt_K0 post n0 cnt ds ac sk sb be a1 a2 a3 a4 a5 a6 a7 a8 a9 a10 M V s d t) (H1 : dt_K1 post n0 cnt ds ac sk sb be a1 a2 a3 a4 a5 a6 a7 a8 a9 a10 M V s d t) : wpX_goOn post (n0, cnt, ds, ac, sk, sb, be, a1, a2, a3, a4, a5, a6, a7, a8, a9, a10) (nI d) := by
  unfold wpX_goOn
  have e25 : 25 * nI d = nI (25 * d) := by rw [show (25 : Int32) = nI 25 from rfl, pk_mul]
  have e3 : 3 * nI d = nI (3 * d) := by rw [show (3 : Int32) = nI 3 from rfl, pk_mul]
  refine nm_r e25 (dt_eq (d : Int) s (fun e => ?_) (fun e => ?_) (dt_z_nat d) hsk (by omega) (by omega))
  · refine dt_eq (d : Int) s (fun _ => nm_r e3 ⟨1, dt_44_any (z := 0) hd (by omega) ht ht2 hM h9 (Or.inl e) H0 H1⟩) (fun z => absurd e z) (dt_z_nat d) hsk (by omega) (by omega)
  · have e4 : a4 (nI d).toNatClampNeg = nI 2 := by
      rw [nI_clamp (by omega)]
      exact hcf.1 d hd
    refine ⟨pk_in d 8 (by omega), ?_⟩
    rw [e4]
    refine dt_eq (d : Int) s (fun z => absurd z e) (fun _ => nm_r e3 ⟨3, ?_⟩) (dt_z_nat d) hsk (by omega) (by omega)
    refine dt_44_0 (a := 0) hcf hd (by omega) hM h9 (fun k0 => dt_44_1 (a := 1) hd (by omega) (dt_44_any (z := 2) hd (by omega) ht ht2 hM h9 (Or.inr (Or.inl k0)) H0 H1)) (fun k0 => dt_44_0 (a := 1) hcf hd (by omega) hM h9 (fun k1 => dt_44_any (z := 2) hd (by omega) ht ht2 hM h9 (Or.inr (Or.inr k1)) H0 H1) (fun k1 => ?_))
    have hn : ¬ dt_any M V s d := by
      intro h
      rcases h with g | g | g
      · exact e g
      · omega
      · omega
    exact pk_le (3 * d + 2) (3 * d + 2) (fun _ => br_t rfl (dt_145 hcf hd ht ht2 hM h9 hn H0 H1)) (fun z => absurd z (by omega)) (dt_ix3 d 2) rfl
end
end
section
/-! search: all matrices of the tree, by a measure of steps -/
def dt_ob (md : Bool) (i j : Nat) (x y : Int) : Int := if md = true then dt_tm x y i - dt_tm x y j else 0
def dt_re (md : Bool) (i j : Nat) (M : Nat → Nat → Int) : Int := if md = true then M i j else 0
/-- md: two points are given -/
def dt_md (md : Bool) (i j : Nat) (x1 x2 : Int32) : Prop := (md = false ∧ x1 = -1) ∨ (md = true ∧ x1 = nI i ∧ x2 = nI j ∧ i < 3 ∧ j < 3)
/-- what any and best say when the set P has been seen -/
def dt_ab (md : Bool) (i j : Nat) (any b : Int32) (P : Int → Int → Prop) : Prop := (any = 0 ∧ b = dt_z (-1000) ∧ ∀ x y, ¬ P x y) ∨ (any = 1 ∧ md = true ∧ ∃ m : Int, (-7 ≤ m ∧ m ≤ 7) ∧ b = dt_z m ∧ (∃ x y, P x y ∧ dt_ob md i j x y = m) ∧ ∀ x y, P x y → dt_ob md i j x y ≤ m)
theorem dt_ab_congr {md : Bool} {i j : Nat} {any b : Int32} {P Q : Int → Int → Prop} (h : ∀ x y, P x y ↔ Q x y) (hP : dt_ab md i j any b P) : dt_ab md i j any b Q := by
  have e : P = Q := funext fun x => funext fun y => propext (h x y)
  rw [← e]
  exact hP
theorem dt_ob_le {md : Bool} {i j : Nat} {M : Nat → Nat → Int} (hij : md = true → i < 3 ∧ j < 3) {x y : Int} (hD : dt_D M x y) : dt_ob md i j x y ≤ dt_re md i j M := by
  unfold dt_ob dt_re
  by_cases e : md = true
  · rw [if_pos e, if_pos e]
    exact hD i j (hij e).1 (hij e).2
  · rw [if_neg e, if_neg e]
    exact Int.le_refl 0
theorem dt_ob_att {md : Bool} {i j : Nat} {M : Nat → Nat → Int} (hij : md = true → i < 3 ∧ j < 3) (hM : dt_ok M) : ∃ x y, dt_D M x y ∧ dt_ob md i j x y = dt_re md i j M := by
  unfold dt_ob dt_re
  by_cases e : md = true
  · obtain ⟨x, y, h, g⟩ := dt_att hM (hij e).1 (hij e).2
    exact ⟨x, y, h, by rw [if_pos e, if_pos e]; exact g⟩
  · obtain ⟨x, y, h, g⟩ := dt_att hM (i := 0) (j := 0) (by omega) (by omega)
    exact ⟨x, y, h, by rw [if_neg e, if_neg e]⟩
theorem dt_re_b {md : Bool} {i j : Nat} {M : Nat → Nat → Int} (hij : md = true → i < 3 ∧ j < 3) (hM : dt_ok M) : -7 ≤ dt_re md i j M ∧ dt_re md i j M ≤ 7 := by
  unfold dt_re
  by_cases e : md = true
  · rw [if_pos e]
    exact dt_lo hM (hij e).1 (hij e).2
  · rw [if_neg e]
    omega
def dt_c : Nat → Nat → Nat
  | 0, _ => 1
  | h + 1, t => 1 + (2 - t) * (1 + dt_c h 0)
theorem dt_c_step {h t t' : Nat} (h1 : t < t') (h2 : t' ≤ 2) : dt_c (h + 1) t' + (1 + dt_c h 0) ≤ dt_c (h + 1) t := by
  show 1 + (2 - t') * (1 + dt_c h 0) + (1 + dt_c h 0) ≤ 1 + (2 - t) * (1 + dt_c h 0)
  have e : (2 - t' + 1) * (1 + dt_c h 0) ≤ (2 - t) * (1 + dt_c h 0) := Nat.mul_le_mul_right _ (by omega)
  rw [Nat.add_mul, Nat.one_mul] at e
  omega
theorem dt_c_pos (h t : Nat) : 1 ≤ dt_c h t := by
  cases h with
  | zero => exact Nat.le_refl 1
  | succ h => exact Nat.le_add_right 1 _
/-- the solutions that a node of the tree still has to give -/
def dt_Q (M : Nat → Nat → Int) (V : Nat → Nat → Nat) (sp : Int) (d t act : Nat) (x y : Int) : Prop := dt_D M x y ∧ (d < act → dt_rem M V sp d t x y) ∧ ∀ c, d < c → c < act → dt_con V sp c x y
theorem dt_m1 (d : Nat) : nI d + (-1) = dt_z ((d : Int) - 1) := by
  rw [dt_z_nat, show (-1 : Int32) = dt_z (-1) from rfl, dt_z_add]
  exact congrArg dt_z (by omega)
theorem dt_m1' (d : Nat) : dt_z (((d + 1 : Nat) : Int) - 1) = nI d := by
  rw [dt_z_nat]
  exact congrArg dt_z (by omega)
section
variable {n0 cnt ds ac sk sb be : Int32} {a1 a2 a3 a4 a5 a6 a7 a8 a9 a10 : Nat → Int32} {post : Int32 → St2 → Prop} {V : Nat → Nat → Nat} {sp : Int} {md : Bool} {i j act : Nat} {x1 x2 : Int32}
theorem dt_69 {n d st : Nat} {any : Int32} {M : Nat → Nat → Int} (hmd : dt_md md i j x1 x2) (hd : d ≤ 3) (hst : st < 40000) (h9 : dt_h a9 (25 * d) M)
    (H : wX_search_105 post (wX_search_69 post x1 x2 n) x1 x2 any (nI d) (nI st) (dt_z (dt_re md i j M)) n0 cnt ds ac sk sb be a1 a2 a3 a4 a5 a6 a7 a8 a9 a10) : wX_search_69 post x1 x2 (n + 1) any (nI d) (nI st) n0 cnt ds ac sk sb be a1 a2 a3 a4 a5 a6 a7 a8 a9 a10 := by
  refine pk_le 40000 st (fun z => absurd z (by omega)) (fun _ => br_f (nI_pos (by omega)) ?_)
  rcases hmd with ⟨e, e1⟩ | ⟨e, e1, e2, hi, hj⟩
  · subst e e1
    have e0 : dt_z (dt_re false i j M) = 0 := rfl
    rw [e0] at H
    exact br_f (by decide) H
  · subst e e1 e2
    have ei : 25 * nI d + 5 * nI i + nI j = nI (25 * d + 5 * i + j) := by
      rw [show (25 : Int32) = nI 25 from rfl, pk_mul, dt_ixb]
    refine br_t (nI_pos' (by omega)) ⟨pk_in (25 * d + 5 * i + j) 225 (by omega) ei, ?_⟩
    rw [ei, nI_clamp (by omega), Nat.add_assoc, h9 i j hi hj]
    exact H
theorem dt_md_ij (hmd : dt_md md i j x1 x2) : md = true → i < 3 ∧ j < 3 := by
  intro h
  rcases hmd with ⟨e, _⟩ | ⟨_, _, _, hi, hj⟩
  · rw [e] at h
    exact absurd h (by decide)
  · exact ⟨hi, hj⟩
theorem dt_leaf {Pall P0 : Int → Int → Prop} {n d st : Nat} {any : Int32} {M : Nat → Nat → Int} (hmd : dt_md md i j x1 x2) (hd : d ≤ 3) (hst : st < 40000) (hM : dt_ok M) (h9 : dt_h a9 (25 * d) M) (hact : ac = nI d) (hab : dt_ab md i j any be P0) (hPa : ∀ x y, dt_D M x y → Pall x y)
    (HL : md = false → ∀ b, (∃ x y, Pall x y) → post 1 (n0, cnt, ds, ac, sk, sb, b, a1, a2, a3, a4, a5, a6, a7, a8, a9, a10))
    (HK : ∀ b, dt_ab md i j 1 b (fun x y => P0 x y ∨ dt_D M x y) → wX_search_69 post x1 x2 n 1 (dt_z ((d : Int) - 1)) (nI (st + 1)) n0 cnt ds ac sk sb b a1 a2 a3 a4 a5 a6 a7 a8 a9 a10) : wX_search_69 post x1 x2 (n + 1) any (nI d) (nI st) n0 cnt ds ac sk sb be a1 a2 a3 a4 a5 a6 a7 a8 a9 a10 := by
  have hij := dt_md_ij hmd
  have hb := dt_re_b (i := i) (j := j) hij hM
  obtain ⟨x0, y0, hD0, ho0⟩ := dt_ob_att (i := i) (j := j) hij hM
  have hi : i < 2 ^ 31 ∨ md = false := by
    rcases hmd with ⟨e, _⟩ | ⟨_, _, _, hi, _⟩
    · exact Or.inr e
    · exact Or.inl (by omega)
  refine dt_69 hmd hd hst h9 ?_
  unfold wX_search_105
  refine br_t hact.symm ?_
  have hf : ∀ b, md = false → post 1 (n0, cnt, ds, ac, sk, sb, b, a1, a2, a3, a4, a5, a6, a7, a8, a9, a10) := fun b e => HL e b ⟨x0, y0, hPa x0 y0 hD0⟩
  have h137 : ∀ z, (md = true → dt_ab md i j 1 z (fun x y => P0 x y ∨ dt_D M x y)) → wX_search_137 post (wX_search_69 post x1 x2 n) x1 x2 1 (nI d) (nI st) z n0 cnt ds ac sk sb be a1 a2 a3 a4 a5 a6 a7 a8 a9 a10 := by
    intro z hz
    rcases hmd with ⟨e, e1⟩ | ⟨e, e1, e2, hi, hj⟩
    · subst e1
      exact br_f (by decide) ⟨rfl, hf z e⟩
    · have hz' := HK z (hz e)
      subst e1
      exact br_t (nI_pos' (by omega)) (nm_r (dt_m1 d) (nm_r (nI_1 st) hz'))
  rcases hab with ⟨_, eb, hn⟩ | ⟨_, et, m, hm, eb, ⟨xm, ym, hPm, hom⟩, hle⟩
  · refine dt_le (dt_re md i j M) (-1000) (fun z => absurd z (by omega)) (fun _ => h137 _ (fun e => ?_)) rfl eb (by omega) (by omega)
    refine Or.inr ⟨rfl, e, dt_re md i j M, hb, rfl, ⟨x0, y0, Or.inr hD0, ho0⟩, fun x y h => ?_⟩
    rcases h with h | h
    · exact absurd h (hn x y)
    · exact dt_ob_le hij h
  · refine dt_le (dt_re md i j M) m (fun z => h137 _ (fun e => ?_)) (fun z => h137 _ (fun e => ?_)) rfl eb (by omega) (by omega)
    · refine Or.inr ⟨rfl, e, m, hm, eb, ⟨xm, ym, Or.inl hPm, hom⟩, fun x y h => ?_⟩
      rcases h with h | h
      · exact hle x y h
      · exact Int.le_trans (dt_ob_le hij h) z
    · refine Or.inr ⟨rfl, e, dt_re md i j M, hb, rfl, ⟨x0, y0, Or.inr hD0, ho0⟩, fun x y h => ?_⟩
      rcases h with h | h
      · have g := hle x y h
        omega
      · exact dt_ob_le hij h
/-- a node that isn't a leaf: cut off, or goOn -/
theorem dt_inner {P0 Q : Int → Int → Prop} {n d t st : Nat} {any : Int32} {M : Nat → Nat → Int} (hcf : dt_cf V a1 a2 a3 a4) (hs : -1 ≤ sp ∧ sp ≤ 8) (hsk : sk = dt_z sp) (hmd : dt_md md i j x1 x2) (hd : d < act) (ha : act ≤ 3) (hac : ac = nI act) (hst : st < 40000) (ht2 : t ≤ 2) (ht : a10 d = nI t) (hM : dt_ok M) (h9 : dt_h a9 (25 * d) M) (hab : dt_ab md i j any be P0) (hQ : ∀ x y, Q x y → dt_D M x y)
    (HP : dt_ab md i j any be (fun x y => P0 x y ∨ Q x y) → wX_search_69 post x1 x2 n any (dt_z ((d : Int) - 1)) (nI (st + 1)) n0 cnt ds ac sk sb be a1 a2 a3 a4 a5 a6 a7 a8 a9 a10)
    (H0 : ∀ b9 b10 : Nat → Int32, (∀ m, m < 25 * d + 25 → b9 m = a9 m) → (∀ m, m < d → b10 m = a10 m) → (∀ x y, dt_D M x y → ¬ dt_rem M V sp d t x y) → wX_search_69 post x1 x2 n any (dt_z ((d : Int) - 1)) (nI (st + 1)) n0 cnt ds ac sk sb be a1 a2 a3 a4 a5 a6 a7 a8 b9 b10)
    (H1 : ∀ (b9 b10 : Nat → Int32) (t' : Nat) (M' : Nat → Nat → Int), (∀ m, m < 25 * d + 25 → b9 m = a9 m) → (∀ m, m < d → b10 m = a10 m) → t < t' → t' ≤ 2 → b10 d = nI t' → dt_ok M' → dt_h b9 (25 * d + 25) M' →
      (∀ x y, dt_D M' x y → dt_D M x y ∧ dt_rem M V sp d t x y) → (∀ x y, dt_D M x y → dt_rem M V sp d t x y → dt_D M' x y ∨ dt_rem M V sp d t' x y) → (∀ x y, dt_rem M V sp d t' x y → dt_rem M V sp d t x y) → wX_search_69 post x1 x2 n any (nI (d + 1)) (nI (st + 1)) n0 cnt ds ac sk sb be a1 a2 a3 a4 a5 a6 a7 a8 b9 (upd b10 (d + 1) 0)) :
    wX_search_69 post x1 x2 (n + 1) any (nI d) (nI st) n0 cnt ds ac sk sb be a1 a2 a3 a4 a5 a6 a7 a8 a9 a10 := by
  have hij := dt_md_ij hmd
  have hb := dt_re_b (i := i) (j := j) hij hM
  have g172 : wX_search_172 post (wX_search_69 post x1 x2 n) x1 x2 any (nI d) (nI st) n0 cnt ds ac sk sb be a1 a2 a3 a4 a5 a6 a7 a8 a9 a10 := by
    unfold wX_search_172
    refine dt_goOn hcf (by omega) ht ht2 hM h9 hs hsk (fun b9 b10 f1 f2 hn => ?_) (fun b9 b10 t' M' f1 f2 l1 l2 e h1 h2 h3 h4 h5 => ?_)
    · exact br_t rfl (nm_r (dt_m1 d) (nm_r (nI_1 st) (H0 b9 b10 f1 f2 hn)))
    · exact br_f (by decide) (nm_r (nI_1 d) ⟨pk_in (d + 1) 9 (by omega), nm_r (by rw [nI_clamp (by omega)]) (nm_r (nI_1 st) (H1 b9 b10 t' M' f1 f2 l1 l2 e h1 h2 h3 h4 h5))⟩)
  refine dt_69 hmd (by omega) hst h9 ?_
  unfold wX_search_105
  subst hac
  refine pk_eq d act (fun z => absurd z (by omega)) (fun _ => ?_)
  have hab' := hab
  rcases hab with ⟨e, _⟩ | ⟨e, et, m, hm, eb, ⟨xm, ym, hPm, hom⟩, hle⟩
  · exact br_t e g172
  · refine br_f (by rw [e]; decide) (dt_lt m (dt_re md i j M) (fun _ => g172) (fun hge => nm_r (dt_m1 d) (nm_r (nI_1 st) (HP ?_))) eb rfl (by omega) (by omega))
    refine Or.inr ⟨e, et, m, hm, eb, ⟨xm, ym, Or.inl hPm, hom⟩, fun x y h => ?_⟩
    rcases h with h | h
    · exact hle x y h
    · exact Int.le_trans (dt_ob_le hij (hQ x y h)) hge
theorem dt_node {Pall : Int → Int → Prop} (hcf : dt_cf V a1 a2 a3 a4) (hs : -1 ≤ sp ∧ sp ≤ 8) (hsk : sk = dt_z sp) (hmd : dt_md md i j x1 x2) (ha : act ≤ 3)
    (HL : md = false → ∀ b b9 b10, (∃ x y, Pall x y) → post 1 (n0, cnt, ds, nI act, sk, sb, b, a1, a2, a3, a4, a5, a6, a7, a8, b9, b10)) :
    ∀ h d, d + h = act → ∀ (t : Nat) (M : Nat → Nat → Int) (st : Nat) (any b : Int32) (b9 b10 : Nat → Int32) (P0 : Int → Int → Prop), t ≤ 2 → dt_ok M → dt_h b9 (25 * d) M → b10 d = nI t → st + dt_c h t ≤ 30000 → dt_ab md i j any b P0 → (∀ x y, dt_Q M V sp d t act x y → Pall x y) →
      (∀ (st' : Nat) (any' b' : Int32) (b9' b10' : Nat → Int32), st' ≤ st + dt_c h t → (∀ m, m < 25 * d → b9' m = b9 m) → (∀ m, m < d → b10' m = b10 m) → dt_ab md i j any' b' (fun x y => P0 x y ∨ dt_Q M V sp d t act x y) → wX_search_69 post x1 x2 (40001 - st') any' (dt_z ((d : Int) - 1)) (nI st') n0 cnt ds (nI act) sk sb b' a1 a2 a3 a4 a5 a6 a7 a8 b9' b10') →
      wX_search_69 post x1 x2 (40001 - st) any (nI d) (nI st) n0 cnt ds (nI act) sk sb b a1 a2 a3 a4 a5 a6 a7 a8 b9 b10 := by
  intro h
  induction h with
  | zero =>
    intro d hdh t M st any b b9 b10 P0 ht2 hM h9 ht hst hab hPa HK
    have hc : dt_c 0 t = 1 := rfl
    have hda : d = act := by omega
    have hQ : ∀ x y, dt_D M x y ↔ dt_Q M V sp d t act x y := fun x y => ⟨fun h => ⟨h, fun z => absurd z (by omega), fun c h1 h2 => absurd h1 (by omega)⟩, fun h => h.1⟩
    rw [show 40001 - st = 40001 - (st + 1) + 1 by omega]
    refine dt_leaf (Pall := Pall) hmd (by omega) (by omega) hM h9 (by rw [hda]) hab (fun x y h => hPa x y ((hQ x y).mp h)) (fun e b hP => HL e b _ _ hP) (fun b hb => ?_)
    exact HK (st + 1) 1 b b9 b10 (by omega) (fun _ _ => rfl) (fun _ _ => rfl) (dt_ab_congr (fun x y => by rw [hQ]) hb)
  | succ h ih =>
    intro d hdh
    have inner : ∀ r t, t + r = 2 → ∀ (M : Nat → Nat → Int) (st : Nat) (any b : Int32) (b9 b10 : Nat → Int32) (P0 : Int → Int → Prop), t ≤ 2 → dt_ok M → dt_h b9 (25 * d) M → b10 d = nI t → st + dt_c (h + 1) t ≤ 30000 → dt_ab md i j any b P0 → (∀ x y, dt_Q M V sp d t act x y → Pall x y) →
        (∀ (st' : Nat) (any' b' : Int32) (b9' b10' : Nat → Int32), st' ≤ st + dt_c (h + 1) t → (∀ m, m < 25 * d → b9' m = b9 m) → (∀ m, m < d → b10' m = b10 m) → dt_ab md i j any' b' (fun x y => P0 x y ∨ dt_Q M V sp d t act x y) → wX_search_69 post x1 x2 (40001 - st') any' (dt_z ((d : Int) - 1)) (nI st') n0 cnt ds (nI act) sk sb b' a1 a2 a3 a4 a5 a6 a7 a8 b9' b10') →
        wX_search_69 post x1 x2 (40001 - st) any (nI d) (nI st) n0 cnt ds (nI act) sk sb b a1 a2 a3 a4 a5 a6 a7 a8 b9 b10 := by
      intro r
      induction r using Nat.strongRecOn with
      | ind r ihr =>
        intro t htr M st any b b9 b10 P0 ht2 hM h9 ht hst hab hPa HK
        have hpos := dt_c_pos (h + 1) t
        rw [show 40001 - st = 40001 - (st + 1) + 1 by omega]
        refine dt_inner (P0 := P0) (Q := dt_Q M V sp d t act) (act := act) hcf hs hsk hmd (by omega) ha rfl (by omega) ht2 ht hM h9 hab (fun x y h => h.1) (fun hp => ?_) (fun c9 c10 f1 f2 hn => ?_) (fun c9 c10 t' M' f1 f2 l1 l2 e k1 k2 k3 k4 k5 => ?_)
        · exact HK (st + 1) any b b9 b10 (by omega) (fun _ _ => rfl) (fun _ _ => rfl) hp
        · refine HK (st + 1) any b c9 c10 (by omega) (fun m hm => f1 m (by omega)) f2 (dt_ab_congr (fun x y => ⟨fun z => Or.inl z, fun z => ?_⟩) hab)
          rcases z with z | z
          · exact z
          · exact absurd (z.2.1 (by omega)) (hn x y z.1)
        · have hstep := dt_c_step (h := h) l1 l2
          have qa : ∀ x y, dt_Q M' V sp (d + 1) 0 act x y → dt_Q M V sp d t act x y := by
            intro x y hq
            have g := k3 x y hq.1
            refine ⟨g.1, fun _ => g.2, fun c c1 c2 => ?_⟩
            by_cases ec : c = d + 1
            · rw [ec] at c2 ⊢
              exact dt_rem_con hq.1 (hq.2.1 c2)
            · exact hq.2.2 c (by omega) c2
          have qb : ∀ x y, dt_Q M V sp d t' act x y → dt_Q M V sp d t act x y := fun x y hq => ⟨hq.1, fun z => k5 x y (hq.2.1 z), hq.2.2⟩
          have qc : ∀ x y, dt_Q M V sp d t act x y → dt_Q M' V sp (d + 1) 0 act x y ∨ dt_Q M V sp d t' act x y := by
            intro x y hq
            rcases k4 x y hq.1 (hq.2.1 (by omega)) with g | g
            · exact Or.inl ⟨g, fun z => dt_rem_0 (hq.2.2 _ (by omega) z), fun c c1 c2 => hq.2.2 c (by omega) c2⟩
            · exact Or.inr ⟨hq.1, fun _ => g, hq.2.2⟩
          refine ih (d + 1) (by omega) 0 M' (st + 1) any b c9 (upd c10 (d + 1) 0) P0 (by omega) k1 ?_ pk_us (by omega) hab (fun x y hq => hPa x y (qa x y hq)) ?_
          · rw [show 25 * (d + 1) = 25 * d + 25 by omega]
            exact k2
          · intro st' any' b' d9 d10 hst' g1 g2 hab'
            rw [dt_m1']
            refine ihr (2 - t') (by omega) t' (by omega) M st' any' b' d9 d10 _ l2 hM ?_ ?_ (by omega) hab' (fun x y hq => hPa x y (qb x y hq)) ?_
            · intro p q hp hq
              rw [g1 _ (by omega), f1 _ (by omega)]
              exact h9 p q hp hq
            · rw [g2 d (by omega), pk_un (by omega)]
              exact e
            · intro st2 any2 b2 e9 e10 hst2 m1 m2 hab2
              refine HK st2 any2 b2 e9 e10 (by omega) (fun m hm => ?_) (fun m hm => ?_) (dt_ab_congr (fun x y => ⟨fun z => ?_, fun z => ?_⟩) hab2)
              · rw [m1 m hm, g1 m (by omega), f1 m (by omega)]
              · rw [m2 m hm, g2 m (by omega), pk_un (by omega), f2 m hm]
              · rcases z with (z | z) | z
                · exact Or.inl z
                · exact Or.inr (qa x y z)
                · exact Or.inr (qb x y z)
              · rcases z with z | z
                · exact Or.inl (Or.inl z)
                · rcases qc x y z with w | w
                  · exact Or.inl (Or.inr w)
                  · exact Or.inr w
    intro t M st any b b9 b10 P0 ht2
    exact inner (2 - t) t (by omega) M st any b b9 b10 P0 ht2
/-- what search answers over the set P -/
def dt_res (md : Bool) (i j : Nat) (r b : Int32) (P : Int → Int → Prop) : Prop := (r = 0 ∧ ∀ x y, ¬ P x y) ∨ (r = 1 ∧ (∃ x y, P x y) ∧ (md = true → ∃ m : Int, (-7 ≤ m ∧ m ≤ 7) ∧ b = dt_z m ∧ (∃ x y, P x y ∧ dt_ob md i j x y = m) ∧ ∀ x y, P x y → dt_ob md i j x y ≤ m))
theorem dt_search {S : Int → Int → Prop} {c : Nat} (hcf : dt_cf V a1 a2 a3 a4) (hs : -1 ≤ sp ∧ sp ≤ 8) (hsk : sk = dt_z sp) (hmd : dt_md md i j x1 x2) (hc : c ≤ 3) (hcnt : cnt = nI c) (hS : dt_St sb a8 S)
    (H : ∀ r b ac' b9 b10, dt_res md i j r b (fun x y => S x y ∧ ∀ k, k < c → dt_con V sp k x y) → post r (n0, cnt, ds, ac', sk, sb, b, a1, a2, a3, a4, a5, a6, a7, a8, b9, b10)) : wpX_search post (n0, cnt, ds, ac, sk, sb, be, a1, a2, a3, a4, a5, a6, a7, a8, a9, a10) x1 x2 := by
  unfold wpX_search
  rcases hS with ⟨e, M, hM, h8, hD⟩ | ⟨e, hE⟩
  · subst hcnt
    refine br_t e ?_
    refine pk_loop (fun n k s => wX_search_32 post x1 x2 0 0 n0 (nI c) ds (nI c) sk sb (-1000) n (nI k) a1 a2 a3 a4 a5 a6 a7 a8 s a10) (fun k s => ∀ q, q < k → s q = a8 q) 25 0 a9 (by omega) (fun q hq => absurd hq (by omega)) ?_ ?_
    · intro n s h
      refine pk_le 25 25 (fun _ => nm_e ⟨40001 - 0, ?_⟩) (fun z => absurd z (by omega))
      have hQ : ∀ x y, dt_Q M V sp 0 0 c x y ↔ S x y ∧ ∀ k, k < c → dt_con V sp k x y := by
        intro x y
        constructor
        · intro hq
          refine ⟨(hD x y).mp hq.1, fun k hk => ?_⟩
          by_cases e0 : k = 0
          · rw [e0] at hk ⊢
            exact dt_rem_con hq.1 (hq.2.1 hk)
          · exact hq.2.2 k (by omega) hk
        · intro hq
          exact ⟨(hD x y).mpr hq.1, fun z => dt_rem_0 (hq.2 0 z), fun k _ hk => hq.2 k hk⟩
      have hcc : dt_c c 0 ≤ 30 := by
        rcases Nat.lt_or_ge c 1 with g | g
        · rw [show c = 0 by omega]; decide
        · rcases Nat.lt_or_ge c 2 with g2 | g2
          · rw [show c = 1 by omega]; decide
          · rcases Nat.lt_or_ge c 3 with g3 | g3
            · rw [show c = 2 by omega]; decide
            · rw [show c = 3 by omega]; decide
      refine dt_node (act := c) (Pall := fun x y => S x y ∧ ∀ k, k < c → dt_con V sp k x y) hcf hs hsk hmd hc (fun ef b b9 b10 hP => H 1 b _ b9 b10 (Or.inr ⟨rfl, hP, fun et => ?_⟩)) c 0 (by omega) 0 M 0 0 _ s (upd a10 0 0) (fun _ _ => False) (by omega) hM ?_ pk_us (by omega) (Or.inl ⟨rfl, rfl, fun _ _ z => z⟩) (fun x y hq => (hQ x y).mp hq) ?_
      · rw [ef] at et
        exact absurd et (by decide)
      · intro p q hp hq
        rw [h _ (by omega)]
        exact h8 p q hp hq
      · intro st' any' b' b9' b10' hst _ _ hab
        rw [show 40001 - st' = 40001 - (st' + 1) + 1 by omega]
        refine pk_le 40000 st' (fun z => absurd z (by omega)) (fun _ => br_t (by decide) ?_)
        have hab' := dt_ab_congr (Q := fun x y => S x y ∧ ∀ k, k < c → dt_con V sp k x y) (fun x y => ⟨fun z => (hQ x y).mp (z.resolve_left id), fun z => Or.inr ((hQ x y).mpr z)⟩) hab
        rcases hab' with ⟨e1, _, hn⟩ | ⟨e1, et, m, hm, eb, hx, hle⟩
        · subst e1
          exact ⟨rfl, H 0 b' _ b9' b10' (Or.inl ⟨rfl, hn⟩)⟩
        · subst e1
          exact ⟨rfl, H 1 b' _ b9' b10' (Or.inr ⟨rfl, hx.elim (fun x hy => hy.elim (fun y hp => ⟨x, y, hp.1⟩)), fun _ => ⟨m, hm, eb, hx, hle⟩⟩)⟩
    · intro n k s hk h hw
      have hw' : (∀ q, q < k + 1 → upd s k (a8 k) q = a8 q) → wX_search_32 post x1 x2 0 0 n0 (nI c) ds (nI c) sk sb (-1000) n (nI (k + 1)) a1 a2 a3 a4 a5 a6 a7 a8 (upd s k (a8 k)) a10 := fun g => hw _ g
      exact pk_le 25 k (fun z => absurd z (by omega)) (fun _ => ⟨pk_in k 25 hk, pk_in k 225 (by omega), nm_r (by rw [nI_clamp (by omega)]) (nm_r (nI_1 k) (hw' (dt_fill rfl h rfl)))⟩)
  · exact br_f (by rw [e]; decide) (H 0 be ac a9 a10 (Or.inl ⟨rfl, fun x y h => hE x y h.1⟩))
end
end
section
/-! the class's methods over the three constraints -/
def dt_bx (x y : Int) : Prop := (0 ≤ x ∧ x ≤ 7) ∧ (0 ≤ y ∧ y ≤ 7)
/-- the plans that meet the first c constraints -/
def dt_P (V : Nat → Nat → Nat) (c : Nat) (x y : Int) : Prop := dt_bx x y ∧ ∀ k, k < c → dt_con V (-1) k x y
theorem dt_St_bx {b8 : Nat → Int32} (h : dt_h b8 0 dt_M0) : dt_St 0 b8 dt_bx := Or.inl ⟨rfl, dt_M0, dt_M0_ok, h, dt_M0_D⟩
section
variable {n0 cnt ds ac sk sb be : Int32} {a1 a2 a3 a4 a5 a6 a7 a8 a9 a10 : Nat → Int32} {post : Int32 → St2 → Prop} {V : Nat → Nat → Nat}
theorem dt_isEvent1 {po : Int32 → Prop} (h : po 1) : wpX_isEvent po (2, cnt, ds, ac, sk, sb, be, a1, a2, a3, a4, a5, a6, a7, a8, a9, a10) 1 := by
  unfold wpX_isEvent
  exact br_f (by decide) (br_f (by decide) h)
theorem dt_isPoint {po : Int32 → Prop} {e : Nat} {p : Int32} (he : e < 3) (hp : p = nI e) (h : po 1) : wpX_isPoint po (2, cnt, ds, ac, sk, sb, be, a1, a2, a3, a4, a5, a6, a7, a8, a9, a10) p := by
  unfold wpX_isPoint
  subst hp
  exact br_f (nI_pos (by omega)) (pk_lt 2 e (fun z => absurd z (by omega)) (fun _ => h))
/-- the least time of the second event -/
def dt_ear (V : Nat → Nat → Nat) (r : Int32) : Prop := (r = -2 ∧ ∀ x y, ¬ dt_P V 3 x y) ∨ (∃ m : Int, r = dt_z m ∧ (∃ x, dt_P V 3 x m) ∧ ∀ x y, dt_P V 3 x y → m ≤ y)
theorem dt_earliest (hcf : dt_cf V a1 a2 a3 a4) (H : ∀ r c ac' b b8 b9 b10, dt_ear V r → post r (2, nI 3, ds, ac', -1, c, b, a1, a2, a3, a4, a5, a6, a7, b8, b9, b10)) : wpX_earliest post (2, nI 3, ds, ac, -1, sb, be, a1, a2, a3, a4, a5, a6, a7, a8, a9, a10) 1 := by
  unfold wpX_earliest
  refine dt_isEvent1 (br_f (by decide) (dt_open (fun b8 hb => ?_)))
  refine dt_search (md := true) (i := 2) (j := 1) (c := 3) (sp := -1) hcf (by omega) rfl (Or.inr ⟨rfl, rfl, rfl, by omega, by omega⟩) (by omega) rfl (dt_St_bx hb) (fun r b ac' b9 b10 hr => ?_)
  rcases hr with ⟨e, hn⟩ | ⟨e, hx, hm⟩
  · subst e
    exact br_t rfl (H _ _ _ _ _ _ _ (Or.inl ⟨rfl, hn⟩))
  · subst e
    obtain ⟨m, hb, eb, ⟨x, y, hP, ho⟩, hle⟩ := hm rfl
    have ho' : (0 : Int) - y = m := ho
    refine br_f (by decide) (H _ _ _ _ _ _ _ (Or.inr ⟨-m, ?_, ⟨x, ?_⟩, fun x' y' hP' => ?_⟩))
    · rw [eb, dt_z_neg]
    · rw [show -m = y by omega]
      exact hP
    · have g : (0 : Int) - y' ≤ m := hle x' y' hP'
      omega
def dt_lat (V : Nat → Nat → Nat) (r : Int32) : Prop := (r = -2 ∧ ∀ x y, ¬ dt_P V 3 x y) ∨ (∃ m : Int, r = dt_z m ∧ (∃ x, dt_P V 3 x m) ∧ ∀ x y, dt_P V 3 x y → y ≤ m)
theorem dt_latest (hcf : dt_cf V a1 a2 a3 a4) (H : ∀ r c ac' b b8 b9 b10, dt_lat V r → post r (2, nI 3, ds, ac', -1, c, b, a1, a2, a3, a4, a5, a6, a7, b8, b9, b10)) : wpX_latest post (2, nI 3, ds, ac, -1, sb, be, a1, a2, a3, a4, a5, a6, a7, a8, a9, a10) 1 := by
  unfold wpX_latest
  refine dt_isEvent1 (br_f (by decide) (dt_open (fun b8 hb => ?_)))
  refine dt_search (md := true) (i := 1) (j := 2) (c := 3) (sp := -1) hcf (by omega) rfl (Or.inr ⟨rfl, rfl, rfl, by omega, by omega⟩) (by omega) rfl (dt_St_bx hb) (fun r b ac' b9 b10 hr => ?_)
  rcases hr with ⟨e, hn⟩ | ⟨e, hx, hm⟩
  · subst e
    exact br_t rfl (H _ _ _ _ _ _ _ (Or.inl ⟨rfl, hn⟩))
  · subst e
    obtain ⟨m, hb, eb, ⟨x, y, hP, ho⟩, hle⟩ := hm rfl
    have ho' : y - 0 = m := ho
    refine br_f (by decide) (H _ _ _ _ _ _ _ (Or.inr ⟨m, eb, ⟨x, ?_⟩, fun x' y' hP' => ?_⟩))
    · rw [show m = y by omega]
      exact hP
    · have g : y' - 0 ≤ m := hle x' y' hP'
      omega
def dt_wid (V : Nat → Nat → Nat) (r : Int32) : Prop := (r = -200 ∧ ∀ x y, ¬ dt_P V 3 x y) ∨ (∃ m : Int, r = dt_z m ∧ (∃ x y, dt_P V 3 x y ∧ y - x = m) ∧ ∀ x y, dt_P V 3 x y → y - x ≤ m)
theorem dt_widest (hcf : dt_cf V a1 a2 a3 a4) (H : ∀ r c ac' b b8 b9 b10, dt_wid V r → post r (2, nI 3, ds, ac', -1, c, b, a1, a2, a3, a4, a5, a6, a7, b8, b9, b10)) : wpX_widest post (2, nI 3, ds, ac, -1, sb, be, a1, a2, a3, a4, a5, a6, a7, a8, a9, a10) 1 0 := by
  unfold wpX_widest
  refine dt_isPoint (e := 1) (by omega) rfl (br_f (by decide) (dt_isPoint (e := 0) (by omega) rfl (br_f (by decide) (dt_open (fun b8 hb => ?_)))))
  refine dt_search (md := true) (i := 1) (j := 0) (c := 3) (sp := -1) hcf (by omega) rfl (Or.inr ⟨rfl, rfl, rfl, by omega, by omega⟩) (by omega) rfl (dt_St_bx hb) (fun r b ac' b9 b10 hr => ?_)
  rcases hr with ⟨e, hn⟩ | ⟨e, hx, hm⟩
  · subst e
    exact br_t rfl (H _ _ _ _ _ _ _ (Or.inl ⟨rfl, hn⟩))
  · subst e
    obtain ⟨m, hb, eb, ⟨x, y, hP, ho⟩, hle⟩ := hm rfl
    exact br_f (by decide) (H _ _ _ _ _ _ _ (Or.inr ⟨m, eb, ⟨x, y, hP, ho⟩, fun x' y' hP' => hle x' y' hP'⟩))
theorem dt_canMeet {S : Int → Int → Prop} {sp : Int} {c : Nat} (hcf : dt_cf V a1 a2 a3 a4) (hs : -1 ≤ sp ∧ sp ≤ 8) (hsk : sk = dt_z sp) (hc : c ≤ 3) (hcnt : cnt = nI c) (hS : dt_St sb a8 S)
    (H0 : (∀ x y, ¬ (S x y ∧ ∀ k, k < c → dt_con V sp k x y)) → ∀ ac' b b9 b10, post 0 (n0, cnt, ds, ac', sk, sb, b, a1, a2, a3, a4, a5, a6, a7, a8, b9, b10))
    (H1 : (∃ x y, S x y ∧ ∀ k, k < c → dt_con V sp k x y) → ∀ ac' b b9 b10, post 1 (n0, cnt, ds, ac', sk, sb, b, a1, a2, a3, a4, a5, a6, a7, a8, b9, b10)) : wpX_canMeet post (n0, cnt, ds, ac, sk, sb, be, a1, a2, a3, a4, a5, a6, a7, a8, a9, a10) := by
  unfold wpX_canMeet
  refine dt_search (md := false) (i := 0) (j := 0) hcf hs hsk (Or.inl ⟨rfl, rfl⟩) hc hcnt hS (fun r b ac' b9 b10 hr => ?_)
  rcases hr with ⟨e, hn⟩ | ⟨e, hx, _⟩
  · subst e
    exact ⟨rfl, H0 hn _ _ _ _⟩
  · subst e
    exact ⟨rfl, H1 hx _ _ _ _⟩
/-- how many of the last constraints go -/
def dt_exc (V : Nat → Nat → Nat) (r : Int32) : Prop := ∃ c : Nat, c ≤ 3 ∧ r = nI (3 - c) ∧ (∃ x y, dt_P V c x y) ∧ ∀ c', c < c' → c' ≤ 3 → ∀ x y, ¬ dt_P V c' x y
theorem dt_exc_loop (hcf : dt_cf V a1 a2 a3 a4) (H : ∀ r s, dt_exc V r → post r s) : ∀ c, c ≤ 3 → ∀ (ac sb be : Int32) (a8 a9 a10 : Nat → Int32), (∀ c', c < c' → c' ≤ 3 → ∀ x y, ¬ dt_P V c' x y) → wX_excess_9 post (nI 3) (c + 1) (nI (3 - c)) (nI (3 - c)) 2 (nI c) ds ac (-1) sb be a1 a2 a3 a4 a5 a6 a7 a8 a9 a10 := by
  intro c
  induction c with
  | zero =>
    intro hc ac sb be a8 a9 a10 hE
    refine pk_lt 8 (3 - 0) (fun z => absurd z (by omega)) (fun _ => dt_open (fun b8 hb => dt_canMeet (c := 0) (sp := -1) hcf (by omega) rfl (by omega) rfl (dt_St_bx hb) (fun hn ac' b b9 b10 => ?_) (fun hx ac' b b9 b10 => ?_)))
    · exact absurd ⟨⟨by omega, by omega⟩, fun k hk => absurd hk (by omega)⟩ (hn 0 0)
    · exact br_f (by decide) (H _ _ ⟨0, by omega, rfl, hx, hE⟩)
  | succ c ih =>
    intro hc ac sb be a8 a9 a10 hE
    refine pk_lt 8 (3 - (c + 1)) (fun z => absurd z (by omega)) (fun _ => dt_open (fun b8 hb => dt_canMeet (c := c + 1) (sp := -1) hcf (by omega) rfl hc rfl (dt_St_bx hb) (fun hn ac' b b9 b10 => ?_) (fun hx ac' b b9 b10 => ?_)))
    · refine br_t rfl (nm_r (nI_pred c) (nm_r (e' := nI (3 - c)) (by rw [nI_1]; exact congrArg nI (by omega)) (nm_r (e' := nI (3 - c)) (by rw [nI_1]; exact congrArg nI (by omega)) (ih (by omega) _ _ _ _ _ _ (fun c' h1 h2 => ?_)))))
      by_cases e : c' = c + 1
      · rw [e]
        exact hn
      · exact hE c' (by omega) h2
    · exact br_f (by decide) (H _ _ ⟨c + 1, hc, rfl, hx, hE⟩)
theorem dt_excess (hcf : dt_cf V a1 a2 a3 a4) (H : ∀ r s, dt_exc V r → post r s) : wpX_excess post (2, nI 3, ds, ac, -1, sb, be, a1, a2, a3, a4, a5, a6, a7, a8, a9, a10) := by
  unfold wpX_excess
  exact ⟨3 + 1, dt_exc_loop hcf H 3 (by omega) _ _ _ _ _ _ (fun c' h1 h2 => absurd h1 (by omega))⟩
/-- whether the last constraint follows from the others -/
def dt_red (V : Nat → Nat → Nat) (r : Int32) : Prop := (r = 1 ∧ ∀ x y, dt_P V 2 x y → dt_P V 3 x y) ∨ (r = 0 ∧ ∃ x y, dt_P V 2 x y ∧ ¬ dt_P V 3 x y)
theorem dt_red_step {S : Int → Int → Prop} {n a : Nat} (hcf : dt_cf V a1 a2 a3 a4) (ha : a < 2) (hS : dt_St sb a8 S)
    (H : ∀ c b8, dt_St c b8 (fun x y => S x y ∧ ¬ dt_alt (V 2 a) x y) → wX_redundant_18 post 2 n (nI (6 + a + 1)) n0 cnt ds ac sk c be a1 a2 a3 a4 a5 a6 a7 b8 a9 a10) : wX_redundant_18 post 2 (n + 1) (nI (6 + a)) n0 cnt ds ac sk sb be a1 a2 a3 a4 a5 a6 a7 a8 a9 a10 := by
  obtain ⟨hv, c1, c2, c3⟩ := hcf.2 2 a (by omega) ha
  have g1 : a1 (nI (6 + a)).toNatClampNeg = nI (dt_lf (V 2 a)) := by
    rw [nI_clamp (by omega)]
    exact c1
  have g2 : a2 (nI (6 + a)).toNatClampNeg = nI (dt_rt (V 2 a)) := by
    rw [nI_clamp (by omega)]
    exact c2
  have g3 : (-(a3 (nI (6 + a)).toNatClampNeg)) - 1 = dt_z (-(dt_k (V 2 a)) - 1) := by
    rw [nI_clamp (by omega), show a3 (6 + a) = dt_z (dt_k (V 2 a)) from c3, dt_z_neg, show (1 : Int32) = dt_z 1 from rfl, dt_z_sub]
  have g4 : a4 (2 : Int32).toNatClampNeg = nI 2 := hcf.1 2 (by omega)
  have e8 : 3 * 2 + a4 (2 : Int32).toNatClampNeg = nI 8 := by
    rw [g4]
    decide
  have p24 : vp_in (nI (6 + a)) 24 := pk_in (6 + a) 24 (by omega)
  have l3 := dt_k_b hv
  refine ⟨pk_in 2 8 (by omega), pk_le 8 (6 + a) (fun z => absurd z (by omega)) (fun _ => ⟨p24, p24, p24, dt_ts hS (dt_rt_3 _) (dt_lf_3 _) (by omega) g2 g1 g3 (fun c b8 hc => nm_r (nI_1 _) (H c b8 ?_))⟩) e8 rfl⟩
  have e : (fun x y => S x y ∧ dt_tm x y (dt_rt (V 2 a)) - dt_tm x y (dt_lf (V 2 a)) ≤ -(dt_k (V 2 a)) - 1) = (fun x y => S x y ∧ ¬ dt_alt (V 2 a) x y) := by
    funext x y
    refine propext ⟨fun h => ⟨h.1, fun z => ?_⟩, fun h => ⟨h.1, ?_⟩⟩
    · have h2 := h.2
      unfold dt_alt at z
      omega
    · have h2 := h.2
      unfold dt_alt at h2
      omega
  rw [← e]
  exact hc
theorem dt_redundant (hcf : dt_cf V a1 a2 a3 a4) (H : ∀ r c ac' b b8 b9 b10, dt_red V r → post r (2, nI 3, ds, ac', -1, c, b, a1, a2, a3, a4, a5, a6, a7, b8, b9, b10)) : wpX_redundant post (2, nI 3, ds, ac, -1, sb, be, a1, a2, a3, a4, a5, a6, a7, a8, a9, a10) 2 := by
  unfold wpX_redundant
  have hic : ∀ po : Int32 → Prop, po 1 → wpX_isConstraint po (2, nI 3, ds, ac, -1, sb, be, a1, a2, a3, a4, a5, a6, a7, a8, a9, a10) 2 := by
    intro po h
    unfold wpX_isConstraint
    exact br_f (by decide) (br_f (by decide) h)
  refine hic _ (br_f (by decide) (dt_open (fun b8 hb => nm_r (e' := nI (6 + 0)) (by decide) ⟨3, ?_⟩)))
  refine dt_red_step hcf (by omega) (dt_St_bx hb) (fun c1 c8 h1 => dt_red_step (a := 1) hcf (by omega) h1 (fun c2 d8 h2 => ?_))
  have g4 : a4 (2 : Int32).toNatClampNeg = nI 2 := hcf.1 2 (by omega)
  have e8 : 3 * 2 + a4 (2 : Int32).toNatClampNeg = nI 8 := by
    rw [g4]
    decide
  have key : ∀ x y, (((dt_bx x y ∧ ¬ dt_alt (V 2 0) x y) ∧ ¬ dt_alt (V 2 1) x y) ∧ ∀ k, k < 3 → dt_con V 2 k x y) ↔ dt_P V 2 x y ∧ ¬ dt_P V 3 x y := by
    intro x y
    constructor
    · intro h
      refine ⟨⟨h.1.1.1, fun k hk => ?_⟩, fun z => ?_⟩
      · rcases h.2 k (by omega) with e | e
        · exact absurd e (by omega)
        · exact Or.inr e
      · rcases z.2 2 (by omega) with e | e | e
        · exact absurd e (by decide)
        · exact h.1.1.2 e
        · exact h.1.2 e
    · intro h
      refine ⟨⟨⟨h.1.1, fun z => h.2 ⟨h.1.1, fun k hk => ?_⟩⟩, fun z => h.2 ⟨h.1.1, fun k hk => ?_⟩⟩, fun k hk => ?_⟩
      · by_cases e : k = 2
        · rw [e]
          exact Or.inr (Or.inl z)
        · exact h.1.2 k (by omega)
      · by_cases e : k = 2
        · rw [e]
          exact Or.inr (Or.inr z)
        · exact h.1.2 k (by omega)
      · by_cases e : k = 2
        · rw [e]
          exact Or.inl rfl
        · rcases h.1.2 k (by omega) with g | g
          · exact absurd g (by omega)
          · exact Or.inr g
  refine ⟨pk_in 2 8 (by omega), pk_le 8 8 (fun _ => ?_) (fun z => absurd z (by omega)) e8 rfl⟩
  refine dt_canMeet (c := 3) (sp := 2) hcf (by omega) rfl (by omega) rfl h2 (fun hn ac' b b9 b10 => ?_) (fun hx ac' b b9 b10 => ?_)
  · refine br_t rfl (H _ _ _ _ _ _ _ (Or.inl ⟨rfl, fun x y hP => ?_⟩))
    by_cases g : dt_P V 3 x y
    · exact g
    · exact absurd ((key x y).mpr ⟨hP, g⟩) (hn x y)
  · obtain ⟨x, y, hxy⟩ := hx
    exact br_f (by decide) (H _ _ _ _ _ _ _ (Or.inr ⟨rfl, x, y, (key x y).mp hxy⟩))
end
end
section
/-! meets, firstFrom, next -/
theorem dt_t0 : ∀ v, v < 64 → ((nI v >>> ((3 * (((2 : Int32) - 1) - nI 0)) &&& 31)) &&& 7) = nI (v / 8) := by decide +kernel
theorem dt_t1 : ∀ v, v < 64 → ((nI v >>> ((3 * (((2 : Int32) - 1) - nI 1)) &&& 31)) &&& 7) = nI (v % 8) := by decide +kernel
section
variable {n0 cnt ds ac sk sb be : Int32} {a1 a2 a3 a4 a5 a6 a7 a8 a9 a10 : Nat → Int32} {V : Nat → Nat → Nat}
theorem dt_timeIn {po : Int32 → Prop} {v e : Nat} {p : Int32} (hv : v < 64) (he : e < 3) (hp : p = nI e) (H : po (dt_z (dt_tm ((v / 8 : Nat) : Int) ((v % 8 : Nat) : Int) e))) : wpX_timeIn po (2, cnt, ds, ac, sk, sb, be, a1, a2, a3, a4, a5, a6, a7, a8, a9, a10) (nI v) p := by
  subst hp
  unfold wpX_timeIn
  rcases dt_3 he with h | h | h
  · subst h
    refine br_f (by decide) ?_
    rw [dt_t0 v hv, dt_z_nat]
    exact H
  · subst h
    refine br_f (by decide) ?_
    rw [dt_t1 v hv, dt_z_nat]
    exact H
  · subst h
    exact br_t rfl H
theorem dt_tm_b {v e : Nat} (hv : v < 64) : 0 ≤ dt_tm ((v / 8 : Nat) : Int) ((v % 8 : Nat) : Int) e ∧ dt_tm ((v / 8 : Nat) : Int) ((v % 8 : Nat) : Int) e ≤ 7 := by
  unfold dt_tm
  split <;> omega
theorem dt_m35_0 {po : Int32 → Prop} {J : Int32 → Prop} {n v c a : Nat} (hcf : dt_cf V a1 a2 a3 a4) (hv : v < 64) (hc : c < 3) (ha : a < 2)
    (H1 : dt_alt (V c a) ((v / 8 : Nat) : Int) ((v % 8 : Nat) : Int) → wX_meets_35 po J (nI v) (nI c) 2 cnt ds ac sk sb be a1 a2 a3 a4 a5 a6 a7 a8 a9 a10 n 1 (nI (3 * c + a + 1)))
    (H0 : ¬ dt_alt (V c a) ((v / 8 : Nat) : Int) ((v % 8 : Nat) : Int) → wX_meets_35 po J (nI v) (nI c) 2 cnt ds ac sk sb be a1 a2 a3 a4 a5 a6 a7 a8 a9 a10 n 0 (nI (3 * c + a + 1))) : wX_meets_35 po J (nI v) (nI c) 2 cnt ds ac sk sb be a1 a2 a3 a4 a5 a6 a7 a8 a9 a10 (n + 1) 0 (nI (3 * c + a)) := by
  obtain ⟨hV, c1, c2, c3⟩ := hcf.2 c a hc ha
  have g1 : a1 (nI (3 * c + a)).toNatClampNeg = nI (dt_lf (V c a)) := by
    rw [nI_clamp (by omega)]
    exact c1
  have g2 : a2 (nI (3 * c + a)).toNatClampNeg = nI (dt_rt (V c a)) := by
    rw [nI_clamp (by omega)]
    exact c2
  have g3 : a3 (nI (3 * c + a)).toNatClampNeg = dt_z (dt_k (V c a)) := by
    rw [nI_clamp (by omega)]
    exact c3
  have g4 : 3 * nI c + a4 (nI c).toNatClampNeg = nI (3 * c + 2) := by
    rw [nI_clamp (by omega), hcf.1 c hc, dt_ix3]
  have p24 : vp_in (nI (3 * c + a)) 24 := pk_in (3 * c + a) 24 (by omega)
  have l3 := dt_k_b hV
  have t1 := dt_tm_b (e := dt_lf (V c a)) hv
  have t2 := dt_tm_b (e := dt_rt (V c a)) hv
  refine ⟨pk_in c 8 (by omega), pk_le (3 * c + 2) (3 * c + a) (fun z => absurd z (by omega)) (fun _ => br_t rfl ⟨p24, dt_timeIn hv (dt_lf_3 _) g1 ⟨p24, dt_timeIn hv (dt_rt_3 _) g2 ⟨p24, ?_⟩⟩⟩) g4 rfl⟩
  exact dt_lt (dt_k (V c a)) (dt_tm ((v / 8 : Nat) : Int) ((v % 8 : Nat) : Int) (dt_lf (V c a)) - dt_tm ((v / 8 : Nat) : Int) ((v % 8 : Nat) : Int) (dt_rt (V c a))) (fun h => nm_r (nI_1 _) (H0 (fun z => absurd h (Int.not_lt.mpr z)))) (fun h => nm_r (nI_1 _) (H1 h)) g3 (by rw [dt_z_sub]) (by omega) (by omega)
theorem dt_m35_1 {po : Int32 → Prop} {J : Int32 → Prop} {n v c a : Nat} (hcf : dt_cf V a1 a2 a3 a4) (hc : c < 3) (ha : a < 2)
    (H1 : wX_meets_35 po J (nI v) (nI c) 2 cnt ds ac sk sb be a1 a2 a3 a4 a5 a6 a7 a8 a9 a10 n 1 (nI (3 * c + a + 1))) : wX_meets_35 po J (nI v) (nI c) 2 cnt ds ac sk sb be a1 a2 a3 a4 a5 a6 a7 a8 a9 a10 (n + 1) 1 (nI (3 * c + a)) := by
  have g4 : 3 * nI c + a4 (nI c).toNatClampNeg = nI (3 * c + 2) := by
    rw [nI_clamp (by omega), hcf.1 c hc, dt_ix3]
  exact ⟨pk_in c 8 (by omega), pk_le (3 * c + 2) (3 * c + a) (fun z => absurd z (by omega)) (fun _ => br_f (by decide) (nm_r (nI_1 _) H1)) g4 rfl⟩
theorem dt_m35_x {po : Int32 → Prop} {J : Int32 → Prop} {n v c : Nat} {x3 : Int32} (hcf : dt_cf V a1 a2 a3 a4) (hc : c < 3) (H0 : x3 = 0 → po 0) (H1 : ¬ x3 = 0 → J (nI (c + 1))) : wX_meets_35 po J (nI v) (nI c) 2 cnt ds ac sk sb be a1 a2 a3 a4 a5 a6 a7 a8 a9 a10 (n + 1) x3 (nI (3 * c + 2)) := by
  have g4 : 3 * nI c + a4 (nI c).toNatClampNeg = nI (3 * c + 2) := by
    rw [nI_clamp (by omega), hcf.1 c hc, dt_ix3]
  exact ⟨pk_in c 8 (by omega), pk_le (3 * c + 2) (3 * c + 2) (fun _ => br_c H0 (fun z => nm_r (nI_1 c) (H1 z))) (fun z => absurd z (by omega)) g4 rfl⟩
theorem dt_m35 {po : Int32 → Prop} {J : Int32 → Prop} {v c : Nat} (hcf : dt_cf V a1 a2 a3 a4) (hv : v < 64) (hc : c < 3)
    (H0 : ¬ dt_con V (-1) c ((v / 8 : Nat) : Int) ((v % 8 : Nat) : Int) → po 0) (H1 : dt_con V (-1) c ((v / 8 : Nat) : Int) ((v % 8 : Nat) : Int) → J (nI (c + 1))) : ∃ fu, wX_meets_35 po J (nI v) (nI c) 2 cnt ds ac sk sb be a1 a2 a3 a4 a5 a6 a7 a8 a9 a10 fu 0 (nI (3 * c)) := by
  have h1 : (1 : Int32) ≠ 0 := by decide
  refine ⟨3, dt_m35_0 (a := 0) hcf hv hc (by omega) (fun k0 => dt_m35_1 (a := 1) hcf hc (by omega) (dt_m35_x hcf hc (fun z => absurd z h1) (fun _ => H1 (Or.inr (Or.inl k0))))) (fun k0 => dt_m35_0 (a := 1) hcf hv hc (by omega) (fun k1 => dt_m35_x hcf hc (fun z => absurd z h1) (fun _ => H1 (Or.inr (Or.inr k1)))) (fun k1 => dt_m35_x hcf hc (fun _ => H0 (fun z => ?_)) (fun z => absurd rfl z)))⟩
  rcases z with e | e | e
  · exact absurd e (by omega)
  · exact k0 e
  · exact k1 e
theorem dt_meets {po : Int32 → Prop} {v : Nat} (hcf : dt_cf V a1 a2 a3 a4) (hv : v < 64)
    (H0 : ¬ (∀ k, k < 3 → dt_con V (-1) k ((v / 8 : Nat) : Int) ((v % 8 : Nat) : Int)) → po 0) (H1 : (∀ k, k < 3 → dt_con V (-1) k ((v / 8 : Nat) : Int) ((v % 8 : Nat) : Int)) → po 1) : wpX_meets po (2, nI 3, ds, ac, sk, sb, be, a1, a2, a3, a4, a5, a6, a7, a8, a9, a10) (nI v) := by
  unfold wpX_meets
  have e64 : (1 : Int32) <<< ((3 * 2 : Int32) &&& 31) = nI 64 := by decide
  refine br_f (nI_pos (by omega)) (pk_lt v 64 (fun _ => ?_) (fun z => absurd z (by omega)) rfl e64)
  refine pk_loop (σ := Unit) (fun n c _ => wX_meets_20 po (nI v) 2 (nI 3) ds ac sk sb be a1 a2 a3 a4 a5 a6 a7 a8 a9 a10 n (nI c)) (fun c _ => ∀ k, k < c → dt_con V (-1) k ((v / 8 : Nat) : Int) ((v % 8 : Nat) : Int)) 3 0 () (by omega) (fun k hk => absurd hk (by omega)) ?_ ?_
  · intro n _ h
    exact pk_le 3 3 (fun _ => H1 h) (fun z => absurd z (by omega))
  · intro n c _ hc h hw
    refine pk_le 3 c (fun z => absurd z (by omega)) (fun _ => nm_r (e' := nI (3 * c)) (by rw [show (3 : Int32) = nI 3 from rfl, pk_mul]) (dt_m35 hcf hv hc (fun z => H0 (fun g => z (g c hc))) (fun z => hw () ?_)))
    intro k hk
    by_cases e : k = c
    · rw [e]
      exact z
    · exact h k (by omega)
end
section
variable {n0 cnt ds ac sk sb be : Int32} {a1 a2 a3 a4 a5 a6 a7 a8 a9 a10 : Nat → Int32} {post : Int32 → St2 → Prop} {V : Nat → Nat → Nat}
/-- one turn of firstFrom's last loop: the least time of the event p -/
theorem dt_76 {S : Int → Int → Prop} {n p : Nat} {N : Int} (hcf : dt_cf V a1 a2 a3 a4) (hp : p < 2) (hSb : ∀ x y, S x y → dt_bx x y) (hS : dt_St sb a8 S)
    (H0 : (∀ x y, ¬ (S x y ∧ ∀ k, k < 3 → dt_con V (-1) k x y)) → ∀ ac b b9 b10, post (-1) (2, nI 3, ds, ac, -1, sb, b, a1, a2, a3, a4, a5, a6, a7, a8, b9, b10))
    (H1 : ∀ m : Int, (0 ≤ m ∧ m ≤ 7) → (∃ x y, (S x y ∧ ∀ k, k < 3 → dt_con V (-1) k x y) ∧ dt_tm x y p = m) → (∀ x y, S x y → (∀ k, k < 3 → dt_con V (-1) k x y) → m ≤ dt_tm x y p) → ∀ ac b c b8 b9 b10, dt_St c b8 (fun x y => S x y ∧ dt_tm x y p ≤ m) → wX_firstFrom_76 post n (dt_z (8 * N + m)) (nI (p + 1)) 2 (nI 3) ds ac (-1) c b a1 a2 a3 a4 a5 a6 a7 b8 b9 b10) :
    wX_firstFrom_76 post (n + 1) (dt_z N) (nI p) 2 (nI 3) ds ac (-1) sb be a1 a2 a3 a4 a5 a6 a7 a8 a9 a10 := by
  refine pk_le 2 p (fun z => absurd z (by omega)) (fun _ => ?_)
  refine dt_search (md := true) (i := 2) (j := p) (c := 3) (sp := -1) hcf (by omega) rfl (Or.inr ⟨rfl, rfl, rfl, by omega, by omega⟩) (by omega) rfl hS (fun r b ac' b9 b10 hr => ?_)
  rcases hr with ⟨e, hn⟩ | ⟨e, hx, hm⟩
  · subst e
    exact br_t rfl (H0 hn _ _ _ _)
  · subst e
    obtain ⟨m, hb, eb, ⟨x, y, hP, ho⟩, hle⟩ := hm rfl
    have ho' : (0 : Int) - dt_tm x y p = m := ho
    have hbx := hSb x y hP.1
    have hm7 : 0 ≤ -m ∧ -m ≤ 7 := by
      have g : 0 ≤ dt_tm x y p ∧ dt_tm x y p ≤ 7 := by
        rcases dt_3 (show p < 3 by omega) with e | e | e
        · rw [e]; exact hbx.1
        · rw [e]; exact hbx.2
        · omega
      omega
    refine br_f (by decide) (nm_r (e' := dt_z (-m)) (by rw [eb, dt_z_neg]) ?_)
    refine dt_ts (i := p) (j := 2) (k := -m) hS (by omega) (by omega) (by omega) rfl rfl rfl (fun c b8 hc => ?_)
    refine nm_r (e' := dt_z (8 * N + -m)) (by rw [show (8 : Int32) = dt_z 8 from rfl, ← dt_z_add]; exact congrArg (· + dt_z (-m)) (Int32.ofInt_mul 8 N).symm) (nm_r (nI_1 p) (H1 (-m) hm7 ⟨x, y, hP, by omega⟩ (fun x' y' h1 h2 => ?_) _ _ c b8 _ _ ?_))
    · have g : (0 : Int) - dt_tm x' y' p ≤ m := hle x' y' ⟨h1, h2⟩
      omega
    · have e : (fun x y => S x y ∧ dt_tm x y p - dt_tm x y 2 ≤ -m) = (fun x y => S x y ∧ dt_tm x y p ≤ -m) := by
        funext x y
        have g : dt_tm x y p - dt_tm x y 2 = dt_tm x y p := Int.sub_zero _
        rw [g]
      rw [← e]
      exact hc
theorem dt_76x {n : Nat} {r : Int32} (H : post r (2, cnt, ds, ac, sk, sb, be, a1, a2, a3, a4, a5, a6, a7, a8, a9, a10)) : wX_firstFrom_76 post (n + 1) r (nI 2) 2 cnt ds ac sk sb be a1 a2 a3 a4 a5 a6 a7 a8 a9 a10 := pk_le 2 2 (fun _ => H) (fun z => absurd z (by omega))
/-- first events at u, the second from l on -/
theorem dt_ff1 {u l : Nat} (hcf : dt_cf V a1 a2 a3 a4) (hu : u < 8) (hl : l < 8)
    (H0 : (∀ y, (l : Int) ≤ y → ¬ dt_P V 3 (u : Int) y) → ∀ ac b c b8 b9 b10, post (-1) (2, nI 3, ds, ac, -1, c, b, a1, a2, a3, a4, a5, a6, a7, b8, b9, b10))
    (H1 : ∀ m : Int, (0 ≤ m ∧ m ≤ 7) → (l : Int) ≤ m → dt_P V 3 (u : Int) m → (∀ y, (l : Int) ≤ y → dt_P V 3 (u : Int) y → m ≤ y) → ∀ ac b c b8 b9 b10, post (dt_z (8 * (u : Int) + m)) (2, nI 3, ds, ac, -1, c, b, a1, a2, a3, a4, a5, a6, a7, b8, b9, b10)) :
    wpX_firstFrom post (2, nI 3, ds, ac, -1, sb, be, a1, a2, a3, a4, a5, a6, a7, a8, a9, a10) (nI u) 1 (nI l) := by
  unfold wpX_firstFrom
  have et : ∀ u, u < 8 → ((nI u >>> ((3 * (((1 : Int32) - 1) - nI 0)) &&& 31)) &&& 7) = nI u := by decide +kernel
  refine dt_open (fun b8 hb => ⟨2, pk_le 1 0 (fun z => absurd z (by omega)) (fun _ => nm_r (et u hu) ?_)⟩)
  refine dt_ts (i := 0) (j := 2) (k := (u : Int)) (dt_St_bx hb) (by omega) (by omega) (by omega) rfl rfl (dt_z_nat u) (fun c1 c8 h1 => ?_)
  refine dt_ts (i := 2) (j := 0) (k := -(u : Int)) h1 (by omega) (by omega) (by omega) rfl rfl (by rw [dt_z_nat, dt_z_neg]) (fun c2 d8 h2 => ?_)
  refine nm_r (nI_1 0) (pk_le 1 1 (fun _ => ?_) (fun z => absurd z (by omega)))
  refine dt_ts (i := 2) (j := 1) (k := -(l : Int)) h2 (by omega) (by omega) (by omega) rfl rfl (by rw [dt_z_nat, dt_z_neg]) (fun c3 e8 h3 => ⟨2, ?_⟩)
  have hS : ∀ x y, (((dt_bx x y ∧ dt_tm x y 0 - dt_tm x y 2 ≤ (u : Int)) ∧ dt_tm x y 2 - dt_tm x y 0 ≤ -(u : Int)) ∧ dt_tm x y 2 - dt_tm x y 1 ≤ -(l : Int)) ↔ dt_bx x y ∧ x = (u : Int) ∧ (l : Int) ≤ y := by
    intro x y
    show (((dt_bx x y ∧ x - 0 ≤ (u : Int)) ∧ 0 - x ≤ -(u : Int)) ∧ 0 - y ≤ -(l : Int)) ↔ dt_bx x y ∧ x = (u : Int) ∧ (l : Int) ≤ y
    constructor
    · intro h
      exact ⟨h.1.1.1, by omega, by omega⟩
    · intro h
      exact ⟨⟨⟨h.1, by omega⟩, by omega⟩, by omega⟩
  rw [show nI u = dt_z (u : Int) from dt_z_nat u]
  refine dt_76 (p := 1) hcf (by omega) (fun x y h => ((hS x y).mp h).1) h3 (fun hn ac b b9 b10 => H0 (fun y hy hP => ?_) _ _ _ _ _ _) (fun m hm hx hle ac b c b8 b9 b10 _ => dt_76x ?_)
  · exact hn (u : Int) y ⟨(hS _ _).mpr ⟨hP.1, rfl, hy⟩, hP.2⟩
  · obtain ⟨x, y, ⟨h1, h2⟩, h3⟩ := hx
    have g := (hS x y).mp h1
    have h3' : y = m := h3
    subst h3'
    have gx := g.2.1
    subst gx
    exact H1 y hm g.2.2 ⟨g.1, h2⟩ (fun y' hy hP => hle (u : Int) y' ((hS _ _).mpr ⟨hP.1, rfl, hy⟩) hP.2) _ _ _ _ _ _
/-- the first event from l on -/
theorem dt_ff0 {l : Nat} (hcf : dt_cf V a1 a2 a3 a4) (hl : l < 8)
    (H0 : (∀ x y, (l : Int) ≤ x → ¬ dt_P V 3 x y) → ∀ ac b c b8 b9 b10, post (-1) (2, nI 3, ds, ac, -1, c, b, a1, a2, a3, a4, a5, a6, a7, b8, b9, b10))
    (H1 : ∀ x m : Int, (l : Int) ≤ x → dt_P V 3 x m → (∀ x' y, (l : Int) ≤ x' → dt_P V 3 x' y → 8 * x + m ≤ 8 * x' + y) → ∀ ac b c b8 b9 b10, post (dt_z (8 * x + m)) (2, nI 3, ds, ac, -1, c, b, a1, a2, a3, a4, a5, a6, a7, b8, b9, b10)) :
    wpX_firstFrom post (2, nI 3, ds, ac, -1, sb, be, a1, a2, a3, a4, a5, a6, a7, a8, a9, a10) 0 0 (nI l) := by
  unfold wpX_firstFrom
  refine dt_open (fun b8 hb => ⟨1, pk_le 0 0 (fun _ => ?_) (fun z => absurd z (by omega))⟩)
  refine dt_ts (i := 2) (j := 0) (k := -(l : Int)) (dt_St_bx hb) (by omega) (by omega) (by omega) rfl rfl (by rw [dt_z_nat, dt_z_neg]) (fun c1 c8 h1 => ⟨3, ?_⟩)
  have hS : ∀ x y, (dt_bx x y ∧ dt_tm x y 2 - dt_tm x y 0 ≤ -(l : Int)) ↔ dt_bx x y ∧ (l : Int) ≤ x := by
    intro x y
    show (dt_bx x y ∧ 0 - x ≤ -(l : Int)) ↔ dt_bx x y ∧ (l : Int) ≤ x
    constructor
    · intro h
      exact ⟨h.1, by omega⟩
    · intro h
      exact ⟨h.1, by omega⟩
  refine dt_76 (p := 0) (N := 0) hcf (by omega) (fun x y h => ((hS x y).mp h).1) h1 (fun hn ac b b9 b10 => H0 (fun x y hx hP => ?_) _ _ _ _ _ _) (fun m hm hx hle ac b c d8 b9 b10 h2 => ?_)
  · exact hn x y ⟨(hS _ _).mpr ⟨hP.1, hx⟩, hP.2⟩
  · refine dt_76 (p := 1) hcf (by omega) (fun x y h => ((hS x y).mp h.1).1) h2 (fun hn ac b b9 b10 => ?_) (fun m2 hm2 hx2 hle2 ac b c b8 b9 b10 _ => dt_76x ?_)
    · obtain ⟨x, y, ⟨g1, g2⟩, g3⟩ := hx
      have g3' : dt_tm x y 0 ≤ m := by omega
      exact absurd ⟨⟨g1, g3'⟩, g2⟩ (hn x y)
    · obtain ⟨x, y, ⟨⟨g0, g1⟩, g2⟩, g3⟩ := hx2
      have g := (hS x y).mp g0
      have q1 : m ≤ x := hle x y g0 g2
      have q2 : x ≤ m := g1
      have q3 : y = m2 := g3
      have ex : 8 * (8 * 0 + m) + m2 = 8 * x + y := by omega
      rw [ex]
      refine H1 x y g.2 ⟨g.1, g2⟩ (fun x' y' hx' hP' => ?_) _ _ _ _ _ _
      have r1 : m ≤ x' := hle x' y' ((hS _ _).mpr ⟨hP'.1, hx'⟩) hP'.2
      have r2 := hP'.1.2
      have r3 := g.1.2
      by_cases e : x' = m
      · have r4 : m2 ≤ y' := hle2 x' y' ⟨(hS _ _).mpr ⟨hP'.1, hx'⟩, show x' ≤ m by omega⟩ hP'.2
        omega
      · omega
/-- the least number of a plan above n -/
def dt_nx (V : Nat → Nat → Nat) (n : Nat) (r : Int32) : Prop := (r = -1 ∧ ∀ x y, dt_P V 3 x y → 8 * x + y ≤ (n : Int)) ∨ (∃ x y : Int, r = dt_z (8 * x + y) ∧ dt_P V 3 x y ∧ (n : Int) < 8 * x + y ∧ ∀ x' y', dt_P V 3 x' y' → (n : Int) < 8 * x' + y' → 8 * x + y ≤ 8 * x' + y')
theorem dt_n1 : ∀ n, n < 64 → ((nI n >>> ((0 : Int32) &&& 31)) &&& 7) = nI (n % 8) := by decide +kernel
theorem dt_n2 : ∀ n, n < 64 → (nI n >>> (((0 : Int32) + 3) &&& 31)) = nI (n / 8) := by decide +kernel
theorem dt_n3 : ∀ n, n < 64 → ((nI n >>> ((3 : Int32) &&& 31)) &&& 7) = nI (n / 8) := by decide +kernel
theorem dt_n4 : ∀ n, n < 64 → (nI n >>> (((3 : Int32) + 3) &&& 31)) = 0 := by decide +kernel
theorem dt_nx0 {n f : Nat} (hcf : dt_cf V a1 a2 a3 a4) (hn : n < 64) (hq : ∀ y, (n : Int) < 8 * ((n / 8 : Nat) : Int) + y → ¬ dt_P V 3 ((n / 8 : Nat) : Int) y) (H : ∀ r c ac' b b8 b9 b10, dt_nx V n r → post r (2, nI 3, ds, ac', -1, c, b, a1, a2, a3, a4, a5, a6, a7, b8, b9, b10)) :
    wX_next_37 post (nI n) (f + 2) 0 2 (nI 3) ds ac (-1) sb be a1 a2 a3 a4 a5 a6 a7 a8 a9 a10 := by
  have hend : ∀ ac' c b b8 b9 b10, (∀ x y, dt_P V 3 x y → 8 * x + y ≤ (n : Int)) → wX_next_37 post (nI n) (f + 1) (-1) 2 (nI 3) ds ac' (-1) c b a1 a2 a3 a4 a5 a6 a7 b8 b9 b10 := fun ac' c b b8 b9 b10 h => br_t (by decide) (H _ _ _ _ _ _ _ (Or.inl ⟨rfl, h⟩))
  refine br_f (by decide) (nm_r (e' := 3) (by decide) (nm_r (dt_n3 n hn) (pk_le 7 (n / 8) (fun h7 => nm_r (e' := -1) (by decide) (hend _ _ _ _ _ _ (fun x y hP => ?_))) (fun h7 => nm_r (dt_n4 n hn) ?_))))
  · have hb := hP.1
    by_cases e : (n : Int) < 8 * x + y
    · have ex : x = ((n / 8 : Nat) : Int) := by
        have := hb.1
        have := hb.2
        omega
      rw [ex] at e hP
      exact absurd hP (hq y e)
    · omega
  · rw [nI_1]
    refine dt_ff0 hcf (by omega) (fun h0 ac b c b8 b9 b10 => br_t (by decide) (nm_r (e' := -1) (by decide) (hend _ _ _ _ _ _ (fun x y hP => ?_)))) (fun x m hx hP hle ac b c b8 b9 b10 => ?_)
    · have hb := hP.1
      by_cases e : (n : Int) < 8 * x + y
      · by_cases ex : x = ((n / 8 : Nat) : Int)
        · rw [ex] at e hP
          exact absurd hP (hq y e)
        · refine absurd hP (h0 x y ?_)
          have := hb.1
          have := hb.2
          omega
      · omega
    · have hb := hP.1
      have hb1 := hb.1
      have hb2 := hb.2
      refine dt_lt (8 * x + m) 0 (fun z => absurd z (by omega)) (fun _ => H _ _ _ _ _ _ _ (Or.inr ⟨x, m, rfl, hP, by omega, fun x' y' hP' e => ?_⟩)) rfl rfl (by omega) (by omega)
      by_cases ex : x' = ((n / 8 : Nat) : Int)
      · rw [ex] at e hP'
        exact absurd hP' (hq y' e)
      · refine hle x' y' ?_ hP'
        have := hP'.1.1
        have := hP'.1.2
        omega
theorem dt_next {n : Nat} (hcf : dt_cf V a1 a2 a3 a4) (hn : n < 64) (H : ∀ r c ac' b b8 b9 b10, dt_nx V n r → post r (2, nI 3, ds, ac', -1, c, b, a1, a2, a3, a4, a5, a6, a7, b8, b9, b10)) : wpX_next post (2, nI 3, ds, ac, -1, sb, be, a1, a2, a3, a4, a5, a6, a7, a8, a9, a10) (nI n) := by
  unfold wpX_next
  refine nm_r (e' := nI 63) (by decide) (pk_lt n 63 (fun h63 => br_t (nI_pos' (by omega)) (nm_r (e' := 1) (by decide) ⟨3, ?_⟩)) (fun h63 => H _ _ _ _ _ _ _ (Or.inl ⟨rfl, fun x y hP => ?_⟩)))
  · refine br_f (by decide) (nm_r (e' := 0) (by decide) (nm_r (dt_n1 n hn) (pk_le 7 (n % 8) (fun h7 => nm_r (e' := 0) (by decide) (dt_nx0 (f := 0) hcf hn (fun y hy hP => ?_) H)) (fun h7 => nm_r (dt_n2 n hn) ?_))))
    · have := hP.1.2
      omega
    · rw [nI_1]
      refine dt_ff1 hcf (by omega) (by omega) (fun h0 ac b c b8 b9 b10 => br_t (by decide) (nm_r (e' := 0) (by decide) (dt_nx0 (f := 0) hcf hn (fun y hy => h0 y (by omega)) H))) (fun m hm hl hP hle ac b c b8 b9 b10 => ?_)
      refine dt_lt (8 * ((n / 8 : Nat) : Int) + m) 0 (fun z => absurd z (by omega)) (fun _ => H _ _ _ _ _ _ _ (Or.inr ⟨_, m, rfl, hP, by omega, fun x' y' hP' e => ?_⟩)) rfl rfl (by omega) (by omega)
      have b1 := hP'.1.1
      have b2 := hP'.1.2
      by_cases ex : x' = ((n / 8 : Nat) : Int)
      · rw [ex] at hP' e ⊢
        have := hle y' (by omega) hP'
        omega
      · omega
  · have b1 := hP.1.1
    have b2 := hP.1.2
    omega
end
end
section
/-! the law's own functions: part, left, right, met, meets -/
/-- the six numbers of a script -/
def dt_V (p q : Int32) (c a : Nat) : Nat := if 5 ≤ 2 * c + a then q.toBitVec.toNat % 2 ^ 6 else (p >>> ((6 * nI (2 * c + a)) &&& 31)).toBitVec.toNat % 2 ^ 6
theorem dt_V_64 (p q : Int32) (c a : Nat) : dt_V p q c a < 64 := by
  unfold dt_V
  split
  · exact Nat.mod_lt _ (by decide)
  · exact Nat.mod_lt _ (by decide)
theorem dt_part {po : Int32 → Prop} {p q : Int32} {c a : Nat} (hc : c < 3) (ha : a < 2) (H : po (nI (dt_V p q c a))) : wpL_part po () p q (nI c) (nI a) := by
  unfold wpL_part
  refine nm_r (e' := nI (2 * c + a)) (by rw [show (2 : Int32) = nI 2 from rfl, pk_mul, nI_add]) (pk_le 5 (2 * c + a) (fun h => ?_) (fun h => ?_))
  · rw [pk_and q 6 (by decide)]
    have e : dt_V p q c a = q.toBitVec.toNat % 2 ^ 6 := if_pos h
    rw [← e]
    exact H
  · rw [pk_and _ 6 (by decide)]
    have e : dt_V p q c a = (p >>> ((6 * nI (2 * c + a)) &&& 31)).toBitVec.toNat % 2 ^ 6 := if_neg (by omega)
    rw [← e]
    exact H
theorem dt_left_t : ∀ v, v < 64 → ((nI v &&& 7) - (nI v &&& 7) / 6 * 6) / 2 = nI (dt_lf v) := by decide +kernel
theorem dt_right_t : ∀ v, v < 64 → ((nI (dt_lf v) + 1) + (nI v &&& 1)) - ((nI (dt_lf v) + 1) + (nI v &&& 1)) / 3 * 3 = nI (dt_rt v) := by decide +kernel
theorem dt_k_t : ∀ v, v < 64 → (nI v >>> ((3 : Int32) &&& 31)) - 4 = dt_z (dt_k v) := by decide +kernel
theorem dt_left {po : Int32 → Prop} {v : Nat} (hv : v < 64) (H : po (nI (dt_lf v))) : wpL_left po () (nI v) := by
  unfold wpL_left
  rw [dt_left_t v hv]
  exact ⟨by decide, by decide, H⟩
theorem dt_right {po : Int32 → Prop} {v : Nat} (hv : v < 64) (H : po (nI (dt_rt v))) : wpL_right po () (nI v) := by
  unfold wpL_right
  refine dt_left hv ⟨by decide, ?_⟩
  rw [dt_right_t v hv]
  exact H
theorem dt_51 {po : Int32 → Prop} {v : Nat} {u w : Int} {x5 z0 : Int32} (hv : v < 64) (hu : 0 ≤ u ∧ u ≤ 7) (hw : 0 ≤ w ∧ w ≤ 7) (e5 : x5 = dt_z u) (e0 : z0 = dt_z w) (H1 : u - w ≤ dt_k v → po 1) (H0 : ¬ u - w ≤ dt_k v → po 0) : wL_met_51 po (nI v) x5 z0 := by
  unfold wL_met_51
  have b := dt_k_b hv
  exact dt_lt (dt_k v) (u - w) (fun h => H0 (by omega)) (fun h => H1 h) (dt_k_t v hv) (by rw [e5, e0, dt_z_sub]) (by omega) (by omega)
theorem dt_tm8 {x y e : Nat} (hx : x < 8) (hy : y < 8) : 0 ≤ dt_tm (x : Int) (y : Int) e ∧ dt_tm (x : Int) (y : Int) e ≤ 7 := by
  unfold dt_tm
  split <;> omega
theorem dt_29 {po : Int32 → Prop} {v x y e : Nat} {u : Int} {z0 : Int32} (hv : v < 64) (hx : x < 8) (hy : y < 8) (he : e < 3) (hu : 0 ≤ u ∧ u ≤ 7) (e0 : z0 = dt_z u) (H1 : u - dt_tm (x : Int) (y : Int) e ≤ dt_k v → po 1) (H0 : ¬ u - dt_tm (x : Int) (y : Int) e ≤ dt_k v → po 0) : wL_met_29 po (nI v) (nI x) (nI y) (nI e) z0 := by
  unfold wL_met_29
  have b := dt_tm8 (e := e) hx hy
  rcases dt_3 he with h | h | h
  · subst h
    exact br_t rfl (dt_51 hv hu b e0 (dt_z_nat x) H1 H0)
  · subst h
    exact br_f (by decide) (br_t rfl (dt_51 hv hu b e0 (dt_z_nat y) H1 H0))
  · subst h
    exact br_f (by decide) (br_f (by decide) (dt_51 hv hu b e0 rfl H1 H0))
theorem dt_met {po : Int32 → Prop} {v x y : Nat} (hv : v < 64) (hx : x < 8) (hy : y < 8) (H1 : dt_alt v (x : Int) (y : Int) → po 1) (H0 : ¬ dt_alt v (x : Int) (y : Int) → po 0) : wpL_met po () (nI v) (nI x) (nI y) := by
  unfold wpL_met
  refine dt_left hv (dt_right hv ?_)
  have b := dt_tm8 (e := dt_lf v) hx hy
  have hr := dt_rt_3 v
  have H1' : dt_tm (x : Int) (y : Int) (dt_lf v) - dt_tm (x : Int) (y : Int) (dt_rt v) ≤ dt_k v → po 1 := H1
  have H0' : ¬ dt_tm (x : Int) (y : Int) (dt_lf v) - dt_tm (x : Int) (y : Int) (dt_rt v) ≤ dt_k v → po 0 := H0
  rcases dt_3 (dt_lf_3 v) with h | h | h
  · rw [h] at b H1' H0' ⊢
    exact br_t rfl (dt_29 hv hx hy hr b (dt_z_nat x) H1' H0')
  · rw [h] at b H1' H0' ⊢
    exact br_f (by decide) (br_t rfl (dt_29 hv hx hy hr b (dt_z_nat y) H1' H0'))
  · rw [h] at b H1' H0' ⊢
    exact br_f (by decide) (br_f (by decide) (dt_29 hv hx hy hr b rfl H1' H0'))
/-- the plan of number v meets the first c constraints -/
def dt_G (V : Nat → Nat → Nat) (c v : Nat) : Prop := ∀ k, k < c → dt_con V (-1) k ((v / 8 : Nat) : Int) ((v % 8 : Nat) : Int)
theorem dt_lmeets {po : Int32 → Prop} {p q m1 : Int32} {many x y : Nat} (hm : many ≤ 3) (em : m1 = nI many) (hx : x < 8) (hy : y < 8) (H1 : dt_G (dt_V p q) many (8 * x + y) → po 1) (H0 : ¬ dt_G (dt_V p q) many (8 * x + y) → po 0) : wpL_meets po () p q m1 (nI x) (nI y) := by
  subst em
  unfold wpL_meets
  unfold dt_G at H1 H0
  rw [show (8 * x + y) / 8 = x by omega, show (8 * x + y) % 8 = y by omega] at H1 H0
  refine pk_loop (σ := Unit) (fun n c _ => wL_meets_3 po p q (nI many) (nI x) (nI y) n (nI c)) (fun c _ => ∀ k, k < c → k < many → dt_con (dt_V p q) (-1) k (x : Int) (y : Int)) 3 0 () (by omega) (fun k hk => absurd hk (by omega)) ?_ ?_
  · intro n _ h
    exact pk_le 3 3 (fun _ => H1 (fun k hk => h k (by omega) hk)) (fun z => absurd z (by omega))
  · intro n c _ hc h hw
    have hst : ∀ z0 : Int32, (¬ z0 = 0 → dt_con (dt_V p q) (-1) c (x : Int) (y : Int)) → (z0 = 0 → ¬ dt_con (dt_V p q) (-1) c (x : Int) (y : Int)) → wL_meets_56 po (wL_meets_3 po p q (nI many) (nI x) (nI y) n) p q (nI many) (nI x) (nI y) (nI c) z0 := by
      intro z0 g1 g0
      unfold wL_meets_56
      refine pk_le many c (fun hmc => nm_r (nI_1 c) (hw () (fun k hk hkm => h k (by omega) hkm))) (fun hmc => br_c (fun z => H0 (fun g => g0 z (g c hmc))) (fun z => nm_r (nI_1 c) (hw () (fun k hk hkm => ?_))))
      by_cases e : k = c
      · rw [e]
        exact g1 z
      · exact h k (by omega) hkm
    have h1 : ¬ (1 : Int32) = 0 := by decide
    refine pk_le 3 c (fun z => absurd z (by omega)) (fun _ => dt_part (a := 0) hc (by omega) (dt_part (a := 1) hc (by omega) (dt_met (dt_V_64 _ _ _ _) hx hy (fun k0 => br_f h1 ?_) (fun k0 => br_t rfl (dt_met (dt_V_64 _ _ _ _) hx hy (fun k1 => br_f h1 ?_) (fun k1 => br_t rfl ?_))))))
    · exact hst 1 (fun _ => Or.inr (Or.inl k0)) (fun z => absurd z h1)
    · exact hst 1 (fun _ => Or.inr (Or.inr k1)) (fun z => absurd z h1)
    · refine hst 0 (fun z => absurd rfl z) (fun _ z => ?_)
      rcases z with e | e | e
      · exact absurd e (by omega)
      · exact k0 e
      · exact k1 e
end
section
/-! the law puts the constraints into the object -/
def dt_pc (V : Nat → Nat → Nat) (c : Nat) (a1 a2 a3 a4 : Nat → Int32) : Prop := (∀ k, k < c → a4 k = nI 2) ∧ ∀ k a, k < c → a < 2 → V k a < 64 ∧ a1 (3 * k + a) = nI (dt_lf (V k a)) ∧ a2 (3 * k + a) = nI (dt_rt (V k a)) ∧ a3 (3 * k + a) = dt_z (dt_k (V k a))
/-- what the drafts hold -/
def dt_dr (V : Nat → Nat → Nat) (c n : Nat) (a5 a6 a7 : Nat → Int32) : Prop := ∀ a, a < n → a5 a = nI (dt_lf (V c a)) ∧ a6 a = nI (dt_rt (V c a)) ∧ a7 a = dt_z (dt_k (V c a))
theorem dt_pc_cf {V : Nat → Nat → Nat} {a1 a2 a3 a4 : Nat → Int32} (h : dt_pc V 3 a1 a2 a3 a4) : dt_cf V a1 a2 a3 a4 := h
theorem dt_pc_step {V : Nat → Nat → Nat} {c : Nat} {a1 a2 a3 a4 : Nat → Int32} {z0 z1 z2 : Int32} (h : dt_pc V c a1 a2 a3 a4) (hV : ∀ a, V c a < 64) (e2 : z2 = nI 2) :
    dt_pc V (c + 1) (upd (upd a1 (3 * c + 0) (nI (dt_lf (V c 0)))) (3 * c + 1) (nI (dt_lf (V c 1)))) (upd (upd a2 (3 * c + 0) (nI (dt_rt (V c 0)))) (3 * c + 1) (nI (dt_rt (V c 1)))) (upd (upd a3 (3 * c + 0) (dt_z (dt_k (V c 0)))) (3 * c + 1) (dt_z (dt_k (V c 1)))) (upd (upd (upd a4 c z0) c z1) c z2) := by
  refine ⟨fun k hk => ?_, fun k a hk ha => ?_⟩
  · by_cases e : k = c
    · rw [e, pk_us, e2]
    · rw [pk_un e, pk_un e, pk_un e]
      exact h.1 k (by omega)
  · by_cases e : k = c
    · subst e
      by_cases ea : a = 0
      · subst ea
        have n1 : 3 * k + 0 ≠ 3 * k + 1 := by omega
        rw [pk_un n1, pk_un n1, pk_un n1, pk_us, pk_us, pk_us]
        exact ⟨hV 0, rfl, rfl, rfl⟩
      · have e1 : a = 1 := by omega
        subst e1
        rw [pk_us, pk_us, pk_us]
        exact ⟨hV 1, rfl, rfl, rfl⟩
    · have n1 : 3 * k + a ≠ 3 * c + 1 := by omega
      have n0 : 3 * k + a ≠ 3 * c + 0 := by omega
      rw [pk_un n1, pk_un n1, pk_un n1, pk_un n0, pk_un n0, pk_un n0]
      exact h.2 k a (by omega) ha
section
variable {n0 cnt ds ac sk sb be : Int32} {a1 a2 a3 a4 a5 a6 a7 a8 a9 a10 : Nat → Int32} {V : Nat → Nat → Nat}
theorem dt_offer {po : St2 → Prop} {c z : Nat} {p0 p1 p2 q0 q1 q2 : Int32} (hc : c < 3) (hz : z < 3) (e : a4 c = nI z) (e0 : p0 = q0) (e1 : p1 = q1) (e2 : p2 = q2) (H : po (n0, nI c, ds, ac, sk, sb, be, upd a1 (3 * c + z) q0, upd a2 (3 * c + z) q1, upd a3 (3 * c + z) q2, upd a4 c (nI (z + 1)), a5, a6, a7, a8, a9, a10)) : wpX_offer po (n0, nI c, ds, ac, sk, sb, be, a1, a2, a3, a4, a5, a6, a7, a8, a9, a10) p0 p1 p2 := by
  subst e0 e1 e2
  unfold wpX_offer
  have p8 : vp_in (nI c) 8 := pk_in c 8 (by omega)
  have p24 : vp_in (nI (3 * c + z)) 24 := pk_in (3 * c + z) 24 (by omega)
  have ec : a4 (nI c).toNatClampNeg = nI z := by
    rw [nI_clamp (by omega)]
    exact e
  refine ⟨p8, nm_r (e' := nI (3 * c + z)) (by rw [ec, dt_ix3]) ⟨p24, ?_⟩⟩
  have ek : (nI (3 * c + z)).toNatClampNeg = 3 * c + z := nI_clamp (by omega)
  rw [ek]
  exact nm_e ⟨p24, nm_e ⟨p24, nm_e ⟨p8, p8, nm_r (by rw [ec, nI_clamp (by omega), nI_1]) H⟩⟩⟩
theorem dt_add {post : Int32 → St2 → Prop} {c : Nat} (hc : c < 3) (hV : ∀ a, V c a < 64) (hpc : dt_pc V c a1 a2 a3 a4) (hd : dt_dr V c 2 a5 a6 a7)
    (H : ∀ b1 b2 b3 b4, dt_pc V (c + 1) b1 b2 b3 b4 → post (nI (c + 1)) (n0, nI (c + 1), 0, ac, sk, sb, be, b1, b2, b3, b4, a5, a6, a7, a8, a9, a10)) : wpX_add post (n0, nI c, nI 2, ac, sk, sb, be, a1, a2, a3, a4, a5, a6, a7, a8, a9, a10) := by
  unfold wpX_add
  have d0 := hd 0 (by omega)
  have d1 := hd 1 (by omega)
  have p30 : vp_in (nI 0) 3 := pk_in 0 3 (by omega)
  have p31 : vp_in (nI 1) 3 := pk_in 1 3 (by omega)
  refine br_f (by decide) (pk_eq c 8 (fun z => absurd z (by omega)) (fun _ => ⟨pk_in c 8 (by omega), nm_r (e' := upd a4 c (nI 0)) (by rw [nI_clamp (by omega)]; rfl) ⟨3, ?_⟩⟩))
  refine pk_le 2 0 (fun z => absurd z (by omega)) (fun _ => ⟨p30, p30, p30, dt_offer (z := 0) hc (by omega) pk_us d0.1 d0.2.1 d0.2.2 (nm_r (nI_1 0) ?_)⟩)
  refine pk_le 2 1 (fun z => absurd z (by omega)) (fun _ => ⟨p31, p31, p31, dt_offer (z := 1) hc (by omega) pk_us d1.1 d1.2.1 d1.2.2 (nm_r (nI_1 1) ?_)⟩)
  exact pk_le 2 2 (fun _ => nm_r (nI_1 c) (H _ _ _ _ (dt_pc_step hpc hV rfl))) (fun z => absurd z (by omega))
theorem dt_alternative {post : Int32 → St2 → Prop} {a v : Nat} {p2 : Int32} (ha : a < 2) (hv : v < 64) (e2 : p2 = dt_z (dt_k v)) (H : post (nI (a + 1)) (2, cnt, nI (a + 1), ac, sk, sb, be, a1, a2, a3, a4, upd a5 a (nI (dt_lf v)), upd a6 a (nI (dt_rt v)), upd a7 a (dt_z (dt_k v)), a8, a9, a10)) : wpX_alternative post (2, cnt, nI a, ac, sk, sb, be, a1, a2, a3, a4, a5, a6, a7, a8, a9, a10) (nI (dt_lf v)) (nI (dt_rt v)) p2 := by
  subst e2
  unfold wpX_alternative
  have l1 := dt_lf_3 v
  have l2 := dt_rt_3 v
  have l3 := dt_k_b hv
  have p3 : vp_in (nI a) 3 := pk_in a 3 (by omega)
  have ek : (nI a).toNatClampNeg = a := nI_clamp (by omega)
  refine dt_isPoint l1 rfl (br_f (by decide) (dt_isPoint l2 rfl (br_f (by decide) (pk_eq (dt_lf v) (dt_rt v) (fun z => absurd z (dt_lr v)) (fun _ => ?_)))))
  refine dt_lt (dt_k v) (-10) (fun z => absurd z (by omega)) (fun _ => dt_le (dt_k v) 10 (fun _ => ?_) (fun z => absurd z (by omega)) rfl rfl (by omega) (by omega)) rfl rfl (by omega) (by omega)
  refine pk_eq a 3 (fun z => absurd z (by omega)) (fun _ => ⟨p3, ?_⟩)
  rw [ek]
  exact nm_e ⟨p3, nm_e ⟨p3, nm_e (nm_r (nI_1 a) H)⟩⟩
theorem dt_dr_step {c n : Nat} (h : dt_dr V c n a5 a6 a7) : dt_dr V c (n + 1) (upd a5 n (nI (dt_lf (V c n)))) (upd a6 n (nI (dt_rt (V c n)))) (upd a7 n (dt_z (dt_k (V c n)))) := by
  intro a ha
  by_cases e : a = n
  · rw [e, pk_us, pk_us, pk_us]
    exact ⟨rfl, rfl, rfl⟩
  · rw [pk_un e, pk_un e, pk_un e]
    exact h a (by omega)
end
section
variable {n0 cnt ds ac sk sb be : Int32} {a1 a2 a3 a4 a5 a6 a7 a8 a9 a10 : Nat → Int32} {post : Int32 → St0 → Prop} {mc ms kc ks : Nat} {x0 x1 x2 : Int32}
theorem dt_21_step {J : Int32 → Int32 → Int32 → Int32 → Int32 → Int32 → Int32 → Int32 → (Nat → Int32) → (Nat → Int32) → (Nat → Int32) → (Nat → Int32) → (Nat → Int32) → (Nat → Int32) → (Nat → Int32) → (Nat → Int32) → (Nat → Int32) → (Nat → Int32) → Prop} {n c a : Nat} (hc : c < 3) (ha : a < 2) (hd : dt_dr (dt_V x0 x1) c a a5 a6 a7)
    (H : ∀ b5 b6 b7, dt_dr (dt_V x0 x1) c (a + 1) b5 b6 b7 → wL_lawOf_21 post mc ms J x0 x1 x2 (nI c) kc ks n (nI (a + 1)) 2 cnt (nI (a + 1)) ac sk sb be a1 a2 a3 a4 b5 b6 b7 a8 a9 a10) : wL_lawOf_21 post mc ms J x0 x1 x2 (nI c) kc ks (n + 1) (nI a) 2 cnt (nI a) ac sk sb be a1 a2 a3 a4 a5 a6 a7 a8 a9 a10 := by
  have hv := dt_V_64 x0 x1 c a
  refine pk_le 2 a (fun z => absurd z (by omega)) (fun _ => dt_part hc ha (dt_left hv (dt_right hv (dt_alternative ha hv (dt_k_t _ hv) ?_))))
  exact br_t (nI_1 a).symm (nm_r (nI_1 a) (H _ _ _ (dt_dr_step hd)))
theorem dt_12_step {n c : Nat} (hc : c < 3) (hpc : dt_pc (dt_V x0 x1) c a1 a2 a3 a4)
    (H : ∀ b1 b2 b3 b4 b5 b6 b7, dt_pc (dt_V x0 x1) (c + 1) b1 b2 b3 b4 → wL_lawOf_12 post mc ms x0 x1 x2 kc ks n (nI (c + 1)) 2 (nI (c + 1)) 0 ac sk sb be b1 b2 b3 b4 b5 b6 b7 a8 a9 a10) : wL_lawOf_12 post mc ms x0 x1 x2 kc ks (n + 1) (nI c) 2 (nI c) 0 ac sk sb be a1 a2 a3 a4 a5 a6 a7 a8 a9 a10 := by
  refine pk_le 3 c (fun z => absurd z (by omega)) (fun _ => ⟨3, dt_21_step (a := 0) hc (by omega) (fun a ha => absurd ha (by omega)) (fun b5 b6 b7 h5 => dt_21_step (a := 1) hc (by omega) h5 (fun c5 c6 c7 h6 => ?_))⟩)
  refine pk_le 2 2 (fun _ => ?_) (fun z => absurd z (by omega))
  refine dt_add hc (fun a => dt_V_64 _ _ _ _) hpc h6 (fun b1 b2 b3 b4 h => ?_)
  exact br_t (nI_1 c).symm (nm_r (nI_1 c) (H _ _ _ _ _ _ _ h))
theorem dt_12 (H : ∀ b1 b2 b3 b4 b5 b6 b7, dt_cf (dt_V x0 x1) b1 b2 b3 b4 → ∃ fu, wL_lawOf_124 post mc ms x0 x1 x2 kc ks 2 (nI 3) 0 ac sk sb be b1 b2 b3 b4 b5 b6 b7 a8 a9 a10 fu (-1) 8 (-1) (-200) 0 1 0) : ∃ fu, wL_lawOf_12 post mc ms x0 x1 x2 kc ks fu 0 2 0 0 ac sk sb be a1 a2 a3 a4 a5 a6 a7 a8 a9 a10 := by
  refine ⟨4, dt_12_step (c := 0) (by omega) ⟨fun k hk => absurd hk (by omega), fun k a hk => absurd hk (by omega)⟩ (fun _ _ _ _ _ _ _ h1 => dt_12_step (c := 1) (by omega) h1 (fun _ _ _ _ _ _ _ h2 => dt_12_step (c := 2) (by omega) h2 (fun b1 b2 b3 b4 b5 b6 b7 h3 => ?_)))⟩
  exact pk_le 3 3 (fun _ => H _ _ _ _ _ _ _ (dt_pc_cf h3)) (fun z => absurd z (by omega))
end
end
section
/-! what the law's six variables hold when the plans below v have been looked at -/
section
variable {V : Nat → Nat → Nat}
theorem dt_GP {c w : Nat} (hw : w < 64) (h : dt_G V c w) : dt_P V c ((w / 8 : Nat) : Int) ((w % 8 : Nat) : Int) := ⟨⟨by omega, by omega⟩, h⟩
theorem dt_PG {c : Nat} {x y : Int} (h : dt_P V c x y) : ∃ w : Nat, w < 64 ∧ x = ((w / 8 : Nat) : Int) ∧ y = ((w % 8 : Nat) : Int) ∧ dt_G V c w := by
  have b1 := h.1.1
  have b2 := h.1.2
  have ex : x = (((8 * x.toNat + y.toNat) / 8 : Nat) : Int) := by omega
  have ey : y = (((8 * x.toNat + y.toNat) % 8 : Nat) : Int) := by omega
  refine ⟨8 * x.toNat + y.toNat, by omega, ex, ey, ?_⟩
  intro k hk
  rw [← ex, ← ey]
  exact h.2 k hk
def dt_iN (V : Nat → Nat → Nat) (A v : Nat) (x4 : Int32) : Prop := ∃ m : Int, (-1 ≤ m ∧ m ≤ 63) ∧ x4 = dt_z m ∧ (0 ≤ m → ∃ w : Nat, w < v ∧ dt_G V 3 w ∧ A < w ∧ (w : Int) = m) ∧ ∀ w : Nat, w < v → dt_G V 3 w → A < w → 0 ≤ m ∧ m ≤ (w : Int)
def dt_iE (V : Nat → Nat → Nat) (v : Nat) (x5 : Int32) : Prop := ∃ e : Nat, e ≤ 8 ∧ x5 = nI e ∧ (e < 8 → ∃ w : Nat, w < v ∧ dt_G V 3 w ∧ w % 8 = e) ∧ ∀ w : Nat, w < v → dt_G V 3 w → e ≤ w % 8
def dt_iL (V : Nat → Nat → Nat) (v : Nat) (x6 : Int32) : Prop := ∃ l : Int, (-1 ≤ l ∧ l ≤ 7) ∧ x6 = dt_z l ∧ (0 ≤ l → ∃ w : Nat, w < v ∧ dt_G V 3 w ∧ ((w % 8 : Nat) : Int) = l) ∧ ∀ w : Nat, w < v → dt_G V 3 w → ((w % 8 : Nat) : Int) ≤ l
def dt_iW (V : Nat → Nat → Nat) (v : Nat) (x7 : Int32) : Prop := ∃ d : Int, (-200 ≤ d ∧ d ≤ 7) ∧ x7 = dt_z d ∧ (-200 < d → ∃ w : Nat, w < v ∧ dt_G V 3 w ∧ ((w % 8 : Nat) : Int) - ((w / 8 : Nat) : Int) = d) ∧ ∀ w : Nat, w < v → dt_G V 3 w → ((w % 8 : Nat) : Int) - ((w / 8 : Nat) : Int) ≤ d
def dt_iM (V : Nat → Nat → Nat) (v : Nat) (x8 : Int32) : Prop := ∃ m : Nat, m ≤ 3 ∧ x8 = nI m ∧ (0 < m → ∃ w : Nat, w < v ∧ dt_G V m w) ∧ ∀ w : Nat, w < v → ∀ c, c ≤ 3 → dt_G V c w → c ≤ m
def dt_iC (V : Nat → Nat → Nat) (v c : Nat) (x8 : Int32) : Prop := ∃ m : Nat, m ≤ 3 ∧ x8 = nI m ∧ (0 < m → ∃ w : Nat, w < v + 1 ∧ dt_G V m w) ∧ (∀ w : Nat, w < v → ∀ c, c ≤ 3 → dt_G V c w → c ≤ m) ∧ ∀ k, k < c → dt_G V k v → k ≤ m
def dt_iR (V : Nat → Nat → Nat) (v : Nat) (x9 : Int32) : Prop := (x9 = 1 ∧ ∀ w : Nat, w < v → dt_G V 2 w → dt_G V 3 w) ∨ (x9 = 0 ∧ ∃ w : Nat, w < v ∧ dt_G V 2 w ∧ ¬ dt_G V 3 w)
theorem dt_ls {v w : Nat} (h : w < v + 1) : w = v ∨ w < v := by omega
/-! a plan that isn't in -/
theorem dt_iN_out {A v : Nat} {x4 : Int32} (h : dt_iN V A v x4) (hn : ¬ (dt_G V 3 v ∧ A < v)) : dt_iN V A (v + 1) x4 := by
  obtain ⟨m, hm, e, h1, h2⟩ := h
  refine ⟨m, hm, e, fun z => ?_, fun w hw hG hA => ?_⟩
  · obtain ⟨w, a, b⟩ := h1 z
    exact ⟨w, by omega, b⟩
  · rcases dt_ls hw with z | z
    · subst z
      exact absurd ⟨hG, hA⟩ hn
    · exact h2 w z hG hA
theorem dt_iE_out {v : Nat} {x5 : Int32} (h : dt_iE V v x5) (hn : ¬ dt_G V 3 v) : dt_iE V (v + 1) x5 := by
  obtain ⟨m, hm, e, h1, h2⟩ := h
  refine ⟨m, hm, e, fun z => ?_, fun w hw hG => ?_⟩
  · obtain ⟨w, a, b⟩ := h1 z
    exact ⟨w, by omega, b⟩
  · rcases dt_ls hw with z | z
    · subst z
      exact absurd hG hn
    · exact h2 w z hG
theorem dt_iL_out {v : Nat} {x6 : Int32} (h : dt_iL V v x6) (hn : ¬ dt_G V 3 v) : dt_iL V (v + 1) x6 := by
  obtain ⟨m, hm, e, h1, h2⟩ := h
  refine ⟨m, hm, e, fun z => ?_, fun w hw hG => ?_⟩
  · obtain ⟨w, a, b⟩ := h1 z
    exact ⟨w, by omega, b⟩
  · rcases dt_ls hw with z | z
    · subst z
      exact absurd hG hn
    · exact h2 w z hG
theorem dt_iW_out {v : Nat} {x7 : Int32} (h : dt_iW V v x7) (hn : ¬ dt_G V 3 v) : dt_iW V (v + 1) x7 := by
  obtain ⟨m, hm, e, h1, h2⟩ := h
  refine ⟨m, hm, e, fun z => ?_, fun w hw hG => ?_⟩
  · obtain ⟨w, a, b⟩ := h1 z
    exact ⟨w, by omega, b⟩
  · rcases dt_ls hw with z | z
    · subst z
      exact absurd hG hn
    · exact h2 w z hG
/-! a plan that is in -/
theorem dt_iN_pos {A v : Nat} {x4 : Int32} (h : dt_iN V A v x4) (hp : 0 ≤ x4) : dt_iN V A (v + 1) x4 := by
  obtain ⟨m, hm, e, h1, h2⟩ := h
  have h0 : 0 ≤ m := by
    rw [e] at hp
    exact dt_le_of (a := 0) hp (by omega) (by omega)
  obtain ⟨u, a, b, c, d⟩ := h1 h0
  refine ⟨m, hm, e, fun z => ⟨u, by omega, b, c, d⟩, fun w hw hG hA => ?_⟩
  rcases dt_ls hw with z | z
  · omega
  · exact h2 w z hG hA
theorem dt_iN_new {A v : Nat} {x4 : Int32} (h : dt_iN V A v x4) (hp : ¬ 0 ≤ x4) (hG : dt_G V 3 v) (hA : A < v) (hv : v < 64) : dt_iN V A (v + 1) (nI v) := by
  obtain ⟨m, hm, e, h1, h2⟩ := h
  have h0 : m < 0 := by
    rw [e] at hp
    exact dt_nle_of (a := 0) hp (by omega) (by omega)
  refine ⟨(v : Int), by omega, dt_z_nat v, fun _ => ⟨v, by omega, hG, hA, rfl⟩, fun w hw hG' hA' => ?_⟩
  rcases dt_ls hw with z | z
  · omega
  · have := h2 w z hG' hA'
    omega
theorem dt_iE_in {v : Nat} {x5 : Int32} (h : dt_iE V v x5) (hG : dt_G V 3 v) : (x5 ≤ nI (v % 8) → dt_iE V (v + 1) x5) ∧ (¬ x5 ≤ nI (v % 8) → dt_iE V (v + 1) (nI (v % 8))) := by
  obtain ⟨m, hm, e, h1, h2⟩ := h
  refine pk_le m (v % 8) (fun hle => ⟨m, hm, e, fun z => ?_, fun w hw hG' => ?_⟩) (fun hlt => ⟨v % 8, by omega, rfl, fun _ => ⟨v, by omega, hG, rfl⟩, fun w hw hG' => ?_⟩) e rfl
  · obtain ⟨w, a, b⟩ := h1 z
    exact ⟨w, by omega, b⟩
  · rcases dt_ls hw with z | z
    · subst z
      exact hle
    · exact h2 w z hG'
  · rcases dt_ls hw with z | z
    · subst z
      exact Nat.le_refl _
    · have := h2 w z hG'
      omega
theorem dt_iL_in {v : Nat} {x6 : Int32} (h : dt_iL V v x6) (hG : dt_G V 3 v) : (nI (v % 8) ≤ x6 → dt_iL V (v + 1) x6) ∧ (¬ nI (v % 8) ≤ x6 → dt_iL V (v + 1) (nI (v % 8))) := by
  obtain ⟨m, hm, e, h1, h2⟩ := h
  refine dt_le ((v % 8 : Nat) : Int) m (fun hle => ⟨m, hm, e, fun z => ?_, fun w hw hG' => ?_⟩) (fun hlt => ⟨((v % 8 : Nat) : Int), by omega, dt_z_nat _, fun _ => ⟨v, by omega, hG, rfl⟩, fun w hw hG' => ?_⟩) (dt_z_nat _) e (by omega) (by omega)
  · obtain ⟨w, a, b⟩ := h1 z
    exact ⟨w, by omega, b⟩
  · rcases dt_ls hw with z | z
    · subst z
      exact hle
    · exact h2 w z hG'
  · rcases dt_ls hw with z | z
    · subst z
      exact Int.le_refl _
    · have := h2 w z hG'
      omega
theorem dt_iW_in {v : Nat} {x7 z : Int32} (hv : v < 64) (ez : z = dt_z (((v % 8 : Nat) : Int) - ((v / 8 : Nat) : Int))) (h : dt_iW V v x7) (hG : dt_G V 3 v) : (z ≤ x7 → dt_iW V (v + 1) x7) ∧ (¬ z ≤ x7 → dt_iW V (v + 1) z) := by
  obtain ⟨m, hm, e, h1, h2⟩ := h
  refine dt_le (((v % 8 : Nat) : Int) - ((v / 8 : Nat) : Int)) m (fun hle => ⟨m, hm, e, fun z => ?_, fun w hw hG' => ?_⟩) (fun hlt => ⟨((v % 8 : Nat) : Int) - ((v / 8 : Nat) : Int), by omega, ez, fun _ => ⟨v, by omega, hG, rfl⟩, fun w hw hG' => ?_⟩) ez e (by omega) (by omega)
  · obtain ⟨w, a, b⟩ := h1 z
    exact ⟨w, by omega, b⟩
  · rcases dt_ls hw with z | z
    · subst z
      exact hle
    · exact h2 w z hG'
  · rcases dt_ls hw with z | z
    · subst z
      exact Int.le_refl _
    · have := h2 w z hG'
      omega
/-! how many constraints the plan meets -/
theorem dt_iC_0 {v : Nat} {x8 : Int32} (h : dt_iM V v x8) : dt_iC V v 1 x8 := by
  obtain ⟨m, hm, e, h1, h2⟩ := h
  refine ⟨m, hm, e, fun z => ?_, h2, fun k hk _ => by omega⟩
  obtain ⟨w, a, b⟩ := h1 z
  exact ⟨w, by omega, b⟩
theorem dt_iC_4 {v : Nat} {x8 : Int32} (h : dt_iC V v 4 x8) : dt_iM V (v + 1) x8 := by
  obtain ⟨m, hm, e, h1, h2, h3⟩ := h
  refine ⟨m, hm, e, h1, fun w hw c hc hG => ?_⟩
  rcases dt_ls hw with z | z
  · subst z
    exact h3 c (by omega) hG
  · exact h2 w z c hc hG
theorem dt_iC_out {v c : Nat} {x8 : Int32} (h : dt_iC V v c x8) (hn : ¬ dt_G V c v) : dt_iC V v (c + 1) x8 := by
  obtain ⟨m, hm, e, h1, h2, h3⟩ := h
  refine ⟨m, hm, e, h1, h2, fun k hk hG => ?_⟩
  rcases dt_ls hk with z | z
  · subst z
    exact absurd hG hn
  · exact h3 k z hG
theorem dt_iC_in {v c : Nat} {x8 : Int32} (h : dt_iC V v c x8) (hc : c < 4) (hG : dt_G V c v) : (nI c ≤ x8 → dt_iC V v (c + 1) x8) ∧ (¬ nI c ≤ x8 → dt_iC V v (c + 1) (nI c)) := by
  obtain ⟨m, hm, e, h1, h2, h3⟩ := h
  refine pk_le c m (fun hle => ⟨m, hm, e, h1, h2, fun k hk hG' => ?_⟩) (fun hlt => ⟨c, by omega, rfl, fun _ => ⟨v, by omega, hG⟩, fun w hw k hk hG' => ?_, fun k hk _ => by omega⟩) rfl e
  · rcases dt_ls hk with z | z
    · omega
    · exact h3 k z hG'
  · have := h2 w hw k hk hG'
    omega
/-! whether the last constraint is redundant -/
theorem dt_iR_keep {v : Nat} {x9 : Int32} (h : dt_iR V v x9) (hn : dt_G V 2 v → dt_G V 3 v) : dt_iR V (v + 1) x9 := by
  rcases h with ⟨e, h⟩ | ⟨e, w, hw, h⟩
  · refine Or.inl ⟨e, fun w hw hG => ?_⟩
    rcases dt_ls hw with z | z
    · subst z
      exact hn hG
    · exact h w z hG
  · exact Or.inr ⟨e, w, by omega, h⟩
theorem dt_iR_new {v : Nat} (h2 : dt_G V 2 v) (h3 : ¬ dt_G V 3 v) : dt_iR V (v + 1) 0 := Or.inr ⟨rfl, v, by omega, h2, h3⟩
/-! the ends -/
theorem dt_fN {A : Nat} {x4 r : Int32} (hA : A < 64) (h : dt_iN V A 64 x4) (hr : dt_nx V A r) : r = x4 := by
  obtain ⟨m, hm, e, h1, h2⟩ := h
  rcases hr with ⟨er, hn⟩ | ⟨x, y, er, hP, hlt, hle⟩
  · have hm0 : m = -1 := by
      by_cases z : 0 ≤ m
      · obtain ⟨w, a, b, c, d⟩ := h1 z
        have g := hn _ _ (dt_GP a b)
        omega
      · omega
    rw [er, e, hm0]
    rfl
  · obtain ⟨w, hw, ex, ey, hG⟩ := dt_PG hP
    have g := h2 w hw hG (by omega)
    obtain ⟨u, a, b, c, d⟩ := h1 g.1
    have g2 := hle _ _ (dt_GP a b) (by omega)
    rw [er, e]
    exact congrArg dt_z (by omega)
theorem dt_fE {x5 x6 r : Int32} (h : dt_iE V 64 x5) (h6 : dt_iL V 64 x6) (hr : dt_ear V r) : (0 ≤ x6 → r = x5) ∧ (¬ 0 ≤ x6 → r = -2) := by
  obtain ⟨m, hm, e, h1, h2⟩ := h
  obtain ⟨l, hl, e', k1, k2⟩ := h6
  refine dt_le 0 l (fun z => ?_) (fun z => ?_) rfl e' (by omega) (by omega)
  · obtain ⟨w, hw, hG, _⟩ := k1 z
    rcases hr with ⟨er, hn⟩ | ⟨t, er, ⟨x, hP⟩, hle⟩
    · exact absurd (dt_GP hw hG) (hn _ _)
    · obtain ⟨u, hu, _, ey, hGu⟩ := dt_PG hP
      have g1 := h2 u hu hGu
      obtain ⟨s, hs, hGs, es⟩ := h1 (by omega)
      have g2 := hle _ _ (dt_GP hs hGs)
      rw [er, e, dt_z_nat]
      exact congrArg dt_z (by omega)
  · rcases hr with ⟨er, hn⟩ | ⟨t, er, ⟨x, hP⟩, hle⟩
    · exact er
    · obtain ⟨u, hu, _, ey, hGu⟩ := dt_PG hP
      have g1 := k2 u hu hGu
      omega
theorem dt_fL {x6 r : Int32} (h6 : dt_iL V 64 x6) (hr : dt_lat V r) : (0 ≤ x6 → r = x6) ∧ (¬ 0 ≤ x6 → r = -2) := by
  obtain ⟨l, hl, e', k1, k2⟩ := h6
  refine dt_le 0 l (fun z => ?_) (fun z => ?_) rfl e' (by omega) (by omega)
  · obtain ⟨w, hw, hG, ew⟩ := k1 z
    rcases hr with ⟨er, hn⟩ | ⟨t, er, ⟨x, hP⟩, hle⟩
    · exact absurd (dt_GP hw hG) (hn _ _)
    · obtain ⟨u, hu, _, ey, hGu⟩ := dt_PG hP
      have g1 := k2 u hu hGu
      have g2 := hle _ _ (dt_GP hw hG)
      rw [er, e']
      exact congrArg dt_z (by omega)
  · rcases hr with ⟨er, hn⟩ | ⟨t, er, ⟨x, hP⟩, hle⟩
    · exact er
    · obtain ⟨u, hu, _, ey, hGu⟩ := dt_PG hP
      have g1 := k2 u hu hGu
      omega
theorem dt_fW {x7 r : Int32} (h : dt_iW V 64 x7) (hr : dt_wid V r) : r = x7 := by
  obtain ⟨d, hd, e, h1, h2⟩ := h
  rcases hr with ⟨er, hn⟩ | ⟨t, er, ⟨x, y, hP, ht⟩, hle⟩
  · have hd0 : d = -200 := by
      by_cases z : -200 < d
      · obtain ⟨w, a, b, c⟩ := h1 z
        exact absurd (dt_GP a b) (hn _ _)
      · omega
    rw [er, e, hd0]
    rfl
  · obtain ⟨u, hu, ex, ey, hGu⟩ := dt_PG hP
    have g1 := h2 u hu hGu
    obtain ⟨w, a, b, c⟩ := h1 (by omega)
    have g2 := hle _ _ (dt_GP a b)
    rw [er, e]
    exact congrArg dt_z (by omega)
theorem dt_fM {x8 r : Int32} (h : dt_iM V 64 x8) (hr : dt_exc V r) : r = 3 - x8 := by
  obtain ⟨m, hm, e, h1, h2⟩ := h
  obtain ⟨c, hc, er, ⟨x, y, hP⟩, hn⟩ := hr
  obtain ⟨u, hu, ex, ey, hGu⟩ := dt_PG hP
  have g1 := h2 u hu c hc hGu
  have g2 : m ≤ c := by
    by_cases z : c < m
    · obtain ⟨w, a, b⟩ := h1 (by omega)
      exact absurd (dt_GP a b) (hn m z hm _ _)
    · omega
  rw [er, e, show (3 : Int32) = nI 3 from rfl, pk_sub hm]
  exact congrArg nI (by omega)
theorem dt_fR {x9 r : Int32} (h : dt_iR V 64 x9) (hr : dt_red V r) : (x9 = 0 → r = 0) ∧ (¬ x9 = 0 → r = 1) := by
  rcases h with ⟨e, h⟩ | ⟨e, w, hw, h2, h3⟩
  · refine br_f (by rw [e]; decide) ?_
    rcases hr with ⟨er, _⟩ | ⟨er, x, y, h2, h3⟩
    · exact er
    · obtain ⟨u, hu, ex, ey, hGu⟩ := dt_PG h2
      rw [ex, ey] at h3
      exact absurd (dt_GP hu (h u hu hGu)) h3
  · refine br_t e ?_
    rcases hr with ⟨er, hh⟩ | ⟨er, _⟩
    · exact absurd (hh _ _ (dt_GP hw h2)).2 h3
    · exact er
end
end
section
/-! the law's loops, its last checks, and what is owed -/
section
variable {n0 cnt ds ac sk sb be : Int32} {a1 a2 a3 a4 a5 a6 a7 a8 a9 a10 : Nat → Int32} {post : Int32 → St0 → Prop} {mc ms kc ks : Nat} {x0 x1 x2 x4 x5 x6 x7 x8 x9 : Int32} {J124 J134 : Int32 → Int32 → Int32 → Int32 → Int32 → Int32 → Int32 → Prop}
theorem dt_293 {x y : Nat} (hx : x < 8) (hy : y < 8) (h8 : dt_iM (dt_V x0 x1) (8 * x + y) x8) (H : ∀ y8, dt_iM (dt_V x0 x1) (8 * x + y + 1) y8 → J134 x4 x5 x6 x7 y8 x9 (nI (y + 1))) :
    ∃ fu, wL_lawOf_293 post mc ms J124 J134 x0 x1 x2 x4 x5 x6 x7 x9 (nI x) (nI y) kc ks n0 cnt ds ac sk sb be a1 a2 a3 a4 a5 a6 a7 a8 a9 a10 fu x8 1 := by
  refine pk_loop (fun n c s => wL_lawOf_293 post mc ms J124 J134 x0 x1 x2 x4 x5 x6 x7 x9 (nI x) (nI y) kc ks n0 cnt ds ac sk sb be a1 a2 a3 a4 a5 a6 a7 a8 a9 a10 n s (nI c)) (fun c s => dt_iC (dt_V x0 x1) (8 * x + y) c s) 4 1 x8 (by omega) (dt_iC_0 h8) ?_ ?_
  · intro n s h
    exact pk_le 4 4 (fun _ => nm_r (nI_1 y) (H s (dt_iC_4 h))) (fun z => absurd z (by omega))
  · intro n c s hc h hw
    refine pk_le 4 c (fun z => absurd z (by omega)) (fun _ => dt_lmeets (many := c) (by omega) rfl hx hy (fun hG => br_f (by decide) (br_c (fun z => nm_r (nI_1 c) (hw _ ((dt_iC_in h hc hG).1 z))) (fun z => nm_r (nI_1 c) (hw _ ((dt_iC_in h hc hG).2 z))))) (fun hG => br_t rfl (nm_r (nI_1 c) (hw _ (dt_iC_out h hG)))))
/-- all six -/
def dt_I (V : Nat → Nat → Nat) (A v : Nat) (x4 x5 x6 x7 x8 x9 : Int32) : Prop := dt_iN V A v x4 ∧ dt_iE V v x5 ∧ dt_iL V v x6 ∧ dt_iW V v x7 ∧ dt_iM V v x8 ∧ dt_iR V v x9
theorem dt_out {A x y : Nat} (hx : x < 8) (hy : y < 8) (hI : dt_I (dt_V x0 x1) A (8 * x + y) x4 x5 x6 x7 x8 x9) (hn : ¬ dt_G (dt_V x0 x1) 3 (8 * x + y)) (H : ∀ y4 y5 y6 y7 y8 y9, dt_I (dt_V x0 x1) A (8 * x + y + 1) y4 y5 y6 y7 y8 y9 → J134 y4 y5 y6 y7 y8 y9 (nI (y + 1))) :
    wL_lawOf_175 post mc ms J124 J134 x0 x1 x2 x4 x5 x6 x7 x8 x9 (nI x) (nI y) 0 0 0 kc ks n0 cnt ds ac sk sb be a1 a2 a3 a4 a5 a6 a7 a8 a9 a10 := by
  obtain ⟨i4, i5, i6, i7, i8, i9⟩ := hI
  have k269 : wL_lawOf_269 post mc ms J124 J134 x0 x1 x2 x4 x5 x6 x7 x8 x9 (nI x) (nI y) 0 kc ks n0 cnt ds ac sk sb be a1 a2 a3 a4 a5 a6 a7 a8 a9 a10 := by
    refine br_t rfl (dt_lmeets (many := 2) (by omega) rfl hx hy (fun h2 => br_f (by decide) (dt_293 hx hy i8 (fun y8 h8 => H _ _ _ _ _ _ ⟨dt_iN_out i4 (fun z => hn z.1), dt_iE_out i5 hn, dt_iL_out i6 hn, dt_iW_out i7 hn, h8, dt_iR_new h2 hn⟩))) (fun h2 => br_t rfl (dt_293 hx hy i8 (fun y8 h8 => H _ _ _ _ _ _ ⟨dt_iN_out i4 (fun z => hn z.1), dt_iE_out i5 hn, dt_iL_out i6 hn, dt_iW_out i7 hn, h8, dt_iR_keep i9 (fun z => absurd z h2)⟩))))
  have k247 : wL_lawOf_247 post mc ms J124 J134 x0 x1 x2 x4 x5 x6 x7 x8 x9 (nI x) (nI y) 0 kc ks n0 cnt ds ac sk sb be a1 a2 a3 a4 a5 a6 a7 a8 a9 a10 := br_t rfl k269
  have k231 : wL_lawOf_231 post mc ms J124 J134 x0 x1 x2 x4 x5 x6 x7 x8 x9 (nI x) (nI y) 0 kc ks n0 cnt ds ac sk sb be a1 a2 a3 a4 a5 a6 a7 a8 a9 a10 := br_t rfl k247
  have k215 : wL_lawOf_215 post mc ms J124 J134 x0 x1 x2 x4 x5 x6 x7 x8 x9 (nI x) (nI y) 0 kc ks n0 cnt ds ac sk sb be a1 a2 a3 a4 a5 a6 a7 a8 a9 a10 := br_t rfl k231
  exact br_t rfl (br_t rfl k215)
theorem dt_in {A x y : Nat} (hx : x < 8) (hy : y < 8) (hA : A < 64) (eA : x2 &&& 63 = nI A) (hI : dt_I (dt_V x0 x1) A (8 * x + y) x4 x5 x6 x7 x8 x9) (hG : dt_G (dt_V x0 x1) 3 (8 * x + y)) (H : ∀ y4 y5 y6 y7 y8 y9, dt_I (dt_V x0 x1) A (8 * x + y + 1) y4 y5 y6 y7 y8 y9 → J134 y4 y5 y6 y7 y8 y9 (nI (y + 1))) :
    wL_lawOf_175 post mc ms J124 J134 x0 x1 x2 x4 x5 x6 x7 x8 x9 (nI x) (nI y) 1 1 1 kc ks n0 cnt ds ac sk sb be a1 a2 a3 a4 a5 a6 a7 a8 a9 a10 := by
  obtain ⟨i4, i5, i6, i7, i8, i9⟩ := hI
  have h1 : ¬ (1 : Int32) = 0 := by decide
  have e8 : (8 * x + y) % 8 = y := by omega
  have e8' : (8 * x + y) / 8 = x := by omega
  have ev : 8 * nI x + nI y = nI (8 * x + y) := by rw [show (8 : Int32) = nI 8 from rfl, pk_mul, nI_add]
  have ed : nI y - nI x = dt_z ((((8 * x + y) % 8 : Nat) : Int) - (((8 * x + y) / 8 : Nat) : Int)) := by rw [e8, e8', dt_z_nat, dt_z_nat, dt_z_sub]
  have s5 := dt_iE_in i5 hG
  have s6 := dt_iL_in i6 hG
  have s7 := dt_iW_in (by omega) ed i7 hG
  rw [e8] at s5 s6
  have k269 : ∀ y4 y5 y6 y7, dt_iN (dt_V x0 x1) A (8 * x + y + 1) y4 → dt_iE (dt_V x0 x1) (8 * x + y + 1) y5 → dt_iL (dt_V x0 x1) (8 * x + y + 1) y6 → dt_iW (dt_V x0 x1) (8 * x + y + 1) y7 → wL_lawOf_269 post mc ms J124 J134 x0 x1 x2 y4 y5 y6 y7 x8 x9 (nI x) (nI y) 1 kc ks n0 cnt ds ac sk sb be a1 a2 a3 a4 a5 a6 a7 a8 a9 a10 :=
    fun y4 y5 y6 y7 g4 g5 g6 g7 => br_f h1 (dt_293 hx hy i8 (fun y8 g8 => H _ _ _ _ _ _ ⟨g4, g5, g6, g7, g8, dt_iR_keep i9 (fun _ => hG)⟩))
  have k247 : ∀ y4 y5 y6, dt_iN (dt_V x0 x1) A (8 * x + y + 1) y4 → dt_iE (dt_V x0 x1) (8 * x + y + 1) y5 → dt_iL (dt_V x0 x1) (8 * x + y + 1) y6 → wL_lawOf_247 post mc ms J124 J134 x0 x1 x2 y4 y5 y6 x7 x8 x9 (nI x) (nI y) 1 kc ks n0 cnt ds ac sk sb be a1 a2 a3 a4 a5 a6 a7 a8 a9 a10 :=
    fun y4 y5 y6 g4 g5 g6 => br_f h1 (br_c (fun z => k269 _ _ _ _ g4 g5 g6 (s7.1 z)) (fun z => nm_e (k269 _ _ _ _ g4 g5 g6 (s7.2 z))))
  have k231 : ∀ y4 y5, dt_iN (dt_V x0 x1) A (8 * x + y + 1) y4 → dt_iE (dt_V x0 x1) (8 * x + y + 1) y5 → wL_lawOf_231 post mc ms J124 J134 x0 x1 x2 y4 y5 x6 x7 x8 x9 (nI x) (nI y) 1 kc ks n0 cnt ds ac sk sb be a1 a2 a3 a4 a5 a6 a7 a8 a9 a10 :=
    fun y4 y5 g4 g5 => br_f h1 (br_c (fun z => k247 _ _ _ g4 g5 (s6.1 z)) (fun z => k247 _ _ _ g4 g5 (s6.2 z)))
  have k215 : ∀ y4, dt_iN (dt_V x0 x1) A (8 * x + y + 1) y4 → wL_lawOf_215 post mc ms J124 J134 x0 x1 x2 y4 x5 x6 x7 x8 x9 (nI x) (nI y) 1 kc ks n0 cnt ds ac sk sb be a1 a2 a3 a4 a5 a6 a7 a8 a9 a10 :=
    fun y4 g4 => br_f h1 (br_c (fun z => k231 _ _ g4 (s5.1 z)) (fun z => k231 _ _ g4 (s5.2 z)))
  exact br_t rfl (br_f h1 (pk_le (8 * x + y) A (fun hle => k215 _ (dt_iN_out i4 (fun z => absurd z.2 (by omega)))) (fun hlt => br_c (fun z => k215 _ (dt_iN_pos i4 z)) (fun z => nm_r ev (k215 _ (dt_iN_new i4 z hG hlt (by omega))))) ev eA))
theorem dt_134 {A x : Nat} (hcf : dt_cf (dt_V x0 x1) a1 a2 a3 a4) (hx : x < 8) (hA : A < 64) (eA : x2 &&& 63 = nI A) (hI : dt_I (dt_V x0 x1) A (8 * x) x4 x5 x6 x7 x8 x9) (H : ∀ y4 y5 y6 y7 y8 y9, dt_I (dt_V x0 x1) A (8 * (x + 1)) y4 y5 y6 y7 y8 y9 → J124 y4 y5 y6 y7 y8 y9 (nI (x + 1))) :
    ∃ fu, wL_lawOf_134 post mc ms J124 x0 x1 x2 (nI x) kc ks 2 (nI 3) ds ac sk sb be a1 a2 a3 a4 a5 a6 a7 a8 a9 a10 fu x4 x5 x6 x7 x8 x9 0 := by
  refine pk_loop (σ := Int32 × Int32 × Int32 × Int32 × Int32 × Int32) (fun n y s => wL_lawOf_134 post mc ms J124 x0 x1 x2 (nI x) kc ks 2 (nI 3) ds ac sk sb be a1 a2 a3 a4 a5 a6 a7 a8 a9 a10 n s.1 s.2.1 s.2.2.1 s.2.2.2.1 s.2.2.2.2.1 s.2.2.2.2.2 (nI y)) (fun y s => dt_I (dt_V x0 x1) A (8 * x + y) s.1 s.2.1 s.2.2.1 s.2.2.2.1 s.2.2.2.2.1 s.2.2.2.2.2) 8 0 (x4, x5, x6, x7, x8, x9) (by omega) hI ?_ ?_
  · intro n s h
    exact pk_le 8 8 (fun _ => nm_r (nI_1 x) (H _ _ _ _ _ _ h)) (fun z => absurd z (by omega))
  · intro n y s hy h hw
    have ev : 8 * nI x + nI y = nI (8 * x + y) := by rw [show (8 : Int32) = nI 8 from rfl, pk_mul, nI_add]
    refine pk_le 8 y (fun z => absurd z (by omega)) (fun _ => dt_lmeets (many := 3) (by omega) rfl hx hy (fun hG => ?_) (fun hG => ?_))
    · rw [ev]
      refine dt_meets hcf (by omega) (fun z => absurd hG z) (fun _ => br_f (by decide) (dt_in hx hy hA eA h hG (fun y4 y5 y6 y7 y8 y9 g => hw (y4, y5, y6, y7, y8, y9) g)))
    · rw [ev]
      refine dt_meets hcf (by omega) (fun _ => br_t rfl (dt_out hx hy h hG (fun y4 y5 y6 y7 y8 y9 g => hw (y4, y5, y6, y7, y8, y9) g))) (fun z => absurd z hG)
theorem dt_fin {A n : Nat} (hp : post 1 ()) (hcf : dt_cf (dt_V x0 x1) a1 a2 a3 a4) (hA : A < 64) (eA : x2 &&& 63 = nI A) (hI : dt_I (dt_V x0 x1) A 64 x4 x5 x6 x7 x8 x9) :
    wL_lawOf_124 post mc ms x0 x1 x2 kc ks 2 (nI 3) ds ac (-1) sb be a1 a2 a3 a4 a5 a6 a7 a8 a9 a10 (n + 1) x4 x5 x6 x7 x8 x9 (nI 8) := by
  obtain ⟨i4, i5, i6, i7, i8, i9⟩ := hI
  refine pk_le 8 8 (fun _ => ?_) (fun z => absurd z (by omega))
  rw [eA]
  refine dt_next hcf hA (fun r c1 c2 c3 b8 b9 b10 hr => br_t (dt_fN hA i4 hr) ?_)
  have k412 : ∀ (z0 z1 ac sb be : Int32) (b8 b9 b10 : Nat → Int32), z1 = z0 → wL_lawOf_412 post mc ms x7 x8 z0 z1 kc ks 2 (nI 3) ds ac (-1) sb be a1 a2 a3 a4 a5 a6 a7 b8 b9 b10 := by
    intro z0 z1 ac sb be b8 b9 b10 e
    refine br_t e (dt_widest hcf (fun r c1 c2 c3 b8 b9 b10 hr => br_t (dt_fW i7 hr) (dt_excess hcf (fun r s hr => br_t (dt_fM i8 hr) hp))))
  have k392 : ∀ (z0 z1 ac sb be : Int32) (b8 b9 b10 : Nat → Int32), z1 = z0 → wL_lawOf_392 post mc ms x6 x7 x8 z0 z1 kc ks 2 (nI 3) ds ac (-1) sb be a1 a2 a3 a4 a5 a6 a7 b8 b9 b10 := by
    intro z0 z1 ac sb be b8 b9 b10 e
    refine br_t e (dt_latest hcf (fun r c1 c2 c3 b8 b9 b10 hr => br_c (fun z => k412 _ _ _ _ _ _ _ _ ((dt_fL i6 hr).1 z)) (fun z => k412 _ _ _ _ _ _ _ _ ((dt_fL i6 hr).2 z))))
  have k370 : ∀ (z0 z1 ac sb be : Int32) (b8 b9 b10 : Nat → Int32), z1 = z0 → wL_lawOf_370 post mc ms x5 x6 x7 x8 z0 z1 kc ks 2 (nI 3) ds ac (-1) sb be a1 a2 a3 a4 a5 a6 a7 b8 b9 b10 := by
    intro z0 z1 ac sb be b8 b9 b10 e
    refine br_t e (dt_earliest hcf (fun r c1 c2 c3 b8 b9 b10 hr => br_c (fun z => k392 _ _ _ _ _ _ _ _ ((dt_fE i5 i6 hr).1 z)) (fun z => k392 _ _ _ _ _ _ _ _ ((dt_fE i5 i6 hr).2 z))))
  refine dt_redundant hcf (fun r c1 c2 c3 b8 b9 b10 hr => br_c (fun z => k370 _ _ _ _ _ _ _ _ ((dt_fR i9 hr).1 z)) (fun z => k370 _ _ _ _ _ _ _ _ ((dt_fR i9 hr).2 z)))
theorem dt_124 (hp : post 1 ()) (hcf : dt_cf (dt_V x0 x1) a1 a2 a3 a4) :
    ∃ fu, wL_lawOf_124 post mc ms x0 x1 x2 kc ks 2 (nI 3) ds ac (-1) sb be a1 a2 a3 a4 a5 a6 a7 a8 a9 a10 fu (-1) 8 (-1) (-200) 0 1 0 := by
  obtain ⟨A, hA, eA⟩ : ∃ A : Nat, A < 64 ∧ x2 &&& 63 = nI A := pk_andE x2 6 (by decide)
  have h0 : dt_I (dt_V x0 x1) A (8 * 0) (-1) 8 (-1) (-200) 0 1 :=
    ⟨⟨-1, by omega, rfl, fun z => absurd z (by omega), fun w hw => absurd hw (by omega)⟩, ⟨8, by omega, rfl, fun z => absurd z (by omega), fun w hw => absurd hw (by omega)⟩, ⟨-1, by omega, rfl, fun z => absurd z (by omega), fun w hw => absurd hw (by omega)⟩, ⟨-200, by omega, rfl, fun z => absurd z (by omega), fun w hw => absurd hw (by omega)⟩, ⟨0, by omega, rfl, fun z => absurd z (by omega), fun w hw => absurd hw (by omega)⟩, Or.inl ⟨rfl, fun w hw => absurd hw (by omega)⟩⟩
  refine pk_loop (σ := Int32 × Int32 × Int32 × Int32 × Int32 × Int32) (fun n x s => wL_lawOf_124 post mc ms x0 x1 x2 kc ks 2 (nI 3) ds ac (-1) sb be a1 a2 a3 a4 a5 a6 a7 a8 a9 a10 n s.1 s.2.1 s.2.2.1 s.2.2.2.1 s.2.2.2.2.1 s.2.2.2.2.2 (nI x)) (fun x s => dt_I (dt_V x0 x1) A (8 * x) s.1 s.2.1 s.2.2.1 s.2.2.2.1 s.2.2.2.2.1 s.2.2.2.2.2) 8 0 (-1, 8, -1, -200, 0, 1) (by omega) h0 ?_ ?_
  · intro n s h
    exact dt_fin hp hcf hA eA h
  · intro n x s hx h hw
    exact pk_le 8 x (fun z => absurd z (by omega)) (fun _ => dt_134 hcf hx hA eA h (fun y4 y5 y6 y7 y8 y9 g => hw (y4, y5, y6, y7, y8, y9) g))
theorem dt_lawOf (hp : post 1 ()) : wpL_lawOf post 11 365 () x0 x1 x2 := by
  unfold wpL_lawOf
  refine ⟨by omega, by omega, 10, 348, by omega, by omega, ?_⟩
  unfold wpX_init
  refine ⟨by omega, by omega, by omega, by omega, by omega, by omega, by omega, by omega, by omega, by omega, by omega, by omega, by omega, by omega, by omega, by omega, by omega, by omega, by omega, by omega, br_t (by decide) (br_t (by decide) ?_)⟩
  exact dt_12 (fun b1 b2 b3 b4 b5 b6 b7 h => dt_124 hp h)
end
theorem dt_cell {po : Int32 → Prop} {L : Nat} {xs : Nat → Int32} (hL : L ≤ 3) {i : Nat} {p : Int32} (ep : p = nI i) (hi : i < 3) (H : ∀ r, po r) : wpL_cellAt po L xs () p := by
  subst ep
  unfold wpL_cellAt
  exact pk_le L i (fun _ => H _) (fun z => ⟨pk_in i L z, H _⟩)
theorem i_vc (xs : Nat → Int32) (L : Nat) (hL : L ≤ 3) : wpL_law (fun r => r = 1) L xs := by
  unfold wpL_law
  refine dt_cell hL (i := 0) rfl (by omega) (fun p => dt_cell hL (i := 1) rfl (by omega) (fun q => dt_cell hL (i := 2) rfl (by omega) (fun r => ⟨11, 365, by omega, by omega, ?_⟩)))
  exact dt_lawOf rfl
end
