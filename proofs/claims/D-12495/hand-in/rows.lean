section
/-! ===== Int32 by its bits: bt x i ===== -/
def bt (x : Int32) (i : Nat) : Bool := x.toBitVec.getLsbD i
theorem b_ext {x y : Int32} (h : ∀ i, i < 32 → bt x i = bt y i) : x = y := Int32.toBitVec_inj.mp (BitVec.eq_of_getLsbD_eq (fun i hi => h i hi))
theorem b_or (x y : Int32) (i : Nat) : bt (x ||| y) i = (bt x i || bt y i) := by unfold bt; rw [Int32.toBitVec_or, BitVec.getLsbD_or]
theorem b_and (x y : Int32) (i : Nat) : bt (x &&& y) i = (bt x i && bt y i) := by unfold bt; rw [Int32.toBitVec_and, BitVec.getLsbD_and]
theorem b_xor (x y : Int32) (i : Nat) : bt (x ^^^ y) i = (bt x i ^^ bt y i) := by unfold bt; rw [Int32.toBitVec_xor, BitVec.getLsbD_xor]
theorem b_big {x : Int32} {i : Nat} (h : 32 ≤ i) : bt x i = false := BitVec.getLsbD_of_ge _ _ h
theorem b_m1 : ∀ i, i < 32 → bt (-1) i = true := by decide +kernel
theorem b_0 (i : Nat) : bt 0 i = false := BitVec.getLsbD_zero
theorem s_l : ∀ n, n < 32 → ((nI n &&& 31).toBitVec.smod 32).toNat = n := by decide +kernel
theorem b_shl (n : Nat) (hn : n < 32) (x : Int32) {i : Nat} (hi : i < 32) : bt (x <<< (nI n &&& 31)) i = (decide (n ≤ i) && bt x (i - n)) := by
  unfold bt
  rw [Int32.toBitVec_shiftLeft]
  show (x.toBitVec <<< ((nI n &&& 31).toBitVec.smod 32).toNat).getLsbD i = _
  rw [s_l n hn, BitVec.getLsbD_shiftLeft]
  rcases Nat.lt_or_ge i n with h | h
  · simp [h, Nat.not_le.mpr h]
  · simp [hi, h, Nat.not_lt.mpr h]
theorem b_sshr (n : Nat) (hn : n < 32) (x : Int32) {i : Nat} (hi : i < 32) : bt (x >>> (nI n &&& 31)) i = if n + i < 32 then bt x (n + i) else bt x 31 := by
  unfold bt
  rw [Int32.toBitVec_shiftRight]
  show (x.toBitVec.sshiftRight ((nI n &&& 31).toBitVec.smod 32).toNat).getLsbD i = _
  rw [s_l n hn, BitVec.getLsbD_sshiftRight, BitVec.msb_eq_getLsbD_last]
  simp [hi]
/-! ===== sets of bits ===== -/
theorem sm_not (x : Int32) {i : Nat} (hi : i < 32) : bt (x ^^^ (-1)) i = !bt x i := by
  rw [b_xor, b_m1 i hi]
  cases bt x i <;> rfl
theorem sm_and0 {x y : Int32} : (x &&& y) = 0 ↔ ∀ i, bt x i = true → bt y i = true → False := by
  constructor
  · intro h i hx hy
    have t := b_and x y i
    rw [h, b_0, hx, hy] at t
    exact absurd t (by decide)
  · intro h
    apply b_ext
    intro i _
    rw [b_and, b_0]
    cases hx : bt x i
    · rfl
    · cases hy : bt y i
      · rfl
      · exact (h i hx hy).elim
theorem sm_lt32 {x : Int32} {i : Nat} (h : bt x i = true) : i < 32 := by
  rcases Nat.lt_or_ge i 32 with hi | hi
  · exact hi
  · rw [b_big hi] at h
    exact absurd h (by decide)
theorem sm_sub0 {x y : Int32} : (x &&& (y ^^^ (-1))) = 0 ↔ ∀ i, bt x i = true → bt y i = true := by
  rw [sm_and0]
  constructor
  · intro h i hx
    have hi := sm_lt32 hx
    cases hy : bt y i
    · exact (h i hx (by rw [sm_not y hi, hy]; rfl)).elim
    · rfl
  · intro h i hx hn
    have hi := sm_lt32 hx
    rw [sm_not y hi, h i hx] at hn
    exact absurd hn (by decide)
theorem sm_bit {h : Nat} (hh : h < 32) (i : Nat) : bt ((1 : Int32) <<< (nI h &&& 31)) i = decide (i = h) := by
  rcases Nat.lt_or_ge i 32 with hi | hi
  · exact (by decide +kernel : ∀ h, h < 32 → ∀ i, i < 32 → bt ((1 : Int32) <<< (nI h &&& 31)) i = decide (i = h)) h hh i hi
  · rw [b_big hi]
    exact (decide_eq_false (by omega)).symm
theorem sm_one (i : Nat) : bt 1 i = decide (i = 0) := by
  rcases Nat.lt_or_ge i 32 with hi | hi
  · exact (by decide +kernel : ∀ i, i < 32 → bt 1 i = decide (i = 0)) i hi
  · rw [b_big hi]
    exact (decide_eq_false (by omega)).symm
theorem sm_63 (i : Nat) : bt 63 i = decide (i < 6) := by
  rcases Nat.lt_or_ge i 32 with hi | hi
  · exact (by decide +kernel : ∀ i, i < 32 → bt 63 i = decide (i < 6)) i hi
  · rw [b_big hi]
    exact (decide_eq_false (by omega)).symm
theorem sm_4095 (i : Nat) : bt 4095 i = decide (i < 12) := by
  rcases Nat.lt_or_ge i 32 with hi | hi
  · exact (by decide +kernel : ∀ i, i < 32 → bt 4095 i = decide (i < 12)) i hi
  · rw [b_big hi]
    exact (decide_eq_false (by omega)).symm
theorem sm_val (x : Int32) {h : Nat} (hh : h < 32) : ((x >>> (nI h &&& 31)) &&& 1) = nI (bt x h).toNat := by
  have e : bt (x >>> (nI h &&& 31)) 0 = bt x h := by
    rw [b_sshr h hh x (by omega), Nat.add_zero, if_pos hh]
  apply b_ext
  intro i hi
  rw [b_and, sm_one]
  by_cases z : i = 0
  · subst z
    rw [e]
    cases bt x h
    · decide +kernel
    · decide +kernel
  · rw [decide_eq_false z, Bool.and_false]
    cases bt x h
    · exact (b_0 i).symm
    · show false = bt 1 i
      rw [sm_one, decide_eq_false z]
theorem sm_tst (x : Int32) {h : Nat} (hh : h < 32) : ((x >>> (nI h &&& 31)) &&& 1) = 0 ↔ bt x h = false := by
  rw [sm_val x hh]
  cases bt x h
  · exact ⟨fun _ => rfl, fun _ => rfl⟩
  · exact ⟨fun z => absurd z (by decide +kernel), fun z => absurd z (by decide)⟩
theorem sm_orB (x : Int32) {h : Nat} (hh : h < 32) (i : Nat) : bt (x ||| ((1 : Int32) <<< (nI h &&& 31))) i = true ↔ bt x i = true ∨ i = h := by
  rw [b_or, sm_bit hh, Bool.or_eq_true, decide_eq_true_iff]
theorem sm_orS (x y : Int32) (i : Nat) : bt (x ||| y) i = true ↔ bt x i = true ∨ bt y i = true := by
  rw [b_or, Bool.or_eq_true]
theorem sm_same {x y : Int32} (h : ∀ i, bt x i = true ↔ bt y i = true) : x = y := by
  apply b_ext
  intro i _
  have t := h i
  cases hx : bt x i
  · cases hy : bt y i
    · rfl
    · rw [t.2 hy] at hx
      exact hx.symm
  · exact (t.1 hx).symm
theorem sm_nat {x : Int32} {c : Nat} (h : ∀ i, bt x i = true → i < c) : ∃ n, n < 2 ^ c ∧ x = nI n := by
  refine ⟨x.toBitVec.toNat, Nat.lt_pow_two_of_testBit _ (fun i hi => ?_), ?_⟩
  · cases e : x.toBitVec.toNat.testBit i
    · rfl
    · exact absurd (h i e) (by omega)
  · apply Int32.toBitVec_inj.1
    show x.toBitVec = BitVec.ofNat 32 x.toBitVec.toNat
    simp
theorem sm_btN {n i : Nat} (hi : i < 32) : bt (nI n) i = n.testBit i := by
  show (BitVec.ofNat 32 n).getLsbD i = n.testBit i
  rw [BitVec.getLsbD_ofNat, decide_eq_true hi, Bool.true_and]
theorem sm_bnd {n c i : Nat} (hn : n < 2 ^ c) (h : bt (nI n) i = true) : i < c := by
  rcases Nat.lt_or_ge i c with z | z
  · exact z
  · rw [sm_btN (sm_lt32 h), Nat.testBit_lt_two_pow (Nat.lt_of_lt_of_le hn (Nat.pow_le_pow_right (by omega) z))] at h
    exact absurd h (by decide)
theorem sm_by : ∀ n, n < 64 → (nI n).toInt8.toInt32 = nI n := by decide +kernel
theorem sm_byte {x : Int32} (h : ∀ i, bt x i = true → i < 6) : x.toInt8.toInt32 = x := by
  obtain ⟨n, hn, rfl⟩ := sm_nat h
  exact sm_by n hn
theorem sm_nf {b : Bool} (h : ¬ b = true) : b = false := by
  cases b
  · rfl
  · exact absurd rfl h
theorem sm_ft {b : Bool} (h : b = false) : ¬ b = true := by
  rw [h]
  decide
theorem sm_b0 (i : Nat) : ¬ bt 0 i = true := sm_ft (b_0 i)
/-! ===== how many of the first n bits ===== -/
def sm_c (x : Int32) : Nat → Nat
  | 0 => 0
  | n + 1 => sm_c x n + (bt x n).toNat
theorem sm_c_le (x : Int32) (n : Nat) : sm_c x n ≤ n := by
  induction n with
  | zero => exact Nat.le_refl 0
  | succ n ih =>
    show sm_c x n + (bt x n).toNat ≤ n + 1
    have t : (bt x n).toNat ≤ 1 := Bool.toNat_le _
    omega
theorem sm_c_mono {x y : Int32} (h : ∀ i, bt x i = true → bt y i = true) (n : Nat) : sm_c x n ≤ sm_c y n := by
  induction n with
  | zero => exact Nat.le_refl 0
  | succ n ih =>
    show sm_c x n + (bt x n).toNat ≤ sm_c y n + (bt y n).toNat
    have t : (bt x n).toNat ≤ (bt y n).toNat := by
      cases hx : bt x n
      · exact Nat.zero_le _
      · rw [h n hx]
        exact Nat.le_refl _
    omega
theorem sm_c_lt {x y : Int32} (h : ∀ i, bt x i = true → bt y i = true) {j n : Nat} (hj : j < n) (hy : bt y j = true) (hx : bt x j = false) : sm_c x n < sm_c y n := by
  induction n with
  | zero => omega
  | succ n ih =>
    show sm_c x n + (bt x n).toNat < sm_c y n + (bt y n).toNat
    by_cases e : j = n
    · subst e
      have t := sm_c_mono h j
      rw [hx, hy]
      show sm_c x j + 0 < sm_c y j + 1
      omega
    · have t := ih (by omega)
      have t2 : (bt x n).toNat ≤ (bt y n).toNat := by
        cases hx : bt x n
        · exact Nat.zero_le _
        · rw [h n hx]
          exact Nat.le_refl _
      omega
theorem sm_c_full {x : Int32} {n : Nat} (h : n ≤ sm_c x n) : ∀ i, i < n → bt x i = true := by
  induction n with
  | zero =>
    intro i hi
    omega
  | succ n ih =>
    have e : sm_c x (n + 1) = sm_c x n + (bt x n).toNat := rfl
    have t : (bt x n).toNat ≤ 1 := Bool.toNat_le _
    have t2 := sm_c_le x n
    intro i hi
    by_cases z : i = n
    · subst z
      cases hx : bt x i
      · rw [hx] at e
        have e' : sm_c x (i + 1) = sm_c x i + 0 := e
        omega
      · rfl
    · exact ih (by omega) i (by omega)
/-- a set below another of c bits that isn't the same has fewer -/
theorem sm_c_ne {x y : Int32} {c : Nat} (h : ∀ i, bt x i = true → bt y i = true) (hc : ∀ i, bt y i = true → i < c) (e : y ≠ x) : sm_c x c < sm_c y c := by
  by_cases z : ∃ j, bt y j = true ∧ bt x j = false
  · obtain ⟨j, hy, hx⟩ := z
    exact sm_c_lt h (hc j hy) hy hx
  · exfalso
    apply e
    apply sm_same
    intro i
    refine ⟨fun hy => ?_, h i⟩
    cases hx : bt x i
    · exact (z ⟨i, hy, hx⟩).elim
    · rfl
end
section
/-! ===== sets: below, apart, six bits ===== -/
def sm_sub (x y : Int32) : Prop := ∀ i, bt x i = true → bt y i = true
def sm_dj (x y : Int32) : Prop := ∀ i, bt x i = true → bt y i = true → False
def sm_b6 (x : Int32) : Prop := ∀ i, bt x i = true → i < 6
/-! ===== the least set that is closed under rules ===== -/
def sm_Cl (E : Nat → Prop) (h : Nat → Nat) (p : Nat → Int32) (S : Nat → Prop) : Prop := ∀ r, E r → (∀ i, bt (p r) i = true → S i) → S (h r)
def sm_L (E : Nat → Prop) (h : Nat → Nat) (p : Nat → Int32) (i : Nat) : Prop := ∀ S : Nat → Prop, sm_Cl E h p S → S i
theorem sm_L_cl (E : Nat → Prop) (h : Nat → Nat) (p : Nat → Int32) : sm_Cl E h p (sm_L E h p) := by
  intro r hr hp S hS
  exact hS r hr (fun i hi => hp i hi S hS)
theorem sm_L_inv {E : Nat → Prop} {h : Nat → Nat} {p : Nat → Int32} {a : Nat} (H : sm_L E h p a) : ∃ r, E r ∧ h r = a ∧ ∀ j, bt (p r) j = true → sm_L E h p j := by
  have t := H (fun i => sm_L E h p i ∧ ∃ r, E r ∧ h r = i ∧ ∀ j, bt (p r) j = true → sm_L E h p j) (by
    intro r hr hp
    exact ⟨sm_L_cl E h p r hr (fun i hi => (hp i hi).1), r, hr, rfl, fun j hj => (hp j hj).1⟩)
  exact t.2
/-- the same closed sets, the same least one -/
theorem sm_L_same {E E' : Nat → Prop} {h h' : Nat → Nat} {p p' : Nat → Int32} (e : ∀ r, E' r → E r ∧ h r = h' r ∧ p r = p' r) {a : Nat} (H : sm_L E' h' p' a) : sm_L E h p a := by
  apply H
  intro r hr hp
  obtain ⟨e1, e2, e3⟩ := e r hr
  rw [← e2]
  exact sm_L_cl E h p r e1 (fun i hi => hp i (by rw [← e3]; exact hi))
/-- within one pass that began at s0: rules below r are done -/
def sm_I (E : Nat → Prop) (h : Nat → Nat) (p : Nat → Int32) (c : Nat) (s0 s : Int32) (r : Nat) : Prop :=
  sm_sub s0 s ∧ (∀ i, bt s i = true → sm_L E h p i) ∧ (∀ i, bt s i = true → i < c) ∧ (s = s0 → ∀ q, q < r → E q → sm_sub (p q) s0 → bt s0 (h q) = true) ∧ (sm_Cl E h p (fun i => bt s0 i = true) → s = s0)
/-- behind j passes -/
def sm_O (E : Nat → Prop) (h : Nat → Nat) (p : Nat → Int32) (c : Nat) (s : Int32) (j : Nat) : Prop :=
  (∀ i, bt s i = true → sm_L E h p i) ∧ (∀ i, bt s i = true → i < c) ∧ (sm_Cl E h p (fun i => bt s i = true) ∨ j ≤ sm_c s c)
theorem sm_O_0 (E : Nat → Prop) (h : Nat → Nat) (p : Nat → Int32) (c : Nat) : sm_O E h p c 0 0 :=
  ⟨fun i hi => absurd hi (sm_b0 i), fun i hi => absurd hi (sm_b0 i), Or.inr (Nat.zero_le _)⟩
theorem sm_I_0 {E : Nat → Prop} {h : Nat → Nat} {p : Nat → Int32} {c : Nat} {s : Int32} {j : Nat} (H : sm_O E h p c s j) : sm_I E h p c s s 0 :=
  ⟨fun _ hi => hi, H.1, H.2.1, fun _ q hq => absurd hq (by omega), fun _ => rfl⟩
theorem sm_I_no {E : Nat → Prop} {h : Nat → Nat} {p : Nat → Int32} {c : Nat} {s0 s : Int32} {r : Nat} (H : sm_I E h p c s0 s r) (hn : ¬ (E r ∧ sm_sub (p r) s)) : sm_I E h p c s0 s (r + 1) := by
  obtain ⟨h1, h2, h3, h4, h5⟩ := H
  refine ⟨h1, h2, h3, fun e q hq hE hp => ?_, h5⟩
  by_cases z : q = r
  · subst z
    subst e
    exact (hn ⟨hE, hp⟩).elim
  · exact h4 e q (by omega) hE hp
theorem sm_I_yes {E : Nat → Prop} {h : Nat → Nat} {p : Nat → Int32} {c : Nat} {s0 s : Int32} {r : Nat} (H : sm_I E h p c s0 s r) (hE : E r) (hp : sm_sub (p r) s) (hh : h r < c) (hc : c ≤ 32) : sm_I E h p c s0 (s ||| ((1 : Int32) <<< (nI (h r) &&& 31))) (r + 1) := by
  obtain ⟨h1, h2, h3, h4, h5⟩ := H
  have o := sm_orB s (show h r < 32 by omega)
  have up : sm_sub s (s ||| ((1 : Int32) <<< (nI (h r) &&& 31))) := fun i hi => (o i).2 (Or.inl hi)
  refine ⟨fun i hi => up i (h1 i hi), fun i hi => ?_, fun i hi => ?_, fun e q hq hEq hpq => ?_, fun hcl => ?_⟩
  · rcases (o i).1 hi with z | z
    · exact h2 i z
    · rw [z]
      exact sm_L_cl E h p r hE (fun j hj => h2 j (hp j hj))
  · rcases (o i).1 hi with z | z
    · exact h3 i z
    · omega
  · have e' : s = s0 := sm_same (fun i => ⟨fun z => by rw [← e]; exact up i z, h1 i⟩)
    by_cases z : q = r
    · subst z
      rw [← e]
      exact (o _).2 (Or.inr rfl)
    · exact h4 e' q (by omega) hEq hpq
  · have e := h5 hcl
    subst e
    apply sm_same
    intro i
    refine ⟨fun z => ?_, fun z => up i z⟩
    rcases (o i).1 z with z | z
    · exact z
    · rw [z]
      exact hcl r hE hp
theorem sm_I_R {E : Nat → Prop} {h : Nat → Nat} {p : Nat → Int32} {c : Nat} {s0 s : Int32} {j R : Nat} (H0 : sm_O E h p c s0 j) (H : sm_I E h p c s0 s R) (hR : ∀ r, E r → r < R) : sm_O E h p c s (j + 1) := by
  obtain ⟨h1, h2, h3, h4, h5⟩ := H
  refine ⟨h2, h3, ?_⟩
  by_cases e : s = s0
  · refine Or.inl (fun r hE hp => ?_)
    have t := h4 e r (hR r hE) hE (fun i hi => by rw [← e]; exact hp i hi)
    rw [e]
    exact t
  · refine Or.inr ?_
    have t := sm_c_ne h1 h3 e
    rcases H0.2.2 with z | z
    · exact (e (h5 z)).elim
    · omega
theorem sm_O_c {E : Nat → Prop} {h : Nat → Nat} {p : Nat → Int32} {c : Nat} {s : Int32} (H : sm_O E h p c s c) (hh : ∀ r, E r → h r < c) (i : Nat) : bt s i = true ↔ sm_L E h p i := by
  obtain ⟨h1, h2, h3⟩ := H
  refine ⟨h1 i, fun z => ?_⟩
  refine z (fun i => bt s i = true) ?_
  rcases h3 with y | y
  · exact y
  · intro r hE _
    exact sm_c_full y _ (hh r hE)
/-! ===== stable sets ===== -/
def sm_h (a2 : Nat → Int32) (r : Nat) : Nat := (a2 r).toNatClampNeg
def sm_E (pr : Int32) (a1 a2 a4 : Nat → Int32) (m : Int32) (r : Nat) : Prop := r < 10 ∧ bt pr r = true ∧ a1 r ≠ 2 ∧ sm_dj (a4 r) m ∧ (a1 r = 0 ∨ bt m (sm_h a2 r) = true)
def sm_St (pr : Int32) (a1 a2 a3 a4 : Nat → Int32) (m : Int32) : Prop :=
  (∀ i, bt m i = true ↔ sm_L (sm_E pr a1 a2 a4 m) (sm_h a2) a3 i) ∧ ∀ r, r < 10 → bt pr r = true → a1 r = 2 → sm_sub (a3 r) m → sm_dj (a4 r) m → False
/-- the arrays hold heads below six and sets of six bits -/
def sm_W (a2 a3 a4 : Nat → Int32) : Prop := ∀ r, r < 10 → (a2 r = nI (sm_h a2 r) ∧ sm_h a2 r < 6) ∧ sm_b6 (a3 r) ∧ sm_b6 (a4 r)
def sm_cons (m i o : Int32) : Prop := sm_sub i m ∧ sm_dj o m
/-- a rule that may still bring its head in -/
def sm_F (pr : Int32) (a1 a2 a3 a4 : Nat → Int32) (i o : Int32) (r : Nat) : Prop := r < 10 ∧ bt pr r = true ∧ a1 r ≠ 2 ∧ (sm_dj (a3 r) o ∧ sm_dj (a4 r) i) ∧ bt o (sm_h a2 r) = false
theorem sm_St_b {pr : Int32} {a1 a2 a3 a4 : Nat → Int32} {m : Int32} (w : sm_W a2 a3 a4) (H : sm_St pr a1 a2 a3 a4 m) : sm_b6 m := by
  intro i hi
  exact (H.1 i).1 hi (fun j => j < 6) (fun r hr _ => (w r hr.1).1.2)
theorem sm_St_cl {pr : Int32} {a1 a2 a3 a4 : Nat → Int32} {m : Int32} (H : sm_St pr a1 a2 a3 a4 m) {r : Nat} (hE : sm_E pr a1 a2 a4 m r) (hp : sm_sub (a3 r) m) : bt m (sm_h a2 r) = true :=
  (H.1 _).2 (sm_L_cl _ _ _ r hE (fun i hi => (H.1 i).1 (hp i hi)))
theorem sm_St_sup {pr : Int32} {a1 a2 a3 a4 : Nat → Int32} {m : Int32} (H : sm_St pr a1 a2 a3 a4 m) {a : Nat} (ha : bt m a = true) : ∃ r, r < 10 ∧ bt pr r = true ∧ a1 r ≠ 2 ∧ sm_h a2 r = a ∧ sm_sub (a3 r) m ∧ sm_dj (a4 r) m := by
  obtain ⟨r, hE, e, hp⟩ := sm_L_inv ((H.1 a).1 ha)
  exact ⟨r, hE.1, hE.2.1, hE.2.2.1, e, fun j hj => (H.1 j).2 (hp j hj), hE.2.2.2.1⟩
theorem sm_St_F {pr : Int32} {a1 a2 a3 a4 : Nat → Int32} {m i o : Int32} (H : sm_St pr a1 a2 a3 a4 m) (hc : sm_cons m i o) {a : Nat} (ha : bt m a = true) : sm_L (sm_F pr a1 a2 a3 a4 i o) (sm_h a2) a3 a := by
  have t := (H.1 a).1 ha (fun j => sm_L (sm_F pr a1 a2 a3 a4 i o) (sm_h a2) a3 j ∧ bt m j = true) (by
    intro r hE hp
    have hm : bt m (sm_h a2 r) = true := sm_St_cl H hE (fun j hj => (hp j hj).2)
    refine ⟨sm_L_cl _ _ _ r ⟨hE.1, hE.2.1, hE.2.2.1, ⟨fun j hj ho => hc.2 j ho (hp j hj).2, fun j hj hi => hE.2.2.2.1 j hj (hc.1 j hi)⟩, ?_⟩ (fun j hj => (hp j hj).1), hm⟩
    exact sm_nf (fun z => hc.2 _ z hm))
  exact t.1
/-- nothing more follows at (i, o) -/
def sm_Fw (pr : Int32) (a1 a2 a3 a4 : Nat → Int32) (i o : Int32) (r : Nat) : Prop := bt pr r = true → sm_sub (a3 r) i → sm_sub (a4 r) o → (a1 r = 0 → bt i (sm_h a2 r) = true) ∧ a1 r ≠ 2
def sm_Leaf (pr : Int32) (a1 a2 a3 a4 : Nat → Int32) (i o : Int32) : Prop := (∀ r, r < 10 → sm_Fw pr a1 a2 a3 a4 i o r) ∧ ∀ j, j < 6 → bt o j = true ∨ sm_L (sm_F pr a1 a2 a3 a4 i o) (sm_h a2) a3 j
theorem sm_leaf {pr : Int32} {a1 a2 a3 a4 : Nat → Int32} {i o : Int32} (w : sm_W a2 a3 a4) (hi : sm_b6 i) (hd : sm_dj i o) (ht : ∀ j, j < 6 → bt i j = true ∨ bt o j = true) (H : sm_Leaf pr a1 a2 a3 a4 i o) : sm_St pr a1 a2 a3 a4 i := by
  have ho : ∀ x, sm_b6 x → sm_dj x i → sm_sub x o := by
    intro x hx hxi j hj
    rcases ht j (hx j hj) with z | z
    · exact (hxi j hj z).elim
    · exact z
  refine ⟨fun a => ⟨fun ha => ?_, fun ha => ?_⟩, fun r hr hpr hk hp hn => ?_⟩
  · have hF : sm_L (sm_F pr a1 a2 a3 a4 i o) (sm_h a2) a3 a := by
      rcases H.2 a (hi a ha) with z | z
      · exact (hd a ha z).elim
      · exact z
    apply hF
    intro r hr hp
    obtain ⟨r1, r2, r3, r4, r5⟩ := hr
    refine sm_L_cl _ _ _ r ⟨r1, r2, r3, r4.2, ?_⟩ hp
    rcases ht _ (w r r1).1.2 with z | z
    · exact Or.inr z
    · exact absurd z (sm_ft r5)
  · refine ha (fun j => bt i j = true) ?_
    intro r hr hp
    obtain ⟨r1, r2, r3, r4, r5⟩ := hr
    rcases r5 with z | z
    · exact ((H.1 r r1) r2 hp (ho _ (w r r1).2.2 r4)).1 z
    · exact z
  · exact ((H.1 r hr) hpr hp (ho _ (w r hr).2.2 hn)).2 hk
end
section
/-! ===== sound steps on (in, out, broken, moved) ===== -/
def sm_K (i o b v : Int32) : Prop := sm_b6 i ∧ sm_b6 o ∧ (b = 0 ∨ b = 1) ∧ (v = 0 ∨ v = 1)
def sm_R (Q : Int32 → Prop) (i0 o0 b0 v0 i o b v : Int32) : Prop :=
  sm_K i o b v ∧ sm_sub i0 i ∧ sm_sub o0 o ∧ (b = 0 → b0 = 0) ∧ (v = 0 → v0 = 0 ∧ i = i0 ∧ o = o0) ∧ (v0 = 0 → v = 1 → sm_c i0 6 + sm_c o0 6 < sm_c i 6 + sm_c o 6) ∧ ∀ m, Q m → sm_cons m i0 o0 → sm_cons m i o ∧ (b0 = 0 → b = 0)
theorem sm_R_r {Q : Int32 → Prop} {i o b v : Int32} (k : sm_K i o b v) : sm_R Q i o b v i o b v :=
  ⟨k, fun _ h => h, fun _ h => h, fun h => h, fun h => ⟨h, rfl, rfl⟩, fun h h' => by rw [h] at h'; exact absurd h' (by decide), fun _ _ h => ⟨h, fun z => z⟩⟩
theorem sm_R_b {Q : Int32 → Prop} {i o b v : Int32} (k : sm_K i o b v) (hn : ∀ m, Q m → sm_cons m i o → False) : sm_R Q i o b v i o 1 v :=
  ⟨⟨k.1, k.2.1, Or.inr rfl, k.2.2.2⟩, fun _ h => h, fun _ h => h, fun h => absurd h (by decide), fun h => ⟨h, rfl, rfl⟩, fun h h' => by rw [h] at h'; exact absurd h' (by decide), fun m hm h => (hn m hm h).elim⟩
theorem sm_R_i {Q : Int32 → Prop} {i o b v x : Int32} (k : sm_K i o b v) (hx : sm_b6 x) (hs : ∀ m, Q m → sm_cons m i o → sm_sub x m) (hn : ¬ sm_sub x i) : sm_R Q i o b v (i ||| x) o b 1 := by
  have up : sm_sub i (i ||| x) := fun j h => (sm_orS i x j).2 (Or.inl h)
  have b6 : sm_b6 (i ||| x) := fun j h => by
    rcases (sm_orS i x j).1 h with z | z
    · exact k.1 j z
    · exact hx j z
  refine ⟨⟨b6, k.2.1, k.2.2.1, Or.inr rfl⟩, up, fun _ h => h, fun h => h, fun h => absurd h (by decide), fun _ _ => ?_, fun m hm h => ⟨⟨fun j hj => ?_, h.2⟩, fun z => z⟩⟩
  · have t := sm_c_ne up b6 (fun e => hn (fun j hj => by rw [← e]; exact (sm_orS i x j).2 (Or.inr hj)))
    omega
  · rcases (sm_orS i x j).1 hj with z | z
    · exact h.1 j z
    · exact hs m hm h j z
theorem sm_R_o {Q : Int32 → Prop} {i o b v x : Int32} (k : sm_K i o b v) (hx : sm_b6 x) (hs : ∀ m, Q m → sm_cons m i o → sm_dj x m) (hn : ¬ sm_sub x o) : sm_R Q i o b v i (o ||| x) b 1 := by
  have up : sm_sub o (o ||| x) := fun j h => (sm_orS o x j).2 (Or.inl h)
  have b6 : sm_b6 (o ||| x) := fun j h => by
    rcases (sm_orS o x j).1 h with z | z
    · exact k.2.1 j z
    · exact hx j z
  refine ⟨⟨k.1, b6, k.2.2.1, Or.inr rfl⟩, fun _ h => h, up, fun h => h, fun h => absurd h (by decide), fun _ _ => ?_, fun m hm h => ⟨⟨h.1, fun j hj => ?_⟩, fun z => z⟩⟩
  · have t := sm_c_ne up b6 (fun e => hn (fun j hj => by rw [← e]; exact (sm_orS o x j).2 (Or.inr hj)))
    omega
  · rcases (sm_orS o x j).1 hj with z | z
    · exact h.2 j z
    · exact hs m hm h j z
theorem sm_R_t {Q : Int32 → Prop} {i0 o0 b0 v0 i1 o1 b1 v1 i2 o2 b2 v2 : Int32} (h : sm_R Q i0 o0 b0 v0 i1 o1 b1 v1) (h' : sm_R Q i1 o1 b1 v1 i2 o2 b2 v2) : sm_R Q i0 o0 b0 v0 i2 o2 b2 v2 := by
  obtain ⟨k1, p1, p2, p3, p4, p5, p6⟩ := h
  obtain ⟨k2, q1, q2, q3, q4, q5, q6⟩ := h'
  refine ⟨k2, fun j z => q1 j (p1 j z), fun j z => q2 j (p2 j z), fun z => p3 (q3 z), fun z => ?_, fun z z' => ?_, fun m hm z => ?_⟩
  · obtain ⟨e1, e2, e3⟩ := q4 z
    obtain ⟨f1, f2, f3⟩ := p4 e1
    exact ⟨f1, e2.trans f2, e3.trans f3⟩
  · rcases k1.2.2.2 with y | y
    · obtain ⟨f1, f2, f3⟩ := p4 y
      have t := q5 y z'
      rw [f2, f3] at t
      exact t
    · have t := p5 z y
      have t1 := sm_c_mono q1 6
      have t2 := sm_c_mono q2 6
      omega
  · obtain ⟨e1, e2⟩ := p6 m hm z
    obtain ⟨f1, f2⟩ := q6 m hm e1
    exact ⟨f1, fun y => f2 (e2 y)⟩
theorem sm_cdj {m i o : Int32} (h : sm_cons m i o) : sm_dj i o := fun j hi ho => h.2 j ho (h.1 j hi)
/-! ===== small methods ===== -/
theorem sm_bo {b : Int32} (h : b = 0 ∨ b = 1) : b ||| 0 = b ∧ b ||| 1 = 1 ∧ narrow .boolean (.int b) = .int b ∧ fits .boolean (.int b) = true := by
  rcases h with e | e
  · subst e
    exact ⟨by decide +kernel, by decide +kernel, rfl, rfl⟩
  · subst e
    exact ⟨by decide +kernel, by decide +kernel, rfl, rfl⟩
section
variable {pr i o b v kn : Int32} {ms : Int64} {a1 a2 a3 a4 a5 a6 a7 a8 : Nat → Int32} {q : Nat}
theorem sm_ntst {x : Int32} {h : Nat} (hh : h < 32) (z : ¬ ((x >>> (nI h &&& 31)) &&& 1) = 0) : bt x h = true := by
  cases e : bt x h
  · exact (z ((sm_tst x hh).2 e)).elim
  · rfl
theorem sm_has {post : Int32 → Prop} (hq : q < 10) (h1 : bt pr q = true → post 1) (h0 : bt pr q = false → post 0) : wpX_has post (pr, i, o, b, v, kn, ms, a1, a2, a3, a4, a5, a6, a7, a8) (nI q) :=
  br_f (nI_pos (by omega)) (br_f (nI_ge (b := 10) hq (by omega)) (br_c (fun e => h0 ((sm_tst pr (by omega)).1 e)) (fun e => h1 (sm_ntst (by omega) e))))
theorem sm_bh {post : Int32 → Prop} (hq : q < 10) (h1 : sm_sub (a3 q) i → sm_sub (a4 q) o → post 1) (h0 : ¬ (sm_sub (a3 q) i ∧ sm_sub (a4 q) o) → post 0) : wpX_bodyHolds post (pr, i, o, b, v, kn, ms, a1, a2, a3, a4, a5, a6, a7, a8) (nI q) := by
  unfold wpX_bodyHolds
  dsimp only
  rw [nI_clamp (by omega)]
  exact ⟨pk_in q 10 hq, br_c (fun e => ⟨pk_in q 10 hq, br_c (fun e' => h1 (sm_sub0.1 e) (sm_sub0.1 e')) (fun e' => h0 (fun t => e' (sm_sub0.2 t.2)))⟩) (fun e => h0 (fun t => e (sm_sub0.2 t.1)))⟩
theorem sm_bf {post : Int32 → Prop} (hq : q < 10) (h1 : ¬ (sm_dj (a3 q) o ∧ sm_dj (a4 q) i) → post 1) (h0 : sm_dj (a3 q) o → sm_dj (a4 q) i → post 0) : wpX_bodyFails post (pr, i, o, b, v, kn, ms, a1, a2, a3, a4, a5, a6, a7, a8) (nI q) := by
  unfold wpX_bodyFails
  dsimp only
  rw [nI_clamp (by omega)]
  exact ⟨pk_in q 10 hq, br_c (fun e => ⟨pk_in q 10 hq, br_c (fun e' => h0 (sm_and0.1 e) (sm_and0.1 e')) (fun e' => h1 (fun t => e' (sm_and0.2 t.2)))⟩) (fun e => h1 (fun t => e (sm_and0.2 t.1)))⟩
theorem sm_ones {post : Int32 → Prop} {x : Int32} (H : post (nI (sm_c x 6))) : wpX_ones post () x :=
  pk_loop (σ := Unit) (fun n j _ => wX_ones_4 post x n (nI (sm_c x j)) (nI j)) (fun _ _ => True) 6 0 () (by omega) trivial
    (fun n _ _ => pk_le 6 6 (fun _ => H) (fun z => absurd z (by omega)))
    (fun n j _ hj _ hw => pk_le 6 j (fun z => absurd z (by omega)) (fun _ => nm_r (by rw [sm_val x (by omega), nI_add]; rfl) (nm_r (nI_1 j) (hw () trivial))))
theorem sm_pi26 {post : St1 → Prop} (hb : b = 0 ∨ b = 1) (h0 : sm_dj i o → post (pr, i, o, b, v, kn, ms, a1, a2, a3, a4, a5, a6, a7, a8)) (h1 : ¬ sm_dj i o → post (pr, i, o, 1, v, kn, ms, a1, a2, a3, a4, a5, a6, a7, a8)) : wX_putIn_26 post pr i o b v kn ms a1 a2 a3 a4 a5 a6 a7 a8 :=
  br_c (fun e => nm_r (sm_bo hb).1 ⟨(sm_bo hb).2.2.1, (sm_bo hb).2.2.2, h0 (sm_and0.1 e)⟩) (fun e => nm_r (sm_bo hb).2.1 ⟨rfl, rfl, h1 (fun t => e (sm_and0.2 t))⟩)
theorem sm_po26 {post : St1 → Prop} (hb : b = 0 ∨ b = 1) (h0 : sm_dj i o → post (pr, i, o, b, v, kn, ms, a1, a2, a3, a4, a5, a6, a7, a8)) (h1 : ¬ sm_dj i o → post (pr, i, o, 1, v, kn, ms, a1, a2, a3, a4, a5, a6, a7, a8)) : wX_putOut_26 post pr i o b v kn ms a1 a2 a3 a4 a5 a6 a7 a8 :=
  br_c (fun e => nm_r (sm_bo hb).1 ⟨(sm_bo hb).2.2.1, (sm_bo hb).2.2.2, h0 (sm_and0.1 e)⟩) (fun e => nm_r (sm_bo hb).2.1 ⟨rfl, rfl, h1 (fun t => e (sm_and0.2 t))⟩)
theorem sm_putIn {post : St1 → Prop} {Q : Int32 → Prop} {x : Int32} (k : sm_K i o b v) (hx : sm_b6 x) (hs : ∀ m, Q m → sm_cons m i o → sm_sub x m)
    (H : ∀ i' b' v', sm_R Q i o b v i' o b' v' → sm_sub x i' → (b' = 0 → sm_dj i' o) → post (pr, i', o, b', v', kn, ms, a1, a2, a3, a4, a5, a6, a7, a8)) : wpX_putIn post (pr, i, o, b, v, kn, ms, a1, a2, a3, a4, a5, a6, a7, a8) x := by
  refine br_c (fun e => ?_) (fun e => nm_e ?_)
  · have hxi : sm_sub x i := sm_sub0.1 e
    exact sm_pi26 k.2.2.1 (fun d => H i b v (sm_R_r k) hxi (fun _ => d)) (fun d => H i 1 v (sm_R_b k (fun m _ hc => d (sm_cdj hc))) hxi (fun z => absurd z (by decide)))
  · have hn : ¬ sm_sub x i := fun t => e (sm_sub0.2 t)
    have r1 : sm_R Q i o b v (i ||| x) o b 1 := sm_R_i k hx hs hn
    have hxi : sm_sub x (i ||| x) := fun j h => (sm_orS i x j).2 (Or.inr h)
    exact sm_pi26 k.2.2.1 (fun d => H _ b 1 r1 hxi (fun _ => d)) (fun d => H _ 1 1 (sm_R_t r1 (sm_R_b r1.1 (fun m _ hc => d (sm_cdj hc)))) hxi (fun z => absurd z (by decide)))
theorem sm_putOut {post : St1 → Prop} {Q : Int32 → Prop} {x : Int32} (k : sm_K i o b v) (hx : sm_b6 x) (hs : ∀ m, Q m → sm_cons m i o → sm_dj x m)
    (H : ∀ o' b' v', sm_R Q i o b v i o' b' v' → sm_sub x o' → (b' = 0 → sm_dj i o') → post (pr, i, o', b', v', kn, ms, a1, a2, a3, a4, a5, a6, a7, a8)) : wpX_putOut post (pr, i, o, b, v, kn, ms, a1, a2, a3, a4, a5, a6, a7, a8) x := by
  refine br_c (fun e => ?_) (fun e => nm_e ?_)
  · have hxi : sm_sub x o := sm_sub0.1 e
    exact sm_po26 k.2.2.1 (fun d => H o b v (sm_R_r k) hxi (fun _ => d)) (fun d => H o 1 v (sm_R_b k (fun m _ hc => d (sm_cdj hc))) hxi (fun z => absurd z (by decide)))
  · have hn : ¬ sm_sub x o := fun t => e (sm_sub0.2 t)
    have r1 : sm_R Q i o b v i (o ||| x) b 1 := sm_R_o k hx hs hn
    have hxi : sm_sub x (o ||| x) := fun j h => (sm_orS o x j).2 (Or.inr h)
    exact sm_po26 k.2.2.1 (fun d => H _ b 1 r1 hxi (fun _ => d)) (fun d => H _ 1 1 (sm_R_t r1 (sm_R_b r1.1 (fun m _ hc => d (sm_cdj hc)))) hxi (fun z => absurd z (by decide)))
end
end
section
/-! ===== forward ===== -/
theorem sm_dif {x y : Int32} {j : Nat} : bt (x &&& (y ^^^ (-1))) j = true ↔ bt x j = true ∧ bt y j = false := by
  rw [b_and, Bool.and_eq_true]
  constructor
  · intro h
    have hj := sm_lt32 h.1
    rw [sm_not y hj] at h
    refine ⟨h.1, ?_⟩
    cases e : bt y j
    · rfl
    · rw [e] at h
      exact absurd h.2 (by decide)
  · intro h
    have hj := sm_lt32 h.1
    rw [sm_not y hj, h.2]
    exact ⟨h.1, rfl⟩
theorem sm_c1' : ∀ n, n < 64 → ∀ j, j < 6 → ∀ t, t < 6 → (sm_c (nI n) 6 ≤ 1 ∧ bt (nI n) j = true ∧ bt (nI n) t = true) → t = j := by decide +kernel
theorem sm_c1 {x : Int32} (h : sm_b6 x) (hc : sm_c x 6 ≤ 1) {j t : Nat} (hj : bt x j = true) (ht : bt x t = true) : t = j := by
  obtain ⟨n, hn, e⟩ := sm_nat h
  have h1 := h j hj
  have h2 := h t ht
  subst e
  exact sm_c1' n hn j h1 t h2 ⟨hc, hj, ht⟩
theorem sm_c0 {x : Int32} (h : sm_b6 x) {j : Nat} (hj : bt x j = true) : 0 < sm_c x 6 := by
  have t : sm_c 0 6 < sm_c x 6 := sm_c_lt (fun i hi => absurd hi (sm_b0 i)) (h j hj) hj (b_0 j)
  omega
section
variable {pr i o b v kn : Int32} {ms : Int64} {a1 a2 a3 a4 a5 a6 a7 a8 : Nat → Int32} {q : Nat}
theorem sm_f29 {post : St1 → Prop} (hq : q < 10) (hb : b = 0 ∨ b = 1) (h2 : a1 q = 2 → post (pr, i, o, 1, v, kn, ms, a1, a2, a3, a4, a5, a6, a7, a8)) (h0 : ¬ a1 q = 2 → post (pr, i, o, b, v, kn, ms, a1, a2, a3, a4, a5, a6, a7, a8)) : wX_forward_29 post (nI q) pr i o b v kn ms a1 a2 a3 a4 a5 a6 a7 a8 := by
  unfold wX_forward_29
  rw [nI_clamp (by omega)]
  exact ⟨pk_in q 10 hq, br_c (fun e => nm_r (sm_bo hb).2.1 ⟨rfl, rfl, h2 e⟩) (fun e => nm_r (sm_bo hb).1 ⟨(sm_bo hb).2.2.1, (sm_bo hb).2.2.2, h0 e⟩)⟩
theorem sm_f94 {post : St1 → Prop} {z0 : Int32} (w : sm_W a2 a3 a4) (hq : q < 10) (k : sm_K i o b v)
    (hz : z0 = 0 ∨ ∀ m, sm_St pr a1 a2 a3 a4 m → sm_cons m i o → sm_sub (a3 q) m → sm_dj (a4 q) m → False)
    (H : ∀ i' o' b' v', sm_R (sm_St pr a1 a2 a3 a4) i o b v i' o' b' v' → post (pr, i', o', b', v', kn, ms, a1, a2, a3, a4, a5, a6, a7, a8)) : wX_forward_94 post (nI q) z0 pr i o b v kn ms a1 a2 a3 a4 a5 a6 a7 a8 := by
  unfold wX_forward_94
  rw [nI_clamp (by omega)]
  refine ⟨pk_in q 10 hq, nm_e ⟨pk_in q 10 hq, nm_e ?_⟩⟩
  rcases hz with e | hu
  · exact br_t e (H i o b v (sm_R_r k))
  · obtain ⟨_, w3, w4⟩ := w q hq
    refine br_c (fun _ => H i o b v (sm_R_r k)) (fun _ => ?_)
    refine sm_bf hq (fun _ => br_f (by decide) (H i o b v (sm_R_r k))) (fun _ _ => br_t rfl ?_)
    have b3 : sm_b6 (a3 q &&& (i ^^^ (-1))) := fun j hj => w3 j (sm_dif.1 hj).1
    have b4 : sm_b6 (a4 q &&& (o ^^^ (-1))) := fun j hj => w4 j (sm_dif.1 hj).1
    have l3 := sm_c_le (a3 q &&& (i ^^^ (-1))) 6
    have l4 := sm_c_le (a4 q &&& (o ^^^ (-1))) 6
    refine sm_ones (sm_ones ?_)
    refine pk_eq (sm_c (a3 q &&& (i ^^^ (-1))) 6 + sm_c (a4 q &&& (o ^^^ (-1))) 6) 1 (fun e => ?_) (fun _ => H i o b v (sm_R_r k)) (nI_add _ _) rfl
    refine sm_putOut (Q := sm_St pr a1 a2 a3 a4) k b3 (fun m hm hc j hj hjm => ?_) (fun o1 b1 v1 r1 _ _ => ?_)
    · have c3 := sm_c0 b3 hj
      refine hu m hm hc (fun t ht => ?_) (fun t ht htm => ?_)
      · cases ei : bt i t
        · rw [sm_c1 b3 (by omega) hj (sm_dif.2 ⟨ht, ei⟩)]
          exact hjm
        · exact hc.1 t ei
      · cases eo : bt o t
        · have c4 := sm_c0 b4 (sm_dif.2 ⟨ht, eo⟩)
          omega
        · exact hc.2 t eo htm
    · refine sm_putIn (Q := sm_St pr a1 a2 a3 a4) r1.1 b4 (fun m hm hc' j hj => ?_) (fun i2 b2 v2 r2 _ _ => H _ _ _ _ (sm_R_t r1 r2))
      have hc : sm_cons m i o := ⟨hc'.1, fun t ht => hc'.2 t (r1.2.2.1 t ht)⟩
      have c4 := sm_c0 b4 hj
      cases em : bt m j
      · exfalso
        refine hu m hm hc (fun t ht => ?_) (fun t ht htm => ?_)
        · cases ei : bt i t
          · have c3 := sm_c0 b3 (sm_dif.2 ⟨ht, ei⟩)
            omega
          · exact hc.1 t ei
        · cases eo : bt o t
          · rw [sm_c1 b4 (by omega) hj (sm_dif.2 ⟨ht, eo⟩), em] at htm
            exact absurd htm (by decide)
          · exact hc.2 t eo htm
      · rfl
theorem sm_forward {post : St1 → Prop} (w : sm_W a2 a3 a4) (hq : q < 10) (hp : bt pr q = true) (k : sm_K i o b v)
    (H : ∀ i' o' b' v', sm_R (sm_St pr a1 a2 a3 a4) i o b v i' o' b' v' → (v' = 0 → b' = 0 → sm_Fw pr a1 a2 a3 a4 i o q) → post (pr, i', o', b', v', kn, ms, a1, a2, a3, a4, a5, a6, a7, a8)) : wpX_forward post (pr, i, o, b, v, kn, ms, a1, a2, a3, a4, a5, a6, a7, a8) (nI q) := by
  obtain ⟨⟨w1, w2⟩, w3, w4⟩ := w q hq
  have hun : (a1 q = 2 ∨ (a1 q = 0 ∧ bt o (sm_h a2 q) = true)) → ∀ m, sm_St pr a1 a2 a3 a4 m → sm_cons m i o → sm_sub (a3 q) m → sm_dj (a4 q) m → False := by
    intro h m hm hc s3 s4
    rcases h with e | ⟨e, e'⟩
    · exact hm.2 q hq hp e s3 s4
    · exact hc.2 _ e' (sm_St_cl hm ⟨hq, hp, by rw [e]; decide, s4, Or.inl e⟩ s3)
  unfold wpX_forward
  dsimp only
  rw [nI_clamp (by omega)]
  refine sm_bh hq (fun s3 s4 => br_f (by decide) ⟨pk_in q 10 hq, ?_⟩) (fun hn => br_t rfl ⟨pk_in q 10 hq, ?_⟩)
  · refine br_c (fun e0 => ⟨pk_in q 10 hq, ?_⟩) (fun e0 => ?_)
    · rw [w1]
      refine sm_putIn (Q := sm_St pr a1 a2 a3 a4) k (fun j hj => ?_) (fun m hm hc j hj => ?_) (fun i' b' v' r1 hx _ => ?_)
      · rw [sm_bit (by omega), decide_eq_true_iff] at hj
        omega
      · rw [sm_bit (by omega), decide_eq_true_iff] at hj
        rw [hj]
        exact sm_St_cl hm ⟨hq, hp, by rw [e0]; decide, fun t ht htm => hc.2 t (s4 t ht) htm, Or.inl e0⟩ (fun t ht => hc.1 t (s3 t ht))
      · refine sm_f29 hq r1.1.2.2.1 (fun e2 => absurd (e0.symm.trans e2) (by decide)) (fun e2 => H _ _ _ _ r1 (fun hv _ _ _ _ => ⟨fun _ => ?_, e2⟩))
        have ei := (r1.2.2.2.2.1 hv).2.1
        have t := hx (sm_h a2 q) (by rw [sm_bit (by omega)]; exact decide_eq_true rfl)
        rw [ei] at t
        exact t
    · exact sm_f29 hq k.2.2.1 (fun e2 => H i o 1 v (sm_R_b k (fun m hm hc => hm.2 q hq hp e2 (fun t ht => hc.1 t (s3 t ht)) (fun t ht htm => hc.2 t (s4 t ht) htm))) (fun _ z => absurd z (by decide)))
        (fun e2 => H i o b v (sm_R_r k) (fun _ _ _ _ _ => ⟨fun e => absurd e e0, e2⟩))
  · have H' : ∀ i' o' b' v', sm_R (sm_St pr a1 a2 a3 a4) i o b v i' o' b' v' → post (pr, i', o', b', v', kn, ms, a1, a2, a3, a4, a5, a6, a7, a8) := fun i' o' b' v' r => H i' o' b' v' r (fun _ _ _ t3 t4 => (hn ⟨t3, t4⟩).elim)
    refine br_c (fun e2 => sm_f94 (z0 := 1) w hq k (Or.inr (hun (Or.inl e2))) H') (fun e2 => ⟨pk_in q 10 hq, br_c (fun e0 => ⟨pk_in q 10 hq, ?_⟩) (fun e0 => sm_f94 (z0 := 0) w hq k (Or.inl rfl) H')⟩)
    rw [w1]
    exact br_c (fun z => sm_f94 (z0 := 0) w hq k (Or.inl rfl) H') (fun z => sm_f94 (z0 := 1) w hq k (Or.inr (hun (Or.inr ⟨e0, sm_ntst (by omega) z⟩))) H')
end
end
section
section
variable {pr i o b v kn : Int32} {ms : Int64} {a1 a2 a3 a4 a5 a6 a7 a8 : Nat → Int32} {q : Nat}
/-! ===== founded ===== -/
theorem sm_f12 {post : Int32 → Prop} {J4 : Int32 → Int32 → Prop} {s0 : Int32} {j : Nat} (w : sm_W a2 a3 a4) (h : sm_O (sm_F pr a1 a2 a3 a4 i o) (sm_h a2) a3 6 s0 j)
    (H : ∀ s, sm_O (sm_F pr a1 a2 a3 a4 i o) (sm_h a2) a3 6 s (j + 1) → J4 s (nI (j + 1))) : ∃ n, wX_founded_12 post J4 (nI j) pr i o b v kn ms a1 a2 a3 a4 a5 a6 a7 a8 n s0 0 := by
  refine pk_loop (σ := Int32) (fun n r s => wX_founded_12 post J4 (nI j) pr i o b v kn ms a1 a2 a3 a4 a5 a6 a7 a8 n s (nI r)) (fun r s => sm_I (sm_F pr a1 a2 a3 a4 i o) (sm_h a2) a3 6 s0 s r) 10 0 s0 (by omega) (sm_I_0 h)
    (fun n s hs => pk_le 10 10 (fun _ => nm_r (nI_1 j) (H s (sm_I_R h hs (fun r hr => hr.1)))) (fun z => absurd z (by omega))) ?_
  intro n r s hr hs hw
  show wX_founded_12 post J4 (nI j) pr i o b v kn ms a1 a2 a3 a4 a5 a6 a7 a8 (n + 1) s (nI r)
  obtain ⟨⟨w1, w2⟩, w3, w4⟩ := w r hr
  have hno : ¬ (sm_F pr a1 a2 a3 a4 i o r ∧ sm_sub (a3 r) s) → wX_founded_64 post J4 (wX_founded_12 post J4 (nI j) pr i o b v kn ms a1 a2 a3 a4 a5 a6 a7 a8 n) s (nI j) (nI r) pr i o b v kn ms a1 a2 a3 a4 a5 a6 a7 a8 :=
    fun hn => br_t rfl (nm_r (nI_1 r) (hw s (sm_I_no hs hn)))
  refine pk_le 10 r (fun z => absurd z (by omega)) (fun _ => sm_has hr (fun hp => br_f (by decide) ⟨pk_in r 10 hr, ?_⟩) (fun hp => br_t rfl (hno (fun t => absurd t.1.2.1 (sm_ft hp)))))
  rw [nI_clamp (show r < 2 ^ 31 by omega)]
  refine br_c (fun e2 => hno (fun t => t.1.2.2.1 e2)) (fun e2 => sm_bf hr (fun hf => br_f (by decide) (hno (fun t => hf t.1.2.2.2.1))) (fun f1 f2 => br_t rfl ⟨pk_in r 10 hr, ?_⟩))
  rw [w1]
  refine br_c (fun e => ?_) (fun e => hno (fun t => absurd (sm_ntst (by omega) e) (sm_ft t.1.2.2.2.2)))
  have hF : sm_F pr a1 a2 a3 a4 i o r := ⟨hr, hp, e2, ⟨f1, f2⟩, (sm_tst o (by omega)).1 e⟩
  unfold wX_founded_65
  rw [nI_clamp (show r < 2 ^ 31 by omega)]
  refine br_f (by decide) ⟨pk_in r 10 hr, br_c (fun e' => ⟨pk_in r 10 hr, ?_⟩) (fun e' => nm_r (nI_1 r) (hw s (sm_I_no hs (fun t => e' (sm_sub0.2 t.2)))))⟩
  rw [w1]
  exact nm_e (nm_r (nI_1 r) (hw _ (sm_I_yes hs hF (sm_sub0.1 e') w2 (by omega))))
theorem sm_founded {post : Int32 → Prop} (w : sm_W a2 a3 a4) (H : ∀ f, (∀ j, bt f j = true ↔ sm_L (sm_F pr a1 a2 a3 a4 i o) (sm_h a2) a3 j) → post f) : wpX_founded post (pr, i, o, b, v, kn, ms, a1, a2, a3, a4, a5, a6, a7, a8) :=
  pk_loop (σ := Int32) (fun n j s => wX_founded_4 post pr i o b v kn ms a1 a2 a3 a4 a5 a6 a7 a8 n s (nI j)) (fun j s => sm_O (sm_F pr a1 a2 a3 a4 i o) (sm_h a2) a3 6 s j) 6 0 0 (by omega) (sm_O_0 _ _ _ _)
    (fun n s h => pk_le 6 6 (fun _ => H s (sm_O_c h (fun r hr => (w r hr.1).1.2))) (fun z => absurd z (by omega)))
    (fun n j s hj h hw => pk_le 6 j (fun z => absurd z (by omega)) (fun _ => sm_f12 w h (fun s' h' => hw s' h')))
/-! ===== backward ===== -/
def sm_P (pr : Int32) (a1 a2 a3 a4 : Nat → Int32) (i o : Int32) (a r : Nat) : Prop := bt pr r = true ∧ a1 r ≠ 2 ∧ sm_h a2 r = a ∧ sm_dj (a3 r) o ∧ sm_dj (a4 r) i
def sm_Pi (pr : Int32) (a1 a2 a3 a4 : Nat → Int32) (i o : Int32) (a r : Nat) (s : Int32 × Nat) : Prop :=
  s.2 ≤ r ∧ (s.2 = 0 → ∀ q, q < r → ¬ sm_P pr a1 a2 a3 a4 i o a q) ∧ (s.2 = 1 → ∃ t, t < r ∧ s.1 = nI t ∧ ∀ q, q < r → sm_P pr a1 a2 a3 a4 i o a q → q = t)
theorem sm_Pi_no {a r : Nat} {s : Int32 × Nat} (h : sm_Pi pr a1 a2 a3 a4 i o a r s) (hn : ¬ sm_P pr a1 a2 a3 a4 i o a r) : sm_Pi pr a1 a2 a3 a4 i o a (r + 1) s := by
  obtain ⟨h1, h2, h3⟩ := h
  refine ⟨by omega, fun z q hq => ?_, fun z => ?_⟩
  · by_cases e : q = r
    · rw [e]
      exact hn
    · exact h2 z q (by omega)
  · obtain ⟨t, t1, t2, t3⟩ := h3 z
    refine ⟨t, by omega, t2, fun q hq hP => ?_⟩
    by_cases e : q = r
    · rw [e] at hP
      exact (hn hP).elim
    · exact t3 q (by omega) hP
theorem sm_Pi_yes {a r : Nat} {s : Int32 × Nat} (h : sm_Pi pr a1 a2 a3 a4 i o a r s) : sm_Pi pr a1 a2 a3 a4 i o a (r + 1) (nI r, s.2 + 1) := by
  obtain ⟨h1, h2, h3⟩ := h
  refine ⟨Nat.succ_le_succ h1, fun z => absurd z (Nat.succ_ne_zero _), fun z => ⟨r, by omega, rfl, fun q hq hP => ?_⟩⟩
  by_cases e : q = r
  · exact e
  · exact (h2 (Nat.succ.inj z) q (by omega) hP).elim
theorem sm_Psup {m : Int32} {a : Nat} (hm : sm_St pr a1 a2 a3 a4 m) (hc : sm_cons m i o) (ha : bt i a = true) : ∃ r, r < 10 ∧ sm_P pr a1 a2 a3 a4 i o a r ∧ sm_sub (a3 r) m ∧ sm_dj (a4 r) m := by
  obtain ⟨r, r1, r2, r3, r4, r5, r6⟩ := sm_St_sup hm (hc.1 a ha)
  exact ⟨r, r1, ⟨r2, r3, r4, fun j hj ho => hc.2 j ho (r5 j hj), fun j hj hi => r6 j hj (hc.1 j hi)⟩, r5, r6⟩
theorem sm_backward {post : St1 → Prop} {a : Nat} (w : sm_W a2 a3 a4) (ha : a < 6) (k : sm_K i o b v)
    (H : ∀ i' o' b' v', sm_R (sm_St pr a1 a2 a3 a4) i o b v i' o' b' v' → post (pr, i', o', b', v', kn, ms, a1, a2, a3, a4, a5, a6, a7, a8)) : wpX_backward post (pr, i, o, b, v, kn, ms, a1, a2, a3, a4, a5, a6, a7, a8) (nI a) := by
  refine br_c (fun _ => H i o b v (sm_R_r k)) (fun z => ?_)
  have hai : bt i a = true := sm_ntst (by omega) z
  refine pk_loop (σ := Int32 × Nat) (fun n r s => wX_backward_19 post (nI a) pr i o b v kn ms a1 a2 a3 a4 a5 a6 a7 a8 n s.1 (nI s.2) (nI r)) (fun r s => sm_Pi pr a1 a2 a3 a4 i o a r s) 10 0 (-1, 0) (by omega)
    ⟨Nat.le_refl 0, fun _ q hq => absurd hq (by omega), fun e => absurd e (by decide)⟩ ?_ ?_
  · intro n s hs
    obtain ⟨x, c⟩ := s
    obtain ⟨h1, h2, h3⟩ := hs
    dsimp only at h1 h2 h3
    show wX_backward_19 post (nI a) pr i o b v kn ms a1 a2 a3 a4 a5 a6 a7 a8 (n + 1) x (nI c) (nI 10)
    refine pk_le 10 10 (fun _ => ?_) (fun z => absurd z (by omega))
    refine pk_eq c 0 (fun e => ?_) (fun _ => pk_eq c 1 (fun e => ?_) (fun _ => H i o b v (sm_R_r k)))
    · refine H i o 1 v (sm_R_b k (fun m hm hc => ?_))
      obtain ⟨r, r1, r2, _⟩ := sm_Psup hm hc hai
      exact h2 e r r1 r2
    · obtain ⟨t, t1, t2, t3⟩ := h3 e
      subst t2
      obtain ⟨_, w3, w4⟩ := w t t1
      rw [nI_clamp (show t < 2 ^ 31 by omega)]
      have hsup : ∀ m, sm_St pr a1 a2 a3 a4 m → sm_cons m i o → sm_sub (a3 t) m ∧ sm_dj (a4 t) m := by
        intro m hm hc
        obtain ⟨r, r1, r2, r3, r4⟩ := sm_Psup hm hc hai
        rw [t3 r r1 r2] at r3 r4
        exact ⟨r3, r4⟩
      refine ⟨pk_in t 10 t1, sm_putIn (Q := sm_St pr a1 a2 a3 a4) k w3 (fun m hm hc => (hsup m hm hc).1) (fun i1 b1 v1 r1 _ _ => ⟨pk_in t 10 t1, ?_⟩)⟩
      refine sm_putOut (Q := sm_St pr a1 a2 a3 a4) r1.1 w4 (fun m hm hc => (hsup m hm ⟨fun j hj => hc.1 j (r1.2.1 j hj), hc.2⟩).2) (fun o2 b2 v2 r2 _ _ => H _ _ _ _ (sm_R_t r1 r2))
  · intro n r s hr hs hw
    obtain ⟨x, c⟩ := s
    show wX_backward_19 post (nI a) pr i o b v kn ms a1 a2 a3 a4 a5 a6 a7 a8 (n + 1) x (nI c) (nI r)
    obtain ⟨⟨w1, w2⟩, w3, w4⟩ := w r hr
    have hno : ¬ sm_P pr a1 a2 a3 a4 i o a r → wX_backward_19 post (nI a) pr i o b v kn ms a1 a2 a3 a4 a5 a6 a7 a8 n x (nI c) (nI (r + 1)) := fun hn => hw (x, c) (sm_Pi_no hs hn)
    refine pk_le 10 r (fun z => absurd z (by omega)) (fun _ => sm_has hr (fun hp => br_f (by decide) ⟨pk_in r 10 hr, ?_⟩) (fun hp => br_t rfl (nm_r (nI_1 r) (hno (fun t => absurd t.1 (sm_ft hp))))))
    rw [nI_clamp (show r < 2 ^ 31 by omega)]
    refine br_c (fun e2 => nm_r (nI_1 r) (hno (fun t => t.2.1 e2))) (fun e2 => ⟨pk_in r 10 hr, br_c (fun e => sm_bf hr (fun hf => br_f (by decide) (nm_r (nI_1 r) (hno (fun t => hf t.2.2.2)))) (fun f1 f2 => br_t rfl (nm_r (nI_1 c) (nm_r (nI_1 r) (hw (nI r, c + 1) (sm_Pi_yes hs)))))) (fun e => nm_r (nI_1 r) (hno (fun t => e ?_)))⟩)
    rw [w1, t.2.2.1]
/-! ===== one round ===== -/
theorem sm_c61 {post : St1 → Prop} {J7} {x1 : Int32} (w : sm_W a2 a3 a4) (k : sm_K i o b v)
    (H : ∀ i' o' b' v', sm_R (sm_St pr a1 a2 a3 a4) i o b v i' o' b' v' → (b' = 0 → sm_dj i' o') → (v' = 0 → ∀ j, j < 6 → bt o j = true ∨ sm_L (sm_F pr a1 a2 a3 a4 i o) (sm_h a2) a3 j) → J7 (x1 + 1) pr i' o' b' v' kn ms a1 a2 a3 a4 a5 a6 a7 a8) :
    ∃ n, wX_conclude_61 post J7 x1 n 0 pr i o b v kn ms a1 a2 a3 a4 a5 a6 a7 a8 := by
  refine pk_loop (σ := Int32 × Int32 × Int32 × Int32) (fun n a s => wX_conclude_61 post J7 x1 n (nI a) pr s.1 s.2.1 s.2.2.1 s.2.2.2 kn ms a1 a2 a3 a4 a5 a6 a7 a8) (fun a s => sm_R (sm_St pr a1 a2 a3 a4) i o b v s.1 s.2.1 s.2.2.1 s.2.2.2) 6 0 (i, o, b, v) (by omega) (sm_R_r k) ?_ ?_
  · intro n s hs
    obtain ⟨i1, o1, b1, v1⟩ := s
    dsimp only at hs
    show wX_conclude_61 post J7 x1 (n + 1) (nI 6) pr i1 o1 b1 v1 kn ms a1 a2 a3 a4 a5 a6 a7 a8
    refine pk_le 6 6 (fun _ => sm_founded w (fun f hf => nm_e ?_)) (fun z => absurd z (by omega))
    refine sm_putOut (Q := sm_St pr a1 a2 a3 a4) hs.1 (fun j hj => ?_) (fun m hm hc j hj hjm => ?_) (fun o2 b2 v2 r2 hx hd => nm_e (H _ _ _ _ (sm_R_t hs r2) hd (fun hv j hj => ?_)))
    · have t := (sm_dif.1 hj).1
      rw [sm_63, decide_eq_true_iff] at t
      exact t
    · have t := (hf j).2 (sm_St_F hm hc hjm)
      rw [(sm_dif.1 hj).2] at t
      exact absurd t (by decide)
    · obtain ⟨e1, _, e2⟩ := r2.2.2.2.2.1 hv
      obtain ⟨_, e3, e4⟩ := hs.2.2.2.2.1 e1
      cases ef : bt f j
      · refine Or.inl ?_
        have t := hx j (sm_dif.2 ⟨by rw [sm_63]; exact decide_eq_true hj, ef⟩)
        rw [e2, e4] at t
        exact t
      · refine Or.inr ?_
        have t := (hf j).1 ef
        rw [e3, e4] at t
        exact t
  · intro n a s ha hs hw
    obtain ⟨i1, o1, b1, v1⟩ := s
    dsimp only at hs
    show wX_conclude_61 post J7 x1 (n + 1) (nI a) pr i1 o1 b1 v1 kn ms a1 a2 a3 a4 a5 a6 a7 a8
    exact pk_le 6 a (fun z => absurd z (by omega)) (fun _ => sm_backward w ha hs.1 (fun i2 o2 b2 v2 r2 => nm_r (nI_1 a) (hw (i2, o2, b2, v2) (sm_R_t hs r2))))
theorem sm_c34 {post : St1 → Prop} {J7} {x1 : Int32} (w : sm_W a2 a3 a4) (k : sm_K i o b v)
    (H : ∀ i' o' b' v', sm_R (sm_St pr a1 a2 a3 a4) i o b v i' o' b' v' → (b' = 0 → sm_dj i' o') → (v' = 0 → b' = 0 → sm_Leaf pr a1 a2 a3 a4 i o) → J7 (x1 + 1) pr i' o' b' v' kn ms a1 a2 a3 a4 a5 a6 a7 a8) :
    ∃ n, wX_conclude_34 post J7 x1 n 0 pr i o b v kn ms a1 a2 a3 a4 a5 a6 a7 a8 := by
  refine pk_loop (σ := Int32 × Int32 × Int32 × Int32) (fun n r s => wX_conclude_34 post J7 x1 n (nI r) pr s.1 s.2.1 s.2.2.1 s.2.2.2 kn ms a1 a2 a3 a4 a5 a6 a7 a8)
    (fun r s => sm_R (sm_St pr a1 a2 a3 a4) i o b v s.1 s.2.1 s.2.2.1 s.2.2.2 ∧ (s.2.2.2 = 0 → s.2.2.1 = 0 → ∀ q, q < r → sm_Fw pr a1 a2 a3 a4 i o q)) 10 0 (i, o, b, v) (by omega) ⟨sm_R_r k, fun _ _ q hq => absurd hq (by omega)⟩ ?_ ?_
  · intro n s hs
    obtain ⟨i1, o1, b1, v1⟩ := s
    obtain ⟨h1, h2⟩ := hs
    dsimp only at h1 h2
    show wX_conclude_34 post J7 x1 (n + 1) (nI 10) pr i1 o1 b1 v1 kn ms a1 a2 a3 a4 a5 a6 a7 a8
    refine pk_le 10 10 (fun _ => sm_c61 w h1.1 (fun i2 o2 b2 v2 r2 hd hf => H _ _ _ _ (sm_R_t h1 r2) hd (fun hv hb => ?_))) (fun z => absurd z (by omega))
    obtain ⟨e1, _, _⟩ := r2.2.2.2.2.1 hv
    obtain ⟨_, e3, e4⟩ := h1.2.2.2.2.1 e1
    have t := hf hv
    rw [e3, e4] at t
    exact ⟨h2 e1 (r2.2.2.2.1 hb), t⟩
  · intro n r s hr hs hw
    obtain ⟨i1, o1, b1, v1⟩ := s
    obtain ⟨h1, h2⟩ := hs
    dsimp only at h1 h2
    show wX_conclude_34 post J7 x1 (n + 1) (nI r) pr i1 o1 b1 v1 kn ms a1 a2 a3 a4 a5 a6 a7 a8
    refine pk_le 10 r (fun z => absurd z (by omega)) (fun _ => sm_has hr (fun hp => br_f (by decide) (sm_forward w hr hp h1.1 (fun i2 o2 b2 v2 r2 hf => nm_r (nI_1 r) (hw (i2, o2, b2, v2) ⟨sm_R_t h1 r2, fun hv hb q hq => ?_⟩)))) (fun hp => br_t rfl (nm_r (nI_1 r) (hw (i1, o1, b1, v1) ⟨h1, fun hv hb q hq => ?_⟩))))
    · dsimp only at hv hb
      obtain ⟨e1, _, _⟩ := r2.2.2.2.2.1 hv
      obtain ⟨_, e3, e4⟩ := h1.2.2.2.2.1 e1
      by_cases e : q = r
      · have t := hf hv hb
        rw [e3, e4] at t
        rw [e]
        exact t
      · exact h2 e1 (r2.2.2.2.1 hb) q (by omega)
    · by_cases e : q = r
      · rw [e]
        intro z
        exact absurd z (sm_ft hp)
      · exact h2 hv hb q (by omega)
/-! ===== conclude ===== -/
def sm_Ci (pr : Int32) (a1 a2 a3 a4 : Nat → Int32) (i0 o0 : Int32) (k : Nat) (i o b v : Int32) : Prop :=
  sm_K i o b v ∧ sm_sub i0 i ∧ sm_sub o0 o ∧ (∀ m, sm_St pr a1 a2 a3 a4 m → sm_cons m i0 o0 → sm_cons m i o ∧ b = 0) ∧ (k = 0 → b = 0 ∧ v = 1) ∧ (0 < k → (b = 0 → sm_dj i o) ∧ (v = 0 → b = 0 → sm_Leaf pr a1 a2 a3 a4 i o)) ∧ (v = 1 → k ≤ sm_c i 6 + sm_c o 6)
/-- what conclude leaves -/
def sm_Co (pr : Int32) (a1 a2 a3 a4 : Nat → Int32) (i0 o0 : Int32) (i o b v : Int32) : Prop :=
  sm_K i o b v ∧ sm_sub i0 i ∧ sm_sub o0 o ∧ (∀ m, sm_St pr a1 a2 a3 a4 m → sm_cons m i0 o0 → sm_cons m i o ∧ b = 0) ∧ (b = 0 → sm_dj i o ∧ ((i ||| o) = 63 → sm_St pr a1 a2 a3 a4 i))
theorem sm_tot {i o : Int32} (h : (i ||| o) = 63) {j : Nat} (hj : j < 6) : bt i j = true ∨ bt o j = true := by
  rw [← sm_orS, h, sm_63]
  exact decide_eq_true hj
theorem sm_Ci_v {i0 o0 : Int32} {k : Nat} (w : sm_W a2 a3 a4) (h : sm_Ci pr a1 a2 a3 a4 i0 o0 k i o b v) (hv : v = 0) : sm_Co pr a1 a2 a3 a4 i0 o0 i o b v := by
  obtain ⟨h1, h2, h3, h4, h5, h6, h7⟩ := h
  refine ⟨h1, h2, h3, h4, fun hb => ?_⟩
  have hk : 0 < k := by
    rcases Nat.eq_zero_or_pos k with z | z
    · have t := (h5 z).2
      rw [hv] at t
      exact absurd t (by decide)
    · exact z
  obtain ⟨t1, t2⟩ := h6 hk
  exact ⟨t1 hb, fun ht => sm_leaf w h1.1 (t1 hb) (fun j hj => sm_tot ht hj) (t2 hv hb)⟩
theorem sm_conclude {post : St1 → Prop} (w : sm_W a2 a3 a4) (hi : sm_b6 i) (ho : sm_b6 o) (H : ∀ i' o' b' v', sm_Co pr a1 a2 a3 a4 i o i' o' b' v' → post (pr, i', o', b', v', kn, ms, a1, a2, a3, a4, a5, a6, a7, a8)) : wpX_conclude post (pr, i, o, 0, v, kn, ms, a1, a2, a3, a4, a5, a6, a7, a8) := by
  refine pk_loop (σ := Int32 × Int32 × Int32 × Int32) (fun n r s => wX_conclude_7 post n (nI r) pr s.1 s.2.1 s.2.2.1 s.2.2.2 kn ms a1 a2 a3 a4 a5 a6 a7 a8)
    (fun k s => sm_Ci pr a1 a2 a3 a4 i o k s.1 s.2.1 s.2.2.1 s.2.2.2) 14 0 (i, o, 0, 1) (by omega)
    ⟨⟨hi, ho, Or.inl rfl, Or.inr rfl⟩, fun _ h => h, fun _ h => h, fun m _ h => ⟨h, rfl⟩, fun _ => ⟨rfl, rfl⟩, fun z => absurd z (by omega), fun _ => Nat.zero_le _⟩ ?_ ?_
  · intro n s hs
    obtain ⟨i1, o1, b1, v1⟩ := s
    dsimp only at hs
    show wX_conclude_7 post (n + 1) (nI 14) pr i1 o1 b1 v1 kn ms a1 a2 a3 a4 a5 a6 a7 a8
    refine pk_le 14 14 (fun _ => H _ _ _ _ (sm_Ci_v w hs ?_)) (fun z => absurd z (by omega))
    rcases hs.1.2.2.2 with z | z
    · exact z
    · have t := hs.2.2.2.2.2.2 z
      have t1 := sm_c_le i1 6
      have t2 := sm_c_le o1 6
      omega
  · intro n k s hk hs hw
    obtain ⟨i1, o1, b1, v1⟩ := s
    dsimp only at hs
    show wX_conclude_7 post (n + 1) (nI k) pr i1 o1 b1 v1 kn ms a1 a2 a3 a4 a5 a6 a7 a8
    refine pk_le 14 k (fun z => absurd z (by omega)) (fun _ => br_c (fun hv => H _ _ _ _ (sm_Ci_v w hs hv)) (fun hv => br_c (fun hb => ?_) (fun hb => H _ _ _ _ ⟨hs.1, hs.2.1, hs.2.2.1, hs.2.2.2.1, fun z => absurd z hb⟩)))
    obtain ⟨h1, h2, h3, h4, h5, h6, h7⟩ := hs
    have hv1 : v1 = 1 := by
      rcases h1.2.2.2 with z | z
      · exact absurd z hv
      · exact z
    refine sm_c34 w (⟨h1.1, h1.2.1, h1.2.2.1, Or.inl rfl⟩ : sm_K i1 o1 b1 0) (fun i2 o2 b2 v2 r2 hd hl => ?_)
    rw [nI_1]
    obtain ⟨k2, p1, p2, p3, p4, p5, p6⟩ := r2
    refine hw (i2, o2, b2, v2) ⟨k2, fun j z => p1 j (h2 j z), fun j z => p2 j (h3 j z), fun m hm z => ?_, fun z => absurd z (by omega), fun _ => ⟨hd, fun hv' hb' => ?_⟩, fun hv' => ?_⟩
    · obtain ⟨t1, t2⟩ := h4 m hm z
      obtain ⟨t3, t4⟩ := p6 m hm t1
      exact ⟨t3, t4 t2⟩
    · obtain ⟨_, e1, e2⟩ := p4 hv'
      dsimp only
      rw [e1, e2]
      exact hl hv' hb'
    · have t := p5 rfl hv'
      have t2 := h7 hv1
      dsimp only
      omega
end
end
section
/-! ===== longs as sets of 64 ===== -/
def sm_B (x : Int64) (j : Nat) : Bool := x.toBitVec.getLsbD j
theorem sm_B1 : ∀ M, M < 64 → ((1 : Int64) <<< ((nI M).toInt64 &&& 63)).toBitVec = BitVec.twoPow 64 M := by decide +kernel
theorem sm_B0 (j : Nat) : sm_B 0 j = false := BitVec.getLsbD_zero
theorem sm_B_or {x : Int64} {M j : Nat} (hM : M < 64) : sm_B (x ||| ((1 : Int64) <<< ((nI M).toInt64 &&& 63))) j = true ↔ sm_B x j = true ∨ j = M := by
  unfold sm_B
  rw [Int64.toBitVec_or, BitVec.getLsbD_or, sm_B1 M hM, BitVec.getLsbD_twoPow, decide_eq_true hM, Bool.true_and, Bool.or_eq_true, decide_eq_true_iff]
  exact ⟨fun h => h.imp id Eq.symm, fun h => h.imp id Eq.symm⟩
/-! ===== the levels ===== -/
def sm_Sl (a5 a6 a7 a8 : Nat → Int32) (j : Nat) : Prop :=
  sm_b6 (a5 j) ∧ sm_b6 (a6 j) ∧ a7 j = nI (sm_h a7 j) ∧ sm_h a7 j < 6 ∧ bt (a5 j) (sm_h a7 j) = false ∧ bt (a6 j) (sm_h a7 j) = false ∧ (a8 j = 0 ∨ a8 j = 1 ∨ a8 j = 2) ∧ j ≤ sm_c (a5 j ||| a6 j) 6
def sm_wt (t : Int32) : Nat := if t = 0 then 2 else if t = 1 then 1 else 0
def sm_w (a8 : Nat → Int32) : Nat → Nat
  | 0 => 0
  | j + 1 => sm_w a8 j + sm_wt (a8 j) * (2 ^ (6 - j) - 1)
theorem sm_w_ext {a b : Nat → Int32} {l : Nat} (h : ∀ j, j < l → a j = b j) : sm_w a l = sm_w b l := by
  induction l with
  | zero => rfl
  | succ l ih =>
    show sm_w a l + sm_wt (a l) * (2 ^ (6 - l) - 1) = sm_w b l + sm_wt (b l) * (2 ^ (6 - l) - 1)
    rw [ih (fun j hj => h j (by omega)), h l (by omega)]
def sm_Pd (a5 a6 a7 a8 : Nat → Int32) (l : Nat) (m : Int32) : Prop := ∃ j, j < l ∧ sm_cons m (a5 j) (a6 j) ∧ (a8 j = 0 ∨ (a8 j = 1 ∧ bt m (sm_h a7 j) = true))
/-- the levels below l are still to be tried, k rounds are done -/
def sm_Q1 (Q : Int32 → Prop) (k l : Nat) (ms : Int64) (a5 a6 a7 a8 : Nat → Int32) : Prop :=
  l ≤ 6 ∧ (∀ j, j < l → sm_Sl a5 a6 a7 a8 j) ∧ (∀ M, M < 64 → sm_B ms M = true → Q (nI M)) ∧ (∀ M, M < 64 → Q (nI M) → sm_B ms M = true ∨ sm_Pd a5 a6 a7 a8 l (nI M)) ∧ k + 1 + sm_w a8 l ≤ 127
/-- .. and so is what is known at present -/
def sm_Q0 (Q : Int32 → Prop) (k l : Nat) (i o b v : Int32) (ms : Int64) (a5 a6 a7 a8 : Nat → Int32) : Prop :=
  sm_K i o b v ∧ l ≤ 6 ∧ (b = 0 → (i ||| o) = 63 → Q i) ∧ (b = 0 → l ≤ sm_c (i ||| o) 6) ∧ (∀ j, j < l → sm_Sl a5 a6 a7 a8 j) ∧ (∀ M, M < 64 → sm_B ms M = true → Q (nI M)) ∧ (∀ M, M < 64 → Q (nI M) → sm_B ms M = true ∨ (b = 0 ∧ sm_cons (nI M) i o) ∨ sm_Pd a5 a6 a7 a8 l (nI M)) ∧ k + (2 ^ (7 - l) - 1) + sm_w a8 l ≤ 127
theorem sm_pw {l : Nat} (h : l ≤ 6) : 2 ^ (7 - l) = 2 * 2 ^ (6 - l) ∧ 1 ≤ 2 ^ (6 - l) := by
  refine ⟨?_, Nat.one_le_two_pow⟩
  rw [show 7 - l = (6 - l) + 1 by omega, Nat.pow_succ, Nat.mul_comm]
/-- a leaf: broken -/
theorem sm_q_b {Q : Int32 → Prop} {k l : Nat} {i o b v : Int32} {ms : Int64} {a5 a6 a7 a8 : Nat → Int32} (h : sm_Q0 Q k l i o b v ms a5 a6 a7 a8) (hb : ¬ b = 0) : sm_Q1 Q k l ms a5 a6 a7 a8 := by
  obtain ⟨h1, h2, h3, h4, h5, h6, h7, h8⟩ := h
  have p := sm_pw h2
  refine ⟨h2, h5, h6, fun M hM hQ => ?_, by omega⟩
  rcases h7 M hM hQ with z | z | z
  · exact Or.inl z
  · exact absurd z.1 hb
  · exact Or.inr z
/-- a leaf: a model -/
theorem sm_q_m {Q : Int32 → Prop} {k l M : Nat} {i o b v : Int32} {ms : Int64} {a5 a6 a7 a8 : Nat → Int32} (h : sm_Q0 Q k l i o b v ms a5 a6 a7 a8) (hb : b = 0) (ht : (i ||| o) = 63) (hM : M < 64) (e : i = nI M) (hQ6 : ∀ m, Q m → sm_b6 m) : sm_Q1 Q k l (ms ||| ((1 : Int64) <<< ((nI M).toInt64 &&& 63))) a5 a6 a7 a8 := by
  obtain ⟨h1, h2, h3, h4, h5, h6, h7, h8⟩ := h
  have p := sm_pw h2
  refine ⟨h2, h5, fun N hN hB => ?_, fun N hN hQ => ?_, by omega⟩
  · rcases (sm_B_or hM).1 hB with z | z
    · exact h6 N hN z
    · rw [z, ← e]
      exact h3 hb ht
  · rcases h7 N hN hQ with z | z | z
    · exact Or.inl ((sm_B_or hM).2 (Or.inl z))
    · refine Or.inl ((sm_B_or hM).2 (Or.inr ?_))
      have e2 : nI N = i := by
        apply sm_same
        intro j
        refine ⟨fun hj => ?_, fun hj => z.2.1 j hj⟩
        rcases sm_tot ht (hQ6 _ hQ j hj) with y | y
        · exact y
        · exact (z.2.2 j y hj).elim
      exact (nI_eq (by omega) (by omega)).1 (e2.trans e)
    · exact Or.inr z
/-- a level is opened -/
theorem sm_q_o {Q : Int32 → Prop} {k l at0 : Nat} {i o b v : Int32} {ms : Int64} {a5 a6 a7 a8 : Nat → Int32} (h : sm_Q0 Q k l i o b v ms a5 a6 a7 a8) (hb : b = 0) (h6at : at0 < 6) (hat : bt (i ||| o) at0 = false) : sm_Q1 Q k (l + 1) ms (upd a5 l i) (upd a6 l o) (upd a7 l (nI at0)) (upd a8 l 0) := by
  obtain ⟨h1, h2, h3, h4, h5, h6, h7, h8⟩ := h
  have p := sm_pw h2
  have hl : l < 6 := by
    have t := h4 hb
    rcases Nat.lt_or_ge l 6 with z | z
    · exact z
    · have t2 := sm_c_full (x := i ||| o) (n := 6) (by omega) at0 h6at
      rw [hat] at t2
      exact absurd t2 (by decide)
  have hh : ∀ j, j ≠ l → sm_h (upd a7 l (nI at0)) j = sm_h a7 j := fun j hj => by
    unfold sm_h
    rw [pk_un hj]
  have hhl : sm_h (upd a7 l (nI at0)) l = at0 := by
    unfold sm_h
    rw [pk_us, nI_clamp (by omega)]
  have hno : bt i at0 = false ∧ bt o at0 = false := by
    rw [b_or, Bool.or_eq_false_iff] at hat
    exact hat
  refine ⟨hl, fun j hj => ?_, h6, fun M hM hQ => ?_, ?_⟩
  · by_cases e : j = l
    · subst e
      unfold sm_Sl
      rw [hhl, pk_us, pk_us, pk_us, pk_us]
      exact ⟨h1.1, h1.2.1, rfl, h6at, hno.1, hno.2, Or.inl rfl, h4 hb⟩
    · have t := h5 j (by omega)
      unfold sm_Sl
      rw [hh j e, pk_un e, pk_un e, pk_un e, pk_un e]
      exact t
  · rcases h7 M hM hQ with z | z | z
    · exact Or.inl z
    · refine Or.inr ⟨l, by omega, ?_, Or.inl pk_us⟩
      rw [pk_us, pk_us]
      exact z.2
    · obtain ⟨j, j1, j2, j3⟩ := z
      have e : j ≠ l := by omega
      refine Or.inr ⟨j, by omega, ?_, ?_⟩
      · rw [pk_un e, pk_un e]
        exact j2
      · rw [hh j e, pk_un e]
        exact j3
  · have t : sm_w (upd a8 l 0) (l + 1) = sm_w a8 l + 2 * (2 ^ (6 - l) - 1) := by
      show sm_w (upd a8 l 0) l + sm_wt (upd a8 l 0 l) * (2 ^ (6 - l) - 1) = _
      rw [pk_us, sm_w_ext (b := a8) (fun j hj => pk_un (by omega))]
      rfl
    rw [t]
    omega
/-- a level that has had both turns is left -/
theorem sm_q_p {Q : Int32 → Prop} {k l : Nat} {ms : Int64} {a5 a6 a7 a8 : Nat → Int32} (h : sm_Q1 Q k (l + 1) ms a5 a6 a7 a8) (ht : a8 l = 2) : sm_Q1 Q k l ms a5 a6 a7 a8 := by
  obtain ⟨h1, h2, h3, h4, h5⟩ := h
  refine ⟨by omega, fun j hj => h2 j (by omega), h3, fun M hM hQ => ?_, ?_⟩
  · rcases h4 M hM hQ with z | ⟨j, j1, j2, j3⟩
    · exact Or.inl z
    · refine Or.inr ⟨j, ?_, j2, j3⟩
      rcases Nat.lt_or_ge j l with y | y
      · exact y
      · have e : j = l := by omega
        rw [e, ht] at j3
        rcases j3 with u | u
        · exact absurd u (by decide)
        · exact absurd u.1 (by decide)
  · have t : sm_w a8 (l + 1) = sm_w a8 l + sm_wt (a8 l) * (2 ^ (6 - l) - 1) := rfl
    omega
/-- a turn is taken: x5 x6 is what is known then, t the turns that are had -/
theorem sm_q_t {pr : Int32} {a1 a2 a3 a4 : Nat → Int32} {k l : Nat} {i0 o0 i o b v t : Int32} {ms : Int64} {a5 a6 a7 a8 : Nat → Int32} (h : sm_Q1 (sm_St pr a1 a2 a3 a4) k (l + 1) ms a5 a6 a7 a8)
    (hc : sm_Co pr a1 a2 a3 a4 i0 o0 i o b v) (h5 : sm_sub (a5 l) i0) (h6 : sm_sub (a6 l) o0) (hat : bt (i0 ||| o0) (sm_h a7 l) = true)
    (hw : sm_wt (a8 l) = sm_wt t + 1) (ht : t = 1 ∨ t = 2) (hk : ∀ m, sm_cons m (a5 l) (a6 l) → (a8 l = 0 ∨ (a8 l = 1 ∧ bt m (sm_h a7 l) = true)) → sm_cons m i0 o0 ∨ (t = 1 ∧ bt m (sm_h a7 l) = true)) :
    sm_Q0 (sm_St pr a1 a2 a3 a4) (k + 1) (l + 1) i o b v ms a5 a6 a7 (upd a8 l t) := by
  obtain ⟨g1, g2, g3, g4, g5⟩ := h
  obtain ⟨c1, c2, c3, c4, c5⟩ := hc
  have p := sm_pw (show l ≤ 6 by omega)
  have s := g2 l (by omega)
  refine ⟨c1, g1, fun hb => (c5 hb).2, fun hb => ?_, fun j hj => ?_, g3, fun M hM hQ => ?_, ?_⟩
  · have t1 : sm_c (a5 l ||| a6 l) 6 < sm_c (i ||| o) 6 := by
      refine sm_c_lt (j := sm_h a7 l) (fun j hj => ?_) s.2.2.2.1 ?_ ?_
      · rcases (sm_orS _ _ _).1 hj with z | z
        · exact (sm_orS _ _ _).2 (Or.inl (c2 j (h5 j z)))
        · exact (sm_orS _ _ _).2 (Or.inr (c3 j (h6 j z)))
      · rcases (sm_orS _ _ _).1 hat with z | z
        · exact (sm_orS _ _ _).2 (Or.inl (c2 _ z))
        · exact (sm_orS _ _ _).2 (Or.inr (c3 _ z))
      · rw [b_or, s.2.2.2.2.1, s.2.2.2.2.2.1]
        rfl
    have t2 := s.2.2.2.2.2.2.2
    omega
  · by_cases e : j = l
    · subst e
      obtain ⟨s1, s2, s3, s4, s5, s6, s7, s8⟩ := s
      refine ⟨s1, s2, s3, s4, s5, s6, ?_, s8⟩
      rw [pk_us]
      exact Or.inr ht
    · obtain ⟨s1, s2, s3, s4, s5, s6, s7, s8⟩ := g2 j hj
      refine ⟨s1, s2, s3, s4, s5, s6, ?_, s8⟩
      rw [pk_un e]
      exact s7
  · rcases g4 M hM hQ with z | ⟨j, j1, j2, j3⟩
    · exact Or.inl z
    · by_cases e : j = l
      · subst e
        rcases hk _ j2 j3 with y | y
        · have u := c4 _ hQ y
          exact Or.inr (Or.inl ⟨u.2, u.1⟩)
        · refine Or.inr (Or.inr ⟨j, j1, j2, Or.inr ?_⟩)
          rw [pk_us]
          exact y
      · refine Or.inr (Or.inr ⟨j, j1, j2, ?_⟩)
        rw [pk_un e]
        exact j3
  · have t1 : sm_w a8 (l + 1) = sm_w a8 l + sm_wt (a8 l) * (2 ^ (6 - l) - 1) := rfl
    have t2 : sm_w (upd a8 l t) (l + 1) = sm_w a8 l + sm_wt t * (2 ^ (6 - l) - 1) := by
      show sm_w (upd a8 l t) l + sm_wt (upd a8 l t l) * (2 ^ (6 - l) - 1) = _
      rw [pk_us, sm_w_ext (b := a8) (fun j hj => pk_un (by omega))]
    rw [hw, Nat.add_mul, Nat.one_mul] at t1
    rw [t2, show 7 - (l + 1) = 6 - l by omega]
    omega
end
section
section
variable {pr i o b v kn : Int32} {ms : Int64} {a1 a2 a3 a4 a5 a6 a7 a8 : Nat → Int32}
theorem sm_t66 {post : St1 → Prop} {l : Nat} {t : Int32} (w : sm_W a2 a3 a4) (hl : l < 8) (hi : sm_b6 i) (ho : sm_b6 o) (ht : (a8 l + 1).toInt8.toInt32 = t)
    (H : ∀ i' o' b' v', sm_Co pr a1 a2 a3 a4 i o i' o' b' v' → post (pr, i', o', b', v', kn, ms, a1, a2, a3, a4, a5, a6, a7, upd a8 l t)) : wX_tryNext_66 post (nI l) pr i o 0 v kn ms a1 a2 a3 a4 a5 a6 a7 a8 := by
  unfold wX_tryNext_66
  rw [nI_clamp (show l < 2 ^ 31 by omega), ht]
  exact ⟨pk_in l 8 hl, pk_in l 8 hl, nm_e (sm_conclude w hi ho (fun i' o' b' v' hc => H i' o' b' v' hc))⟩
theorem sm_tryNext {post : St1 → Prop} {k l : Nat} (w : sm_W a2 a3 a4) (h : sm_Q1 (sm_St pr a1 a2 a3 a4) k (l + 1) ms a5 a6 a7 a8) (ht : ¬ a8 l = 2)
    (H : ∀ i' o' b' v' a8', sm_Q0 (sm_St pr a1 a2 a3 a4) (k + 1) (l + 1) i' o' b' v' ms a5 a6 a7 a8' → post (pr, i', o', b', v', kn, ms, a1, a2, a3, a4, a5, a6, a7, a8')) : wpX_tryNext post (pr, i, o, b, v, kn, ms, a1, a2, a3, a4, a5, a6, a7, a8) (nI l) := by
  have hl := h.1
  obtain ⟨s1, s2, s3, s4, s5, s6, s7, s8⟩ := h.2.1 l (by omega)
  have o5 := sm_orB (a5 l) (show sm_h a7 l < 32 by omega)
  have o6 := sm_orB (a6 l) (show sm_h a7 l < 32 by omega)
  unfold wpX_tryNext
  dsimp only
  rw [nI_clamp (show l < 2 ^ 31 by omega), s3]
  refine ⟨pk_in l 8 (by omega), nm_e ⟨pk_in l 8 (by omega), nm_e ⟨pk_in l 8 (by omega), nm_e ⟨pk_in l 8 (by omega), br_c (fun e => nm_e ?_) (fun e => nm_e ?_)⟩⟩⟩⟩
  · refine sm_t66 (t := 1) w (by omega) s1 (fun j hj => ?_) (by rw [e]; decide +kernel) (fun i' o' b' v' hc => H i' o' b' v' _ (sm_q_t h hc (fun _ z => z) (fun j z => (o6 j).2 (Or.inl z)) ((sm_orS _ _ _).2 (Or.inr ((o6 _).2 (Or.inr rfl)))) (by rw [e]; rfl) (Or.inl rfl) (fun m hm _ => ?_)))
    · rcases (o6 j).1 hj with z | z
      · exact s2 j z
      · omega
    · cases em : bt m (sm_h a7 l)
      · refine Or.inl ⟨hm.1, fun j hj hjm => ?_⟩
        rcases (o6 j).1 hj with z | z
        · exact hm.2 j z hjm
        · rw [z, em] at hjm
          exact absurd hjm (by decide)
      · exact Or.inr ⟨rfl, rfl⟩
  · have e1 : a8 l = 1 := by
      rcases s7 with z | z | z
      · exact absurd z e
      · exact z
      · exact absurd z ht
    refine sm_t66 (t := 2) w (by omega) (fun j hj => ?_) s2 (by rw [e1]; decide +kernel) (fun i' o' b' v' hc => H i' o' b' v' _ (sm_q_t h hc (fun j z => (o5 j).2 (Or.inl z)) (fun _ z => z) ((sm_orS _ _ _).2 (Or.inl ((o5 _).2 (Or.inr rfl)))) (by rw [e1]; rfl) (Or.inr rfl) (fun m hm hz => ?_)))
    · rcases (o5 j).1 hj with z | z
      · exact s1 j z
      · omega
    · refine Or.inl ⟨fun j hj => ?_, hm.2⟩
      rcases (o5 j).1 hj with z | z
      · exact hm.1 j z
      · rw [z]
        rcases hz with y | y
        · exact absurd y e
        · exact y.2
theorem sm_open {post : St1 → Prop} {l : Nat} (hl : l ≤ 6) (k : sm_K i o b v) (hn : ¬ (i ||| o) = 63)
    (H : ∀ at0, at0 < 6 → bt (i ||| o) at0 = false → post (pr, i, o, b, v, kn, ms, a1, a2, a3, a4, upd a5 l i, upd a6 l o, upd a7 l (nI at0), upd a8 l 0)) : wpX_open post (pr, i, o, b, v, kn, ms, a1, a2, a3, a4, a5, a6, a7, a8) (nI l) := by
  unfold wpX_open
  dsimp only
  rw [nI_clamp (show l < 2 ^ 31 by omega), sm_byte k.1, sm_byte k.2.1]
  refine ⟨pk_in l 8 (by omega), nm_e ⟨pk_in l 8 (by omega), nm_e ⟨pk_in l 8 (by omega), nm_e ?_⟩⟩⟩
  refine pk_loop (σ := Unit) (fun n j _ => wX_open_31 post (nI l) pr i o b v kn ms a1 a2 a3 a4 (upd a5 l i) (upd a6 l o) a7 (upd a8 l 0) n (nI j)) (fun j _ => ∀ t, t < j → bt (i ||| o) t = true) 6 0 () (by omega) (fun t ht => absurd ht (by omega)) ?_ ?_
  · intro n _ h
    exfalso
    apply hn
    apply sm_same
    intro j
    rw [sm_63, decide_eq_true_iff]
    refine ⟨fun z => ?_, fun z => h j z⟩
    rcases (sm_orS i o j).1 z with y | y
    · exact k.1 j y
    · exact k.2.1 j y
  · intro n j _ hj h hw
    show wX_open_31 post (nI l) pr i o b v kn ms a1 a2 a3 a4 (upd a5 l i) (upd a6 l o) a7 (upd a8 l 0) (n + 1) (nI j)
    unfold wX_open_31
    rw [nI_clamp (show l < 2 ^ 31 by omega), sm_by j (by omega)]
    refine br_c (fun e => ⟨pk_in l 8 (by omega), nm_e (H j hj ((sm_tst _ (by omega)).1 e))⟩) (fun e => nm_r (nI_1 j) (hw () (fun t ht => ?_)))
    by_cases z : t = j
    · rw [z]
      exact sm_ntst (by omega) e
    · exact h t (by omega)
theorem sm_123 {post : St1 → Prop} {J43} {k : Nat} (w : sm_W a2 a3 a4) (hP : (∀ M, M < 64 → (sm_B ms M = true ↔ sm_St pr a1 a2 a3 a4 (nI M))) → post (pr, i, o, b, v, kn, ms, a1, a2, a3, a4, a5, a6, a7, a8))
    (HJ : ∀ (l : Nat) i' o' b' v' a8', sm_Q0 (sm_St pr a1 a2 a3 a4) (k + 1) l i' o' b' v' ms a5 a6 a7 a8' → J43 (nI l) 1 (nI (k + 1)) pr i' o' b' v' kn ms a1 a2 a3 a4 a5 a6 a7 a8') :
    ∀ l, sm_Q1 (sm_St pr a1 a2 a3 a4) k l ms a5 a6 a7 a8 → wX_search_123 post J43 (nI k) pr i o b v kn ms a1 a2 a3 a4 a5 a6 a7 a8 (l + 1) (nI l) := by
  intro l
  induction l with
  | zero =>
    intro h
    refine pk_le 0 0 (fun _ => br_t rfl (hP (fun M hM => ⟨h.2.2.1 M hM, fun hQ => ?_⟩))) (fun z => absurd z (by omega))
    rcases h.2.2.2.1 M hM hQ with z | ⟨j, j1, _⟩
    · exact z
    · omega
  | succ l ih =>
    intro h
    have hl := h.1
    refine pk_le (l + 1) 0 (fun z => absurd z (by omega)) (fun _ => ?_)
    rw [nI_pred, nI_clamp (show l < 2 ^ 31 by omega)]
    refine ⟨pk_in l 8 (by omega), br_c (fun e => nm_r (pk_m1 l) (ih (sm_q_p h e))) (fun e => ?_)⟩
    refine br_f (nI_ne0 (by omega) (by omega)) ?_
    rw [nI_pred]
    exact sm_tryNext w h e (fun i' o' b' v' a8' hq => nm_r (nI_1 k) (HJ (l + 1) i' o' b' v' a8' hq))
theorem sm_43 {post : St1 → Prop} (w : sm_W a2 a3 a4) (h0 : sm_Q0 (sm_St pr a1 a2 a3 a4) 0 0 i o b v ms a5 a6 a7 a8)
    (H : ∀ i o b v ms a5 a6 a7 a8, (∀ M, M < 64 → (sm_B ms M = true ↔ sm_St pr a1 a2 a3 a4 (nI M))) → post (pr, i, o, b, v, kn, ms, a1, a2, a3, a4, a5, a6, a7, a8)) : ∃ n, wX_search_43 post n 0 1 0 pr i o b v kn ms a1 a2 a3 a4 a5 a6 a7 a8 := by
  refine pk_loop (σ := Nat × (Int32 × Int32 × Int32 × Int32) × Int64 × (Nat → Int32) × (Nat → Int32) × (Nat → Int32) × (Nat → Int32))
    (fun n k s => wX_search_43 post n (nI s.1) 1 (nI k) pr s.2.1.1 s.2.1.2.1 s.2.1.2.2.1 s.2.1.2.2.2 kn s.2.2.1 a1 a2 a3 a4 s.2.2.2.1 s.2.2.2.2.1 s.2.2.2.2.2.1 s.2.2.2.2.2.2)
    (fun k s => sm_Q0 (sm_St pr a1 a2 a3 a4) k s.1 s.2.1.1 s.2.1.2.1 s.2.1.2.2.1 s.2.1.2.2.2 s.2.2.1 s.2.2.2.1 s.2.2.2.2.1 s.2.2.2.2.2.1 s.2.2.2.2.2.2) 512 0 (0, (i, o, b, v), ms, a5, a6, a7, a8) (by omega) h0 ?_ ?_
  · intro n s hs
    have t := hs.2.2.2.2.2.2.2
    omega
  · intro n k s hk hs hw
    obtain ⟨l, ⟨i1, o1, b1, v1⟩, ms1, b5, b6, b7, b8⟩ := s
    dsimp only at hs
    show wX_search_43 post (n + 1) (nI l) 1 (nI k) pr i1 o1 b1 v1 kn ms1 a1 a2 a3 a4 b5 b6 b7 b8
    have HJ : ∀ (ms' : Int64) (c5 c6 c7 : Nat → Int32) (l' : Nat) i' o' b' v' a8', sm_Q0 (sm_St pr a1 a2 a3 a4) (k + 1) l' i' o' b' v' ms' c5 c6 c7 a8' → wX_search_43 post n (nI l') 1 (nI (k + 1)) pr i' o' b' v' kn ms' a1 a2 a3 a4 c5 c6 c7 a8' :=
      fun ms' c5 c6 c7 l' i' o' b' v' a8' hq => hw (l', (i', o', b', v'), ms', c5, c6, c7, a8') hq
    have hK := hs.1
    refine pk_le 512 k (fun z => absurd z (by omega)) (fun _ => br_f (by decide) (br_c (fun hb => br_c (fun ht => ?_) (fun ht => ?_)) (fun hb => ?_)))
    · obtain ⟨M, hM, e⟩ := sm_nat hK.1
      subst e
      refine nm_e (br_f (by decide) (br_t hb (br_t ht ?_)))
      exact ⟨l + 1, sm_123 w (fun hf => H _ _ _ _ _ _ _ _ _ hf) (HJ _ _ _ _) l (sm_q_m hs hb ht hM rfl (fun m hm => sm_St_b w hm))⟩
    · refine br_f (by decide) (br_t hb (br_f ht ?_))
      refine sm_open hs.2.1 hK ht (fun at0 h6 hat => nm_r (nI_1 l) ?_)
      exact ⟨l + 1 + 1, sm_123 w (fun hf => H _ _ _ _ _ _ _ _ _ hf) (HJ _ _ _ _) (l + 1) (sm_q_o hs hb h6 hat)⟩
    · refine br_f (by decide) (br_f hb ?_)
      exact ⟨l + 1, sm_123 w (fun hf => H _ _ _ _ _ _ _ _ _ hf) (HJ _ _ _ _) l (sm_q_b hs hb)⟩
/-- the models known are those of the rules -/
def sm_Mo (pr : Int32) (a1 a2 a3 a4 : Nat → Int32) (ms : Int64) : Prop := ∀ M, M < 64 → (sm_B ms M = true ↔ sm_St pr a1 a2 a3 a4 (nI M))
theorem sm_search {post : St1 → Prop} (w : sm_W a2 a3 a4) (hk : ¬ kn = 0 → sm_Mo pr a1 a2 a3 a4 ms)
    (H : ∀ i' o' b' v' kn' ms' b5 b6 b7 b8, ¬ kn' = 0 → sm_Mo pr a1 a2 a3 a4 ms' → post (pr, i', o', b', v', kn', ms', a1, a2, a3, a4, b5, b6, b7, b8)) : wpX_search post (pr, i, o, b, v, kn, ms, a1, a2, a3, a4, a5, a6, a7, a8) := by
  refine br_c (fun e => ?_) (fun e => H _ _ _ _ _ _ _ _ _ _ e (hk e))
  refine sm_conclude w (fun j hj => absurd hj (sm_b0 j)) (fun j hj => absurd hj (sm_b0 j)) (fun i1 o1 b1 v1 hc => ?_)
  obtain ⟨c1, c2, c3, c4, c5⟩ := hc
  refine sm_43 w ⟨c1, by omega, fun hb => (c5 hb).2, fun _ => Nat.zero_le _, fun j hj => absurd hj (by omega), fun M _ hB => absurd hB (by rw [sm_B0]; decide), fun M hM hQ => Or.inr (Or.inl ?_), Nat.le_refl 127⟩ (fun i2 o2 b2 v2 ms2 d5 d6 d7 d8 hf => H _ _ _ _ _ _ _ _ _ _ (by decide) hf)
  have t := c4 _ hQ ⟨fun j hj => absurd hj (sm_b0 j), fun j hj => absurd hj (sm_b0 j)⟩
  exact ⟨t.2, t.1⟩
end
end
section
theorem ts_bit {w : Int64} {s : UInt64} {j : Nat} (hj : j < 64) (hs : s.toNat = j) : ((w.toUInt64 >>> s).toInt64 &&& 1) = 0 ↔ w.toBitVec.getLsbD j = false := by
  have e : (w.toUInt64 >>> s).toInt64.toBitVec = w.toBitVec >>> j := by
    apply BitVec.eq_of_toNat_eq
    show (w.toUInt64 >>> s).toNat = _
    rw [UInt64.toNat_shiftRight, hs, Nat.mod_eq_of_lt hj, BitVec.toNat_ushiftRight]
    rfl
  rw [← Int64.toBitVec_inj, Int64.toBitVec_and, e]
  show w.toBitVec >>> j &&& 1#64 = 0#64 ↔ _
  constructor
  · intro h
    have t := congrArg (fun x => x.getLsbD 0) h
    simpa using t
  · intro h
    apply BitVec.eq_of_getLsbD_eq
    intro i hi
    cases i with
    | zero => simp [h]
    | succ i => simp
theorem sm_amt : ∀ M, M < 64 → ((nI M).toInt64.toUInt64 &&& Int64.toUInt64 63).toNat = M := by decide +kernel
section
variable {pr i o b v kn : Int32} {ms : Int64} {a1 a2 a3 a4 a5 a6 a7 a8 : Nat → Int32}
/-! ===== isModel, stable, models ===== -/
theorem sm_isModel {post : Int32 → Prop} {M : Nat} (hM : M < 64) (h1 : sm_B ms M = true → post 1) (h0 : sm_B ms M = false → post 0) : wpX_isModel post (pr, i, o, b, v, kn, ms, a1, a2, a3, a4, a5, a6, a7, a8) (nI M) := by
  refine br_c (fun e => h0 ((ts_bit hM (sm_amt M hM)).1 e)) (fun e => h1 ?_)
  cases z : sm_B ms M
  · exact (e ((ts_bit hM (sm_amt M hM)).2 z)).elim
  · rfl
theorem sm_isSet {post : Int32 → Prop} {M : Nat} (hM : M < 64) (h : post 1) : wpX_isSet post () (nI M) :=
  br_f (nI_pos (by omega)) (pk_lt 63 M (fun z => absurd z (by omega)) (fun _ => h))
theorem sm_stable {post : Int32 → St1 → Prop} {M : Nat} (w : sm_W a2 a3 a4) (hk : ¬ kn = 0 → sm_Mo pr a1 a2 a3 a4 ms) (hM : M < 64)
    (H : ∀ i' o' b' v' kn' ms' b5 b6 b7 b8 r, ¬ kn' = 0 → sm_Mo pr a1 a2 a3 a4 ms' → (r = 1 ∧ sm_St pr a1 a2 a3 a4 (nI M) ∨ r = 0 ∧ ¬ sm_St pr a1 a2 a3 a4 (nI M)) → post r (pr, i', o', b', v', kn', ms', a1, a2, a3, a4, b5, b6, b7, b8)) : wpX_stable post (pr, i, o, b, v, kn, ms, a1, a2, a3, a4, a5, a6, a7, a8) (nI M) := by
  unfold wpX_stable
  dsimp only
  refine sm_isSet hM (br_f (by decide) (sm_search w hk (fun i' o' b' v' kn' ms' b5 b6 b7 b8 hn hm => ?_)))
  refine sm_isModel hM (fun hB => ⟨rfl, H _ _ _ _ _ _ _ _ _ _ _ hn hm (Or.inl ⟨rfl, (hm M hM).1 hB⟩)⟩) (fun hB => ⟨rfl, H _ _ _ _ _ _ _ _ _ _ _ hn hm (Or.inr ⟨rfl, fun hQ => ?_⟩)⟩)
  rw [(hm M hM).2 hQ] at hB
  exact absurd hB (by decide)
def sm_N (ms : Int64) : Nat → Nat
  | 0 => 0
  | j + 1 => sm_N ms j + (sm_B ms j).toNat
theorem sm_N_le (ms : Int64) (j : Nat) : sm_N ms j ≤ j := by
  induction j with
  | zero => exact Nat.le_refl 0
  | succ j ih =>
    show sm_N ms j + (sm_B ms j).toNat ≤ j + 1
    have t : (sm_B ms j).toNat ≤ 1 := Bool.toNat_le _
    omega
theorem sm_models {post : Int32 → St1 → Prop} (w : sm_W a2 a3 a4) (hk : ¬ kn = 0 → sm_Mo pr a1 a2 a3 a4 ms)
    (H : ∀ i' o' b' v' kn' ms' b5 b6 b7 b8, ¬ kn' = 0 → sm_Mo pr a1 a2 a3 a4 ms' → post (nI (sm_N ms' 64)) (pr, i', o', b', v', kn', ms', a1, a2, a3, a4, b5, b6, b7, b8)) : wpX_models post (pr, i, o, b, v, kn, ms, a1, a2, a3, a4, a5, a6, a7, a8) := by
  refine sm_search w hk (fun i' o' b' v' kn' ms' b5 b6 b7 b8 hn hm => ?_)
  refine pk_loop (σ := Unit) (fun n j _ => wX_models_8 post pr i' o' b' v' kn' ms' a1 a2 a3 a4 b5 b6 b7 b8 n (nI (sm_N ms' j)) (nI j)) (fun _ _ => True) 64 0 () (by omega) trivial
    (fun n _ _ => pk_lt 63 64 (fun _ => H _ _ _ _ _ _ _ _ _ _ hn hm) (fun z => absurd z (by omega))) ?_
  intro n j _ hj _ hw
  have hw' : wX_models_8 post pr i' o' b' v' kn' ms' a1 a2 a3 a4 b5 b6 b7 b8 n (nI (sm_N ms' j + (sm_B ms' j).toNat)) (nI (j + 1)) := hw () trivial
  show wX_models_8 post pr i' o' b' v' kn' ms' a1 a2 a3 a4 b5 b6 b7 b8 (n + 1) (nI (sm_N ms' j)) (nI j)
  refine pk_lt 63 j (fun z => absurd z (by omega)) (fun _ => sm_isModel hj (fun hB => br_f (by decide) (nm_r (nI_1 _) (nm_r (nI_1 j) ?_))) (fun hB => br_t rfl (nm_r (nI_add _ 0) (nm_r (nI_1 j) ?_))))
  · rw [hB] at hw'
    exact hw'
  · rw [hB] at hw'
    exact hw'
/-! ===== support ===== -/
theorem sm_s13 {post : Int32 → Prop} {J4 : Int32 → Int32 → Prop} {s0 m : Int32} {j : Nat} (w : sm_W a2 a3 a4) (h : sm_O (sm_E pr a1 a2 a4 m) (sm_h a2) a3 6 s0 j)
    (H : ∀ s, sm_O (sm_E pr a1 a2 a4 m) (sm_h a2) a3 6 s (j + 1) → J4 s (nI (j + 1))) : ∃ n, wX_supportOf_13 post J4 m (nI j) pr i o b v kn ms a1 a2 a3 a4 a5 a6 a7 a8 n s0 0 := by
  refine pk_loop (σ := Int32) (fun n r s => wX_supportOf_13 post J4 m (nI j) pr i o b v kn ms a1 a2 a3 a4 a5 a6 a7 a8 n s (nI r)) (fun r s => sm_I (sm_E pr a1 a2 a4 m) (sm_h a2) a3 6 s0 s r) 10 0 s0 (by omega) (sm_I_0 h)
    (fun n s hs => pk_le 10 10 (fun _ => nm_r (nI_1 j) (H s (sm_I_R h hs (fun r hr => hr.1)))) (fun z => absurd z (by omega))) ?_
  intro n r s hr hs hw
  show wX_supportOf_13 post J4 m (nI j) pr i o b v kn ms a1 a2 a3 a4 a5 a6 a7 a8 (n + 1) s (nI r)
  obtain ⟨⟨w1, w2⟩, w3, w4⟩ := w r hr
  have hno : ¬ (sm_E pr a1 a2 a4 m r ∧ sm_sub (a3 r) s) → wX_supportOf_70 post J4 (wX_supportOf_13 post J4 m (nI j) pr i o b v kn ms a1 a2 a3 a4 a5 a6 a7 a8 n) m s (nI j) (nI r) pr i o b v kn ms a1 a2 a3 a4 a5 a6 a7 a8 :=
    fun hn => br_t rfl (nm_r (nI_1 r) (hw s (sm_I_no hs hn)))
  have hyes : sm_E pr a1 a2 a4 m r → sm_sub (a3 r) s → wX_supportOf_102 post J4 (wX_supportOf_13 post J4 m (nI j) pr i o b v kn ms a1 a2 a3 a4 a5 a6 a7 a8 n) m s (nI j) (nI r) pr i o b v kn ms a1 a2 a3 a4 a5 a6 a7 a8 := by
    intro hE hp
    unfold wX_supportOf_102
    rw [nI_clamp (show r < 2 ^ 31 by omega), w1]
    exact ⟨pk_in r 10 hr, nm_e (nm_r (nI_1 r) (hw _ (sm_I_yes hs hE hp w2 (by omega))))⟩
  refine pk_le 10 r (fun z => absurd z (by omega)) (fun _ => sm_has hr (fun hp => br_f (by decide) ⟨pk_in r 10 hr, ?_⟩) (fun hp => br_t rfl (hno (fun t => absurd t.1.2.1 (sm_ft hp)))))
  rw [nI_clamp (show r < 2 ^ 31 by omega)]
  refine br_c (fun e2 => hno (fun t => t.1.2.2.1 e2)) (fun e2 => ⟨pk_in r 10 hr, br_c (fun f1 => ⟨pk_in r 10 hr, br_c (fun f2 => ?_) (fun f2 => hno (fun t => f2 (sm_sub0.2 t.2)))⟩) (fun f1 => hno (fun t => f1 (sm_and0.2 t.1.2.2.2.1)))⟩)
  unfold wX_supportOf_71
  rw [nI_clamp (show r < 2 ^ 31 by omega)]
  refine br_f (by decide) ⟨pk_in r 10 hr, br_c (fun e0 => hyes ⟨hr, hp, e2, sm_and0.1 f1, Or.inl e0⟩ (sm_sub0.1 f2)) (fun e0 => ⟨pk_in r 10 hr, ?_⟩)⟩
  rw [w1]
  refine br_c (fun g => nm_r (nI_1 r) (hw s (sm_I_no hs (fun t => ?_)))) (fun g => hyes ⟨hr, hp, e2, sm_and0.1 f1, Or.inr (sm_ntst (by omega) g)⟩ (sm_sub0.1 f2))
  rcases t.1.2.2.2.2 with z | z
  · exact e0 z
  · exact absurd z (sm_ft ((sm_tst m (by omega)).1 g))
theorem sm_support {post : Int32 → Prop} {M : Nat} (w : sm_W a2 a3 a4) (hM : M < 64) (H : ∀ f, (∀ j, bt f j = true ↔ sm_L (sm_E pr a1 a2 a4 (nI M)) (sm_h a2) a3 j) → post f) : wpX_support post (pr, i, o, b, v, kn, ms, a1, a2, a3, a4, a5, a6, a7, a8) (nI M) := by
  unfold wpX_support
  dsimp only
  exact sm_isSet hM (br_f (by decide)
    (pk_loop (σ := Int32) (fun n j s => wX_supportOf_4 (fun r => post r) (nI M) pr i o b v kn ms a1 a2 a3 a4 a5 a6 a7 a8 n s (nI j)) (fun j s => sm_O (sm_E pr a1 a2 a4 (nI M)) (sm_h a2) a3 6 s j) 6 0 0 (by omega) (sm_O_0 _ _ _ _)
      (fun n s h => pk_le 6 6 (fun _ => H s (sm_O_c h (fun r hr => (w r hr.1).1.2))) (fun z => absurd z (by omega)))
      (fun n j s hj h hw => pk_le 6 j (fun z => absurd z (by omega)) (fun _ => sm_s13 w h (fun s' h' => hw s' h')))))
/-! ===== rules put and taken ===== -/
def sm_rem (pr : Int32) (q : Nat) : Int32 := pr &&& (((1 : Int32) <<< (nI q &&& 31)) ^^^ (-1))
theorem sm_rem_bt {q : Nat} (hq : q < 32) (j : Nat) : bt (sm_rem pr q) j = true ↔ bt pr j = true ∧ j ≠ q := by
  unfold sm_rem
  rw [sm_dif, sm_bit hq, decide_eq_false_iff_not]
theorem sm_rem_add {q : Nat} (hq : q < 32) (hp : bt pr q = true) : sm_rem pr q ||| ((1 : Int32) <<< (nI q &&& 31)) = pr := by
  apply sm_same
  intro j
  rw [sm_orB _ hq, sm_rem_bt hq]
  constructor
  · intro h
    rcases h with z | z
    · exact z.1
    · rw [z]
      exact hp
  · intro h
    by_cases e : j = q
    · exact Or.inr e
    · exact Or.inl ⟨h, e⟩
theorem sm_rem_no {q : Nat} (hq : q < 32) (hp : bt pr q = false) : sm_rem pr q = pr := by
  apply sm_same
  intro j
  rw [sm_rem_bt hq]
  refine ⟨fun h => h.1, fun h => ⟨h, fun e => ?_⟩⟩
  rw [e, hp] at h
  exact absurd h (by decide)
theorem sm_remove {post : Int32 → St1 → Prop} {q : Nat} (hq : q < 10) (h0 : bt pr q = false → post 0 (pr, i, o, b, v, kn, ms, a1, a2, a3, a4, a5, a6, a7, a8)) (h1 : bt pr q = true → post 1 (sm_rem pr q, i, o, b, v, 0, ms, a1, a2, a3, a4, a5, a6, a7, a8)) : wpX_remove post (pr, i, o, b, v, kn, ms, a1, a2, a3, a4, a5, a6, a7, a8) (nI q) := by
  unfold wpX_remove
  dsimp only
  exact sm_has hq (fun hp => br_f (by decide) (nm_e (h1 hp))) (fun hp => br_t rfl (h0 hp))
theorem sm_matters {post : Int32 → St1 → Prop} {q : Nat} (w : sm_W a2 a3 a4) (hk : ¬ kn = 0 → sm_Mo pr a1 a2 a3 a4 ms) (hq : q < 10) (h0 : bt pr q = false → post 0 (pr, i, o, b, v, kn, ms, a1, a2, a3, a4, a5, a6, a7, a8))
    (h1 : bt pr q = true → ∀ i' o' b' v' ms1 ms2 b5 b6 b7 b8 r, sm_Mo pr a1 a2 a3 a4 ms1 → sm_Mo (sm_rem pr q) a1 a2 a3 a4 ms2 → (r = 0 ∧ ms1 = ms2 ∨ r = 1 ∧ ¬ ms1 = ms2) → post r (pr, i', o', b', v', 0, ms2, a1, a2, a3, a4, b5, b6, b7, b8)) : wpX_matters post (pr, i, o, b, v, kn, ms, a1, a2, a3, a4, a5, a6, a7, a8) (nI q) := by
  unfold wpX_matters
  dsimp only
  refine sm_has hq (fun hp => br_f (by decide) ?_) (fun hp => br_t rfl (h0 hp))
  refine sm_search w hk (fun i1 o1 b1 v1 kn1 ms1 b5 b6 b7 b8 hn hm => nm_e ?_)
  refine sm_search (pr := sm_rem pr q) w (fun z => absurd rfl z) (fun i2 o2 b2 v2 kn2 ms2 c5 c6 c7 c8 hn2 hm2 => nm_r (sm_rem_add (by omega) hp) ?_)
  exact br_c (fun e => h1 hp _ _ _ _ ms1 ms2 _ _ _ _ _ hm hm2 (Or.inl ⟨rfl, e⟩)) (fun e => h1 hp _ _ _ _ ms1 ms2 _ _ _ _ _ hm hm2 (Or.inr ⟨rfl, e⟩))
theorem sm_add {post : Int32 → St1 → Prop} {k h p n f : Nat} (hk : k < 3) (hh : h < 6) (hp : p < 64) (hn : n < 64) (hf : f < 10) (hlo : ∀ j, j < f → bt pr j = true) (hfr : bt pr f = false)
    (H : post (nI f) (pr ||| ((1 : Int32) <<< (nI f &&& 31)), i, o, b, v, 0, ms, upd a1 f (nI k), upd a2 f (nI (if k = 2 then 0 else h)), upd a3 f (nI p), upd a4 f (nI n), a5, a6, a7, a8)) :
    wpX_add post (pr, i, o, b, v, kn, ms, a1, a2, a3, a4, a5, a6, a7, a8) (nI k) (nI h) (nI p) (nI n) := by
  have g110 : ∀ z0 : Nat, z0 < 6 → z0 = (if k = 2 then 0 else h) → wX_add_110 post (nI p) (nI n) (nI f) (nI z0) (nI f) (pr ||| ((1 : Int32) <<< (nI f &&& 31))) i o b v kn ms (upd a1 f (nI k)) a2 a3 a4 a5 a6 a7 a8 := by
    intro z0 hz e
    unfold wX_add_110
    rw [nI_clamp (show f < 2 ^ 31 by omega), sm_by z0 (by omega), sm_by p hp, sm_by n hn, e]
    exact ⟨pk_in f 10 hf, nm_e ⟨pk_in f 10 hf, nm_e ⟨pk_in f 10 hf, nm_e H⟩⟩⟩
  have g56 : ∃ m, wX_add_56 post (nI k) (nI h) (nI p) (nI n) pr i o b v kn ms a1 a2 a3 a4 a5 a6 a7 a8 m 0 := by
    refine pk_loop (σ := Unit) (fun m j _ => wX_add_56 post (nI k) (nI h) (nI p) (nI n) pr i o b v kn ms a1 a2 a3 a4 a5 a6 a7 a8 m (nI j)) (fun _ _ => True) f 0 () (by omega) trivial ?_ ?_
    · intro m _ _
      show wX_add_56 post (nI k) (nI h) (nI p) (nI n) pr i o b v kn ms a1 a2 a3 a4 a5 a6 a7 a8 (m + 1) (nI f)
      refine pk_le 10 f (fun z => absurd z (by omega)) (fun _ => sm_has hf (fun z => absurd z (sm_ft hfr)) (fun _ => br_t rfl (nm_e ⟨pk_in f 10 hf, ?_⟩)))
      rw [nI_clamp (show f < 2 ^ 31 by omega), sm_by k (by omega)]
      exact nm_e (pk_eq k 2 (fun e => g110 0 (by omega) (by rw [if_pos e])) (fun e => g110 h hh (by rw [if_neg e])))
    · intro m j _ hj _ hw
      show wX_add_56 post (nI k) (nI h) (nI p) (nI n) pr i o b v kn ms a1 a2 a3 a4 a5 a6 a7 a8 (m + 1) (nI j)
      exact pk_le 10 j (fun z => absurd z (by omega)) (fun _ => sm_has (by omega) (fun _ => br_f (by decide) (nm_r (nI_1 j) (hw () trivial))) (fun z => absurd (hlo j hj) (sm_ft z)))
  have g20 : wX_add_20 post (nI k) (nI h) (nI p) (nI n) 1 pr i o b v kn ms a1 a2 a3 a4 a5 a6 a7 a8 :=
    br_f (nI_pos (by omega)) (pk_lt 2 k (fun z => absurd z (by omega)) (fun _ => br_f (by decide) (sm_isSet hp (br_f (by decide) (sm_isSet hn (br_f (by decide) g56))))))
  exact br_c (fun _ => g20) (fun _ => br_f (nI_pos (by omega)) (pk_le 6 h (fun z => absurd z (by omega)) (fun _ => g20)))
end
end
section
/-! ===== the law's row of rules ===== -/
def sm_rl (row : Int64) (q : Nat) : Int32 := ((row >>> ((12 * nI q).toInt64 &&& 63)).toInt32) &&& 4095
theorem sm_sm : ∀ q, q < 5 → (((12 * nI q).toInt64 &&& 63).toBitVec.smod 64).toNat = 12 * q := by decide +kernel
theorem sm_rl_bt (row : Int64) {q : Nat} (hq : q < 5) (j : Nat) : bt (sm_rl row q) j = (decide (j < 12) && sm_B row (12 * q + j)) := by
  unfold sm_rl
  rw [b_and, sm_4095, Bool.and_comm]
  rcases Nat.lt_or_ge j 12 with hj | hj
  · rw [decide_eq_true hj, Bool.true_and, Bool.true_and]
    unfold bt sm_B
    rw [Int64.toBitVec_toInt32, BitVec.getLsbD_signExtend, if_pos (show j < 64 by omega), Int64.toBitVec_shiftRight]
    show (decide (j < 32) && (row.toBitVec.sshiftRight (((12 * nI q).toInt64 &&& 63).toBitVec.smod 64).toNat).getLsbD j) = _
    rw [sm_sm q hq, BitVec.getLsbD_sshiftRight, decide_eq_true (show j < 32 by omega), Bool.true_and, if_pos (show 12 * q + j < 64 by omega), decide_eq_false (show ¬ 64 ≤ j by omega)]
    rfl
  · rw [decide_eq_false (by omega), Bool.false_and, Bool.false_and]
def sm_mk (q : Nat) : Int64 := (4095 : Int64) <<< ((12 * nI q).toInt64 &&& 63)
theorem sm_mk_bt : ∀ q, q < 5 → ∀ j, j < 64 → sm_B (sm_mk q) j = decide (12 * q ≤ j ∧ j < 12 * q + 12) := by decide +kernel
theorem sm_m1_bt : ∀ j, j < 64 → sm_B (-1) j = true := by decide +kernel
theorem sm_clr_bt (row : Int64) {q j : Nat} (hq : q < 5) (hj : j < 64) : sm_B (row &&& (sm_mk q ^^^ (-1))) j = (sm_B row j && !decide (12 * q ≤ j ∧ j < 12 * q + 12)) := by
  have e1 : sm_B (row &&& (sm_mk q ^^^ (-1))) j = (sm_B row j && (sm_B (sm_mk q) j ^^ sm_B (-1) j)) := by
    unfold sm_B
    rw [Int64.toBitVec_and, Int64.toBitVec_xor, BitVec.getLsbD_and, BitVec.getLsbD_xor]
  rw [e1, sm_mk_bt q hq j hj, sm_m1_bt j hj, Bool.xor_true]
/-- the row with rule q taken out -/
def sm_clr (row : Int64) (q : Nat) : Int64 := row &&& (sm_mk q ^^^ (-1))
theorem sm_clr_rl (row : Int64) {q r : Nat} (hq : q < 5) (hr : r < 5) : sm_rl (sm_clr row q) r = if r = q then 0 else sm_rl row r := by
  apply b_ext
  intro j _
  rw [sm_rl_bt _ hr]
  rcases Nat.lt_or_ge j 12 with hj | hj
  · unfold sm_clr
    rw [sm_clr_bt row hq (by omega)]
    by_cases e : r = q
    · rw [if_pos e, b_0, decide_eq_true (show 12 * q ≤ 12 * r + j ∧ 12 * r + j < 12 * q + 12 by omega), Bool.not_true, Bool.and_false, Bool.and_false]
    · rw [if_neg e, sm_rl_bt _ hr, decide_eq_false (show ¬ (12 * q ≤ 12 * r + j ∧ 12 * r + j < 12 * q + 12) by omega), Bool.not_false, Bool.and_true]
  · by_cases e : r = q
    · rw [if_pos e, b_0, decide_eq_false (show ¬ j < 12 by omega), Bool.false_and]
    · rw [if_neg e, sm_rl_bt _ hr, decide_eq_false (show ¬ j < 12 by omega), Bool.false_and, Bool.false_and]
/-- .. and put in -/
def sm_put (row : Int64) (q : Nat) (x : Int32) : Int64 := sm_clr row q ||| (x.toInt64 <<< ((12 * nI q).toInt64 &&& 63))
theorem sm_sh_bt {N q j : Nat} (hN : N < 4096) (hq : q < 5) (hj : j < 64) : sm_B ((nI N).toInt64 <<< ((12 * nI q).toInt64 &&& 63)) j = (decide (12 * q ≤ j) && N.testBit (j - 12 * q)) := by
  rw [nI_l (by omega)]
  unfold sm_B
  rw [Int64.toBitVec_shiftLeft]
  show ((BitVec.ofNat 64 N) <<< (((12 * nI q).toInt64 &&& 63).toBitVec.smod 64).toNat).getLsbD j = _
  rw [sm_sm q hq, BitVec.getLsbD_shiftLeft, BitVec.getLsbD_ofNat, decide_eq_true hj, Bool.true_and]
  rcases Nat.lt_or_ge j (12 * q) with z | z
  · rw [decide_eq_true z, decide_eq_false (show ¬ 12 * q ≤ j by omega), Bool.not_true, Bool.false_and, Bool.false_and]
  · rw [decide_eq_false (show ¬ j < 12 * q by omega), decide_eq_true z, decide_eq_true (show j - 12 * q < 64 by omega), Bool.not_false, Bool.true_and]
theorem sm_put_rl (row : Int64) {N q r : Nat} (hN : N < 4096) (hq : q < 5) (hr : r < 5) : sm_rl (sm_put row q (nI N)) r = if r = q then nI N else sm_rl row r := by
  apply b_ext
  intro j hj32
  rw [sm_rl_bt _ hr]
  rcases Nat.lt_or_ge j 12 with hj | hj
  · have e1 : sm_B (sm_put row q (nI N)) (12 * r + j) = (sm_B (sm_clr row q) (12 * r + j) || sm_B ((nI N).toInt64 <<< ((12 * nI q).toInt64 &&& 63)) (12 * r + j)) := by
      unfold sm_put sm_B
      rw [Int64.toBitVec_or, BitVec.getLsbD_or]
    rw [e1, sm_sh_bt hN hq (by omega)]
    have e2 := sm_clr_rl row hq hr
    have e3 : sm_B (sm_clr row q) (12 * r + j) = bt (sm_rl (sm_clr row q) r) j := by rw [sm_rl_bt _ hr, decide_eq_true hj, Bool.true_and]
    rw [e3, e2, decide_eq_true hj, Bool.true_and]
    by_cases e : r = q
    · rw [if_pos e, if_pos e, b_0, Bool.false_or, sm_btN hj32, decide_eq_true (show 12 * q ≤ 12 * r + j by omega), Bool.true_and, show 12 * r + j - 12 * q = j by omega]
    · rw [if_neg e, if_neg e]
      rcases Nat.lt_or_ge (12 * r + j) (12 * q) with z | z
      · rw [decide_eq_false (show ¬ 12 * q ≤ 12 * r + j by omega), Bool.false_and, Bool.or_false]
      · rw [Nat.testBit_lt_two_pow (Nat.lt_of_lt_of_le (show N < 2 ^ 12 from hN) (Nat.pow_le_pow_right (by omega) (show 12 ≤ 12 * r + j - 12 * q by omega))), Bool.and_false, Bool.or_false]
  · rw [decide_eq_false (show ¬ j < 12 by omega), Bool.false_and]
    by_cases e : r = q
    · rw [if_pos e, sm_btN hj32, Nat.testBit_lt_two_pow (Nat.lt_of_lt_of_le (show N < 2 ^ 12 from hN) (Nat.pow_le_pow_right (by omega) hj))]
    · rw [if_neg e, sm_rl_bt _ hr, decide_eq_false (show ¬ j < 12 by omega), Bool.false_and]
theorem sm_nor (a b : Nat) : nI a ||| nI b = nI (a ||| b) := by
  apply Int32.toBitVec_inj.1
  show BitVec.ofNat 32 a ||| BitVec.ofNat 32 b = BitVec.ofNat 32 (a ||| b)
  apply BitVec.eq_of_getLsbD_eq
  intro i hi
  simp [hi]
theorem sm_nad {a i : Nat} (ha : a < 2 ^ i) (c : Nat) : nI a ||| nI (c * 2 ^ i) = nI (a + c * 2 ^ i) := by
  rw [sm_nor, Nat.or_comm, Nat.mul_comm, ← Nat.two_pow_add_eq_or_of_lt ha, Nat.add_comm]
/-- a rule as the law keeps it -/
def sm_cd (k h p n : Nat) : Nat := (k + 1) + 4 * h + 16 * p + 256 * n
theorem sm_enc {k h p n : Nat} (hk : k < 3) (hh : h < 4) (hp : p < 16) (hn : n < 16) : (((nI k + 1) ||| (nI h <<< ((2 : Int32) &&& 31))) ||| (nI p <<< ((4 : Int32) &&& 31))) ||| (nI n <<< ((8 : Int32) &&& 31)) = nI (sm_cd k h p n) := by
  rw [nI_1, pk_shlN ((2 : Int32) &&& 31) 2 (by decide +kernel) (by omega), pk_shlN ((4 : Int32) &&& 31) 4 (by decide +kernel) (by omega), pk_shlN ((8 : Int32) &&& 31) 8 (by decide +kernel) (by omega)]
  rw [sm_nad (i := 2) (by omega), sm_nad (i := 4) (by omega), sm_nad (i := 8) (by omega)]
  congr 1
  unfold sm_cd
  omega
theorem sm_dec {k h p n : Nat} (hk : k < 3) (hh : h < 4) (hp : p < 16) (hn : n < 16) :
    nI (sm_cd k h p n) &&& 3 = nI (k + 1) ∧ (nI (sm_cd k h p n) >>> ((2 : Int32) &&& 31)) &&& 3 = nI h ∧ (nI (sm_cd k h p n) >>> ((4 : Int32) &&& 31)) &&& 15 = nI p ∧ nI (sm_cd k h p n) >>> ((8 : Int32) &&& 31) = nI n := by
  have hc : sm_cd k h p n < 4096 := by
    unfold sm_cd
    omega
  refine ⟨?_, ?_, ?_, ?_⟩
  · rw [pk_andN (by omega) 2 (by decide +kernel)]
    congr 1
    unfold sm_cd
    omega
  · rw [pk_shrN (by omega) _ 2 (by decide +kernel), pk_andN (by omega) 2 (by decide +kernel)]
    congr 1
    unfold sm_cd
    omega
  · rw [pk_shrN (by omega) _ 4 (by decide +kernel), pk_andN (by omega) 4 (by decide +kernel)]
    congr 1
    unfold sm_cd
    omega
  · rw [pk_shrN (by omega) _ 8 (by decide +kernel)]
    congr 1
    unfold sm_cd
    omega
/-! ===== the row and the arrays ===== -/
def sm_Vr (pr : Int32) (a1 a2 a3 a4 : Nat → Int32) (x : Int32) (r : Nat) : Prop :=
  (bt pr r = false ∧ x = 0) ∨ (bt pr r = true ∧ ∃ k h p n : Nat, k < 3 ∧ h < 4 ∧ p < 16 ∧ n < 16 ∧ a1 r = nI k ∧ a2 r = nI (if k = 2 then 0 else h) ∧ a3 r = nI p ∧ a4 r = nI n ∧ x = nI (sm_cd k h p n))
def sm_V (pr : Int32) (a1 a2 a3 a4 : Nat → Int32) (row : Int64) : Prop := sm_W a2 a3 a4 ∧ (∀ r, 5 ≤ r → bt pr r = false) ∧ ∀ r, r < 5 → sm_Vr pr a1 a2 a3 a4 (sm_rl row r) r
section
variable {pr i o b v kn : Int32} {ms row : Int64} {a1 a2 a3 a4 a5 a6 a7 a8 : Nat → Int32}
theorem sm_V_lt (V : sm_V pr a1 a2 a3 a4 row) {r : Nat} (h : bt pr r = true) : r < 5 := by
  rcases Nat.lt_or_ge r 5 with z | z
  · exact z
  · exact absurd h (sm_ft (V.2.1 r z))
theorem sm_V_z (V : sm_V pr a1 a2 a3 a4 row) {r : Nat} (hr : r < 5) : sm_rl row r = 0 ↔ bt pr r = false := by
  rcases V.2.2 r hr with ⟨e1, e2⟩ | ⟨e1, k, h, p, n, hk, hh, hp, hn, _, _, _, _, e⟩
  · exact ⟨fun _ => e1, fun _ => e2⟩
  · refine ⟨fun z => ?_, fun z => absurd e1 (sm_ft z)⟩
    rw [e] at z
    have t : 0 < sm_cd k h p n ∧ sm_cd k h p n < 4096 := by
      unfold sm_cd
      omega
    exact absurd z (nI_ne0 t.1 (by omega))
theorem sm_V_hd (V : sm_V pr a1 a2 a3 a4 row) {r : Nat} (h : bt pr r = true) : sm_h a2 r < 4 := by
  rcases V.2.2 r (sm_V_lt V h) with ⟨e1, e2⟩ | ⟨e1, k, h', p, n, hk, hh, hp, hn, _, e, _⟩
  · exact absurd h (sm_ft e1)
  · unfold sm_h
    rw [e]
    split
    · exact (by decide +kernel : (nI 0).toNatClampNeg < 4)
    · rw [nI_clamp (by omega)]
      exact hh
theorem sm_V_16 (V : sm_V pr a1 a2 a3 a4 row) {M : Nat} (hM : M < 64) (h : sm_St pr a1 a2 a3 a4 (nI M)) : M < 16 := by
  have t : ∀ j, bt (nI M) j = true → j < 4 := by
    intro j hj
    exact (h.1 j).1 hj (fun j => j < 4) (fun r hr _ => sm_V_hd V hr.2.1)
  obtain ⟨n, hn, e⟩ := sm_nat t
  have e2 := (nI_eq (show M < 2 ^ 31 by omega) (show n < 2 ^ 31 by omega)).1 e
  omega
theorem sm_V_rem (V : sm_V pr a1 a2 a3 a4 row) {q : Nat} (hq : q < 5) : sm_V (sm_rem pr q) a1 a2 a3 a4 (sm_clr row q) := by
  refine ⟨V.1, fun r hr => sm_nf (fun z => ?_), fun r hr => ?_⟩
  · exact absurd ((sm_rem_bt (by omega) r).1 z).1 (sm_ft (V.2.1 r hr))
  · unfold sm_Vr
    rw [sm_clr_rl row hq hr]
    by_cases e : r = q
    · rw [if_pos e]
      exact Or.inl ⟨sm_nf (fun z => ((sm_rem_bt (by omega) r).1 z).2 e), rfl⟩
    · rw [if_neg e]
      rcases V.2.2 r hr with ⟨e1, e2⟩ | ⟨e1, e2⟩
      · exact Or.inl ⟨sm_nf (fun z => absurd ((sm_rem_bt (by omega) r).1 z).1 (sm_ft e1)), e2⟩
      · exact Or.inr ⟨(sm_rem_bt (by omega) r).2 ⟨e1, e⟩, e2⟩
theorem sm_V_put (V : sm_V pr a1 a2 a3 a4 row) {q k h p n : Nat} (hq : q < 5) (hk : k < 3) (hh : h < 4) (hp : p < 16) (hn : n < 16) :
    sm_V (pr ||| ((1 : Int32) <<< (nI q &&& 31))) (upd a1 q (nI k)) (upd a2 q (nI (if k = 2 then 0 else h))) (upd a3 q (nI p)) (upd a4 q (nI n)) (sm_put row q (nI (sm_cd k h p n))) := by
  have hc : sm_cd k h p n < 4096 := by
    unfold sm_cd
    omega
  have hx : (if k = 2 then 0 else h) < 4 := by split <;> omega
  have o := sm_orB pr (show q < 32 by omega)
  refine ⟨fun r hr => ?_, fun r hr => sm_nf (fun z => ?_), fun r hr => ?_⟩
  · by_cases e : r = q
    · subst e
      unfold sm_h
      rw [pk_us, pk_us, pk_us, nI_clamp (by omega)]
      exact ⟨⟨rfl, by omega⟩, fun j hj => sm_bnd (c := 6) (by omega) hj, fun j hj => sm_bnd (c := 6) (by omega) hj⟩
    · unfold sm_h
      rw [pk_un e, pk_un e, pk_un e]
      exact V.1 r hr
  · rcases (o r).1 z with y | y
    · exact absurd y (sm_ft (V.2.1 r hr))
    · omega
  · unfold sm_Vr
    rw [sm_put_rl row hc hq hr]
    by_cases e : r = q
    · subst e
      rw [if_pos rfl, pk_us, pk_us, pk_us, pk_us]
      exact Or.inr ⟨(o r).2 (Or.inr rfl), k, h, p, n, hk, hh, hp, hn, rfl, rfl, rfl, rfl, rfl⟩
    · rw [if_neg e, pk_un e, pk_un e, pk_un e, pk_un e]
      rcases V.2.2 r hr with ⟨e1, e2⟩ | ⟨e1, e2⟩
      · refine Or.inl ⟨sm_nf (fun z => ?_), e2⟩
        rcases (o r).1 z with y | y
        · exact absurd y (sm_ft e1)
        · exact e y
      · exact Or.inr ⟨(o r).2 (Or.inl e1), e2⟩
end
end
section
section
variable {pr i o b v kn : Int32} {ms row : Int64} {a1 a2 a3 a4 a5 a6 a7 a8 : Nat → Int32}
/-! ===== the law's own methods ===== -/
theorem sm_rule {post : Int32 → Prop} {q : Nat} (h : post (sm_rl row q)) : wpL_rule post () row (nI q) := h
theorem sm_andbit {m : Int32} {h : Nat} (hh : h < 32) : (m &&& ((1 : Int32) <<< (nI h &&& 31))) = 0 ↔ bt m h = false := by
  rw [sm_and0]
  constructor
  · intro z
    exact sm_nf (fun y => z h y (by rw [sm_bit hh]; exact decide_eq_true rfl))
  · intro z j hj hb
    rw [sm_bit hh, decide_eq_true_iff] at hb
    rw [hb, z] at hj
    exact absurd hj (by decide)
theorem sm_l14 {post : Int32 → Prop} {J5 : Int32 → Int32 → Prop} {s0 m : Int32} {j : Nat} (V : sm_V pr a1 a2 a3 a4 row) (h : sm_O (sm_E pr a1 a2 a4 m) (sm_h a2) a3 4 s0 j)
    (H : ∀ s, sm_O (sm_E pr a1 a2 a4 m) (sm_h a2) a3 4 s (j + 1) → J5 s (nI (j + 1))) : ∃ n, wL_support_14 post J5 row m (nI j) n s0 0 := by
  refine pk_loop (σ := Int32) (fun n r s => wL_support_14 post J5 row m (nI j) n s (nI r)) (fun r s => sm_I (sm_E pr a1 a2 a4 m) (sm_h a2) a3 4 s0 s r) 5 0 s0 (by omega) (sm_I_0 h)
    (fun n s hs => pk_le 5 5 (fun _ => nm_r (nI_1 j) (H s (sm_I_R h hs (fun r hr => sm_V_lt V hr.2.1)))) (fun z => absurd z (by omega))) ?_
  intro n r s hr hs hw
  show wL_support_14 post J5 row m (nI j) (n + 1) s (nI r)
  have hno : ∀ x6 x8 : Int32, ¬ (sm_E pr a1 a2 a4 m r ∧ sm_sub (a3 r) s) → wL_support_78 post J5 (wL_support_14 post J5 row m (nI j) n) row m s (nI j) (nI r) x6 x8 :=
    fun x6 x8 hn => br_t rfl (nm_r (nI_1 r) (hw s (sm_I_no hs hn)))
  refine pk_le 5 r (fun z => absurd z (by omega)) (fun _ => sm_rule ?_)
  rcases V.2.2 r hr with ⟨e1, e2⟩ | ⟨e1, k, h', p, n', hk, hh, hp, hn, q1, q2, q3, q4, e⟩
  · rw [e2]
    refine nm_r (show ((0 : Int32) &&& 3) - 1 = -1 by decide +kernel) (nm_e (br_f (by decide) (br_f (by decide) (hno _ _ (fun t => absurd t.1.2.1 (sm_ft e1))))))
  · obtain ⟨d1, d2, d3, d4⟩ := sm_dec hk hh hp hn
    rw [e, d1, d2, nI_pred]
    refine nm_e (nm_e ?_)
    have h64 : k ≠ 2 → (k = 0 ∨ bt m h' = true) → wL_support_64 post J5 (wL_support_14 post J5 row m (nI j) n) row m s (nI j) (nI r) (nI (sm_cd k h' p n')) ((1 : Int32) <<< (nI h' &&& 31)) := by
      intro k2 hkk
      rw [if_neg k2] at q2
      have hd : sm_h a2 r = h' := by
        unfold sm_h
        rw [q2, nI_clamp (by omega)]
      unfold wL_support_64
      rw [d4, ← q4]
      refine br_c (fun f1 => ?_) (fun f1 => hno _ _ (fun t => f1 (sm_and0.2 t.1.2.2.2.1)))
      have hE : sm_E pr a1 a2 a4 m r := by
        refine ⟨by omega, e1, fun z => ?_, sm_and0.1 f1, ?_⟩
        · rw [q1] at z
          exact k2 ((nI_eq (b := 2) (by omega) (by omega)).1 z)
        · rcases hkk with z | z
          · refine Or.inl ?_
            rw [q1, z]
            rfl
          · refine Or.inr ?_
            rw [hd]
            exact z
      unfold wL_support_79
      rw [d3, ← q3]
      refine br_f (by decide) (br_c (fun f2 => nm_e (nm_r (nI_1 r) ?_)) (fun f2 => nm_r (nI_1 r) (hw s (sm_I_no hs (fun t => f2 (sm_sub0.2 t.2))))))
      have t := sm_I_yes hs hE (sm_sub0.1 f2) (by rw [hd]; exact hh) (by omega)
      rw [hd] at t
      exact hw _ t
    refine pk_eq k 0 (fun k0 => h64 (by omega) (Or.inl k0)) (fun k0 => pk_eq k 1 (fun k1 => br_c (fun g => hno _ _ (fun t => ?_)) (fun g => h64 (by omega) (Or.inr ?_))) (fun k1 => hno _ _ (fun t => t.1.2.2.1 ?_)))
    · rw [if_neg (by omega)] at q2
      have hd : sm_h a2 r = h' := by
        unfold sm_h
        rw [q2, nI_clamp (by omega)]
      rcases t.1.2.2.2.2 with z | z
      · rw [q1] at z
        exact k0 ((nI_eq (b := 0) (by omega) (by omega)).1 z)
      · rw [hd, (sm_andbit (by omega)).1 g] at z
        exact absurd z (by decide)
    · cases z : bt m h'
      · exact (g ((sm_andbit (by omega)).2 z)).elim
      · rfl
    · rw [q1, show k = 2 by omega]
      rfl
theorem sm_lsupport {post : Int32 → Prop} {m : Int32} (V : sm_V pr a1 a2 a3 a4 row) (H : ∀ f, (∀ j, bt f j = true ↔ sm_L (sm_E pr a1 a2 a4 m) (sm_h a2) a3 j) → post f) : wpL_support post () row m :=
  pk_loop (σ := Int32) (fun n j s => wL_support_5 post row m n s (nI j)) (fun j s => sm_O (sm_E pr a1 a2 a4 m) (sm_h a2) a3 4 s j) 4 0 0 (by omega) (sm_O_0 _ _ _ _)
    (fun n s h => pk_le 4 4 (fun _ => H s (sm_O_c h (fun r hr => sm_V_hd V hr.2.1))) (fun z => absurd z (by omega)))
    (fun n j s hj h hw => pk_le 4 j (fun z => absurd z (by omega)) (fun _ => sm_l14 V h (fun s' h' => hw s' h')))
def sm_Bn (pr : Int32) (a1 a3 a4 : Nat → Int32) (m : Int32) (q : Nat) : Prop := bt pr q = true → a1 q = 2 → sm_sub (a3 q) m → sm_dj (a4 q) m → False
theorem sm_l18 {post : Int32 → Prop} {m s0 : Int32} {P0 : Prop} (V : sm_V pr a1 a2 a3 a4 row) (hs0 : s0 = 1 ∧ P0 ∨ s0 = 0 ∧ ¬ P0)
    (h1 : P0 → (∀ q, q < 5 → sm_Bn pr a1 a3 a4 m q) → post 1) (h0 : ¬ (P0 ∧ ∀ q, q < 5 → sm_Bn pr a1 a3 a4 m q) → post 0) : ∃ n, wL_stable_18 post row m n s0 0 := by
  refine pk_loop (σ := Int32) (fun n r s => wL_stable_18 post row m n s (nI r)) (fun r s => s = 1 ∧ (P0 ∧ ∀ q, q < r → sm_Bn pr a1 a3 a4 m q) ∨ s = 0 ∧ ¬ (P0 ∧ ∀ q, q < r → sm_Bn pr a1 a3 a4 m q)) 5 0 s0 (by omega) ?_ ?_ ?_
  · rcases hs0 with z | z
    · exact Or.inl ⟨z.1, z.2, fun q hq => absurd hq (by omega)⟩
    · exact Or.inr ⟨z.1, fun t => z.2 t.1⟩
  · intro n s hs
    rcases hs with ⟨e, z⟩ | ⟨e, z⟩
    · subst e
      exact pk_le 5 5 (fun _ => ⟨rfl, h1 z.1 z.2⟩) (fun z => absurd z (by omega))
    · subst e
      exact pk_le 5 5 (fun _ => ⟨rfl, h0 z⟩) (fun z => absurd z (by omega))
  · intro n r s hr hs hw
    show wL_stable_18 post row m (n + 1) s (nI r)
    refine pk_le 5 r (fun z => absurd z (by omega)) (fun _ => sm_rule ?_)
    rcases hs with ⟨es, z⟩ | ⟨es, z⟩
    · subst es
      have g1 : sm_Bn pr a1 a3 a4 m r → wL_stable_18 post row m n 1 (nI (r + 1)) := by
        intro hB
        refine hw 1 (Or.inl ⟨rfl, z.1, fun q hq => ?_⟩)
        by_cases e : q = r
        · rw [e]
          exact hB
        · exact z.2 q (by omega)
      have g0 : ¬ sm_Bn pr a1 a3 a4 m r → wL_stable_18 post row m n 0 (nI (r + 1)) :=
        fun hB => hw 0 (Or.inr ⟨rfl, fun t => hB (t.2 r (by omega))⟩)
      refine br_f (by decide) ?_
      rcases V.2.2 r hr with ⟨e1, e2⟩ | ⟨e1, k, h', p, n', hk, hh, hp, hn, q1, q2, q3, q4, e⟩
      · rw [e2]
        exact br_f (by decide +kernel) (nm_r (nI_1 r) (g1 (fun y => absurd y (sm_ft e1))))
      · obtain ⟨d1, d2, d3, d4⟩ := sm_dec hk hh hp hn
        rw [e, d1, d3, d4, ← q3, ← q4]
        refine pk_eq (k + 1) 3 (fun k2 => br_c (fun f1 => br_c (fun f2 => nm_r (nI_1 r) (g0 (fun y => y e1 ?_ (sm_sub0.1 f1) (sm_and0.1 f2)))) (fun f2 => nm_r (nI_1 r) (g1 (fun _ _ _ y => f2 (sm_and0.2 y))))) (fun f1 => nm_r (nI_1 r) (g1 (fun _ _ y _ => f1 (sm_sub0.2 y))))) (fun k2 => nm_r (nI_1 r) (g1 (fun _ y _ _ => ?_)))
        · rw [q1, show k = 2 by omega]
          rfl
        · rw [q1] at y
          exact k2 (by rw [(nI_eq (b := 2) (by omega) (by omega)).1 y])
    · subst es
      exact br_t rfl (nm_r (nI_1 r) (hw 0 (Or.inr ⟨rfl, fun t => z ⟨t.1, fun q hq => t.2 q (by omega)⟩⟩)))
theorem sm_lstable {post : Int32 → Prop} {m : Int32} (V : sm_V pr a1 a2 a3 a4 row) (h1 : sm_St pr a1 a2 a3 a4 m → post 1) (h0 : ¬ sm_St pr a1 a2 a3 a4 m → post 0) : wpL_stable post () row m := by
  refine sm_lsupport V (fun f hf => ?_)
  have e1 : f = m → (∀ q, q < 5 → sm_Bn pr a1 a3 a4 m q) → post 1 := by
    intro e hb
    refine h1 ⟨fun j => by rw [← e]; exact (hf j).trans (by rw [e]), fun r _ hp => hb r (sm_V_lt V hp) hp⟩
  have e0 : ¬ (f = m ∧ ∀ q, q < 5 → sm_Bn pr a1 a3 a4 m q) → post 0 := by
    intro hn
    refine h0 (fun hS => hn ⟨sm_same (fun j => (hf j).trans (hS.1 j).symm), fun q hq hp => hS.2 q (by omega) hp⟩)
  exact br_c (fun e => sm_l18 (P0 := f = m) V (Or.inl ⟨rfl, e⟩) e1 e0) (fun e => sm_l18 (P0 := f = m) V (Or.inr ⟨rfl, e⟩) e1 e0)
theorem sm_list {post : Int32 → Prop} (V : sm_V pr a1 a2 a3 a4 row) (H : ∀ s, (∀ j, bt s j = true ↔ j < 16 ∧ sm_St pr a1 a2 a3 a4 (nI j)) → post s) : wpL_list post () row := by
  refine pk_loop (σ := Int32) (fun n j s => wL_list_4 post row n s (nI j)) (fun j s => ∀ t, bt s t = true ↔ t < j ∧ sm_St pr a1 a2 a3 a4 (nI t)) 16 0 0 (by omega) (fun t => ⟨fun z => absurd z (sm_b0 t), fun z => absurd z.1 (by omega)⟩)
    (fun n s hs => pk_le 16 16 (fun _ => H s hs) (fun z => absurd z (by omega))) ?_
  intro n j s hj hs hw
  show wL_list_4 post row (n + 1) s (nI j)
  refine pk_le 16 j (fun z => absurd z (by omega)) (fun _ => sm_lstable V (fun hS => br_f (by decide) (nm_e (nm_r (nI_1 j) (hw _ (fun t => ?_))))) (fun hS => br_t rfl (nm_r (nI_1 j) (hw s (fun t => ?_)))))
  · rw [sm_orB s (by omega), hs t]
    constructor
    · intro y
      rcases y with y | y
      · exact ⟨by omega, y.2⟩
      · rw [y]
        exact ⟨by omega, hS⟩
    · intro y
      by_cases e : t = j
      · exact Or.inr e
      · exact Or.inl ⟨by omega, y.2⟩
  · rw [hs t]
    refine ⟨fun y => ⟨by omega, y.2⟩, fun y => ⟨?_, y.2⟩⟩
    by_cases e : t = j
    · rw [e] at y
      exact (hS y.2).elim
    · omega
/-! ===== counts, and the two lists ===== -/
theorem sm_count {all : Int32} (V : sm_V pr a1 a2 a3 a4 row) (hm : sm_Mo pr a1 a2 a3 a4 ms) (ha : ∀ j, bt all j = true ↔ j < 16 ∧ sm_St pr a1 a2 a3 a4 (nI j)) : sm_N ms 64 = sm_c all 16 := by
  have t1 : ∀ j, j ≤ 16 → sm_N ms j = sm_c all j := by
    intro j
    induction j with
    | zero =>
      intro _
      rfl
    | succ j ih =>
      intro hj
      show sm_N ms j + (sm_B ms j).toNat = sm_c all j + (bt all j).toNat
      have e : sm_B ms j = bt all j := by
        cases hb : bt all j
        · refine sm_nf (fun z => ?_)
          rw [(ha j).2 ⟨by omega, (hm j (by omega)).1 z⟩] at hb
          exact absurd hb (by decide)
        · exact (hm j (by omega)).2 ((ha j).1 hb).2
      rw [ih (by omega), e]
  have t2 : ∀ d, d ≤ 48 → sm_N ms (16 + d) = sm_N ms 16 := by
    intro d
    induction d with
    | zero =>
      intro _
      rfl
    | succ d ih =>
      intro hd
      show sm_N ms (16 + d) + (sm_B ms (16 + d)).toNat = sm_N ms 16
      have e : sm_B ms (16 + d) = false := by
        refine sm_nf (fun z => ?_)
        have t := sm_V_16 V (by omega) ((hm (16 + d) (by omega)).1 z)
        omega
      rw [ih (by omega), e]
      rfl
  rw [← t1 16 (by omega), ← t2 48 (by omega)]
theorem sm_two {pr' : Int32} {row' ms1 ms2 : Int64} {al wo : Int32} (V : sm_V pr a1 a2 a3 a4 row) (V' : sm_V pr' a1 a2 a3 a4 row') (m1 : sm_Mo pr a1 a2 a3 a4 ms1) (m2 : sm_Mo pr' a1 a2 a3 a4 ms2)
    (ha : ∀ j, bt al j = true ↔ j < 16 ∧ sm_St pr a1 a2 a3 a4 (nI j)) (hw : ∀ j, bt wo j = true ↔ j < 16 ∧ sm_St pr' a1 a2 a3 a4 (nI j)) : ms1 = ms2 ↔ wo = al := by
  constructor
  · intro e
    apply sm_same
    intro j
    rw [ha j, hw j]
    refine ⟨fun z => ⟨z.1, (m1 j (by omega)).1 ?_⟩, fun z => ⟨z.1, (m2 j (by omega)).1 ?_⟩⟩
    · rw [e]
      exact (m2 j (by omega)).2 z.2
    · rw [← e]
      exact (m1 j (by omega)).2 z.2
  · intro e
    apply Int64.toBitVec_inj.1
    apply BitVec.eq_of_getLsbD_eq
    intro j hj
    show sm_B ms1 j = sm_B ms2 j
    have t1 : sm_B ms1 j = true → sm_B ms2 j = true := by
      intro z
      have s1 := (m1 j hj).1 z
      have s2 := (ha j).2 ⟨sm_V_16 V hj s1, s1⟩
      rw [← e] at s2
      exact (m2 j hj).2 ((hw j).1 s2).2
    have t2 : sm_B ms2 j = true → sm_B ms1 j = true := by
      intro z
      have s1 := (m2 j hj).1 z
      have s2 := (hw j).2 ⟨sm_V_16 V' hj s1, s1⟩
      rw [e] at s2
      exact (m1 j hj).2 ((ha j).1 s2).2
    cases z : sm_B ms2 j
    · refine sm_nf (fun y => ?_)
      rw [t1 y] at z
      exact absurd z (by decide)
    · exact t2 z
end
end
section
section
variable {pr i o b v kn : Int32} {ms row : Int64} {a1 a2 a3 a4 a5 a6 a7 a8 : Nat → Int32} {post : Int32 → Prop} {L : Nat} {xs : Nat → Int32} {kc ks : Nat} {x4 x6 : Int32} {q : Nat}
theorem sm_353 {J13} {M0 : Nat} {al z0 : Int32} (V : sm_V pr a1 a2 a3 a4 row) (hk : ¬ kn = 0 → sm_Mo pr a1 a2 a3 a4 ms) (hq : q < 5) (hM : M0 < 16) (ha : ∀ j, bt al j = true ↔ j < 16 ∧ sm_St pr a1 a2 a3 a4 (nI j))
    (hz : z0 = 0 ∧ bt pr q = false ∨ z0 = 1 ∧ bt pr q = true)
    (HJ : ∀ i' o' b' v' kn' ms' b5 b6 b7 b8, (¬ kn' = 0 → sm_Mo pr a1 a2 a3 a4 ms') → J13 row (x4 + 1) pr i' o' b' v' kn' ms' a1 a2 a3 a4 b5 b6 b7 b8) :
    wL_law_353 post L xs J13 row x4 (nI q) al (nI M0) (nI (sm_c al 16)) z0 kc ks pr i o b v kn ms a1 a2 a3 a4 a5 a6 a7 a8 := by
  have V' := sm_V_rem V hq
  refine sm_list V' (fun wo hwo => ?_)
  refine sm_models V.1 hk (fun i1 o1 b1 v1 kn1 ms1 b5 b6 b7 b8 hn hm => br_t (by rw [sm_count V hm ha]) ?_)
  refine sm_support V.1 (by omega) (fun f hf => sm_lsupport V (fun f' hf' => br_t (sm_same (fun j => (hf j).trans (hf' j).symm)) ?_))
  refine sm_matters V.1 (fun _ => hm) (by omega) (fun hp => ?_) (fun hp i2 o2 b2 v2 m1 m2 c5 c6 c7 c8 r h1 h2 hr => ?_)
  · rcases hz with z | z
    · exact br_t z.1 (br_t rfl (nm_e (HJ _ _ _ _ _ _ _ _ _ _ (fun _ => hm))))
    · exact absurd z.2 (sm_ft hp)
  · have hJ := HJ i2 o2 b2 v2 0 m2 c5 c6 c7 c8 (fun z => absurd rfl z)
    rcases hz with z | z
    · exact absurd hp (sm_ft z.2)
    · have e := sm_two V V' h1 h2 ha hwo
      refine br_f (by rw [z.1]; decide) (br_c (fun g => ?_) (fun g => ?_))
      · rcases hr with y | y
        · exact br_t y.1 (nm_e hJ)
        · exact absurd (e.2 g) y.2
      · rcases hr with y | y
        · exact absurd (e.1 y.2) g
        · exact br_t y.1 (nm_e hJ)
theorem sm_287 {J13} {M0 : Nat} {al : Int32} (V : sm_V pr a1 a2 a3 a4 row) (hk : ¬ kn = 0 → sm_Mo pr a1 a2 a3 a4 ms) (hq : q < 5) (hM : M0 < 16) (ha : ∀ j, bt al j = true ↔ j < 16 ∧ sm_St pr a1 a2 a3 a4 (nI j))
    (HJ : ∀ i' o' b' v' kn' ms' b5 b6 b7 b8, (¬ kn' = 0 → sm_Mo pr a1 a2 a3 a4 ms') → J13 row (x4 + 1) pr i' o' b' v' kn' ms' a1 a2 a3 a4 b5 b6 b7 b8) :
    ∃ n, wL_law_287 post L xs J13 row x4 (nI q) al (nI M0) kc ks n 0 0 pr i o b v kn ms a1 a2 a3 a4 a5 a6 a7 a8 := by
  refine pk_loop (σ := (Int32 × Int32 × Int32 × Int32) × Int32 × Int64 × (Nat → Int32) × (Nat → Int32) × (Nat → Int32) × (Nat → Int32))
    (fun n j s => wL_law_287 post L xs J13 row x4 (nI q) al (nI M0) kc ks n (nI (sm_c al j)) (nI j) pr s.1.1 s.1.2.1 s.1.2.2.1 s.1.2.2.2 s.2.1 s.2.2.1 a1 a2 a3 a4 s.2.2.2.1 s.2.2.2.2.1 s.2.2.2.2.2.1 s.2.2.2.2.2.2)
    (fun j s => ¬ s.2.1 = 0 → sm_Mo pr a1 a2 a3 a4 s.2.2.1) 16 0 ((i, o, b, v), kn, ms, a5, a6, a7, a8) (by omega) hk ?_ ?_
  · intro n s hs
    obtain ⟨⟨i1, o1, b1, v1⟩, kn1, ms1, b5, b6, b7, b8⟩ := s
    dsimp only at hs
    show wL_law_287 post L xs J13 row x4 (nI q) al (nI M0) kc ks (n + 1) (nI (sm_c al 16)) (nI 16) pr i1 o1 b1 v1 kn1 ms1 a1 a2 a3 a4 b5 b6 b7 b8
    refine pk_le 16 16 (fun _ => sm_rule (br_c (fun e => sm_353 V hs hq hM ha (Or.inl ⟨rfl, (sm_V_z V hq).1 e⟩) HJ) (fun e => sm_353 V hs hq hM ha (Or.inr ⟨rfl, ?_⟩) HJ))) (fun z => absurd z (by omega))
    cases z : bt pr q
    · exact (e ((sm_V_z V hq).2 z)).elim
    · rfl
  · intro n j s hj hs hw
    obtain ⟨⟨i1, o1, b1, v1⟩, kn1, ms1, b5, b6, b7, b8⟩ := s
    dsimp only at hs
    show wL_law_287 post L xs J13 row x4 (nI q) al (nI M0) kc ks (n + 1) (nI (sm_c al j)) (nI j) pr i1 o1 b1 v1 kn1 ms1 a1 a2 a3 a4 b5 b6 b7 b8
    refine pk_le 16 j (fun z => absurd z (by omega)) (fun _ => ?_)
    rw [sm_val al (show j < 32 by omega), nI_add]
    refine nm_e (sm_stable V.1 hs (by omega) (fun i2 o2 b2 v2 kn2 ms2 c5 c6 c7 c8 r hn hm hr => ?_))
    have hJ := hw ((i2, o2, b2, v2), kn2, ms2, c5, c6, c7, c8) (fun _ => hm)
    have hJ' : wL_law_287 post L xs J13 row x4 (nI q) al (nI M0) kc ks n (nI (sm_c al j + (bt al j).toNat)) (nI (j + 1)) pr i2 o2 b2 v2 kn2 ms2 a1 a2 a3 a4 c5 c6 c7 c8 := hJ
    rcases hr with ⟨e, hS⟩ | ⟨e, hS⟩
    · have hb : bt al j = true := (ha j).2 ⟨hj, hS⟩
      rw [hb] at hJ'
      refine br_t (by rw [hb]; rfl) (br_t e (nm_r (nI_1 j) ?_))
      rw [hb]
      exact hJ'
    · have hb : bt al j = false := sm_nf (fun z => hS ((ha j).1 z).2)
      rw [hb] at hJ'
      refine br_f (by rw [hb]; decide +kernel) (br_t e (nm_r (nI_1 j) ?_))
      rw [hb]
      exact hJ'
theorem sm_265 {J13} (V : sm_V pr a1 a2 a3 a4 row) (hk : ¬ kn = 0 → sm_Mo pr a1 a2 a3 a4 ms) (hq : q < 5)
    (HJ : ∀ i' o' b' v' kn' ms' b5 b6 b7 b8, (¬ kn' = 0 → sm_Mo pr a1 a2 a3 a4 ms') → J13 row (x4 + 1) pr i' o' b' v' kn' ms' a1 a2 a3 a4 b5 b6 b7 b8) :
    wL_law_265 post L xs J13 row x4 x6 (nI q) kc ks pr i o b v kn ms a1 a2 a3 a4 a5 a6 a7 a8 := by
  obtain ⟨M0, hM, e⟩ := pk_andE (x6 >>> ((9 : Int32) &&& 31)) (m := 15) 4 (by decide +kernel)
  exact sm_list V (fun al ha => nm_r e (sm_287 V hk hq hM ha HJ))
theorem sm_220 {J13} (V : sm_V pr a1 a2 a3 a4 row) (hk : ¬ kn = 0 → sm_Mo pr a1 a2 a3 a4 ms) (hq : q < 5)
    (HJ : ∀ row' pr' i' o' b' v' kn' ms' c1 c2 c3 c4 c5 c6 c7 c8, sm_V pr' c1 c2 c3 c4 row' → (¬ kn' = 0 → sm_Mo pr' c1 c2 c3 c4 ms') → J13 row' (x4 + 1) pr' i' o' b' v' kn' ms' c1 c2 c3 c4 c5 c6 c7 c8) :
    wL_law_220 post L xs J13 row x4 x6 (nI q) kc ks pr i o b v kn ms a1 a2 a3 a4 a5 a6 a7 a8 := by
  have V' := sm_V_rem V hq
  refine sm_remove (by omega) (fun hp => sm_rule ?_) (fun hp => sm_rule ?_)
  · refine br_t ((sm_V_z V hq).2 hp) (br_t rfl (nm_e ?_))
    rw [sm_rem_no (by omega) hp] at V'
    exact sm_265 (row := sm_clr row q) V' hk hq (fun i' o' b' v' kn' ms' b5 b6 b7 b8 hm => HJ _ _ _ _ _ _ _ _ _ _ _ _ _ _ _ _ V' hm)
  · refine br_f (fun z => absurd hp (sm_ft ((sm_V_z V hq).1 z))) (br_t rfl (nm_e ?_))
    exact sm_265 (row := sm_clr row q) V' (fun z => absurd rfl z) hq (fun i' o' b' v' kn' ms' b5 b6 b7 b8 hm => HJ _ _ _ _ _ _ _ _ _ _ _ _ _ _ _ _ V' hm)
theorem sm_133 {J13} {x5 : Int32} {k h p n f : Nat} (V : sm_V pr a1 a2 a3 a4 row) (hk : ¬ kn = 0 → sm_Mo pr a1 a2 a3 a4 ms) (hq : q < 5) (h1 : k < 3) (h2 : h < 4) (h3 : p < 16) (h4 : n < 16) (hf : f ≤ 5)
    (hlo : ∀ j, j < f → bt pr j = true) (hfr : f < 5 → bt pr f = false)
    (HJ : ∀ row' pr' i' o' b' v' kn' ms' c1 c2 c3 c4 c5 c6 c7 c8, sm_V pr' c1 c2 c3 c4 row' → (¬ kn' = 0 → sm_Mo pr' c1 c2 c3 c4 ms') → J13 row' (x4 + 1) pr' i' o' b' v' kn' ms' c1 c2 c3 c4 c5 c6 c7 c8) :
    wL_law_133 post L xs J13 row x4 x5 x6 (nI k) (nI h) (nI p) (nI n) (nI q) (nI f) kc ks pr i o b v kn ms a1 a2 a3 a4 a5 a6 a7 a8 := by
  refine br_c (fun _ => sm_220 V hk hq HJ) (fun _ => pk_le 5 f (fun _ => sm_220 V hk hq HJ) (fun z => ?_))
  have V' := sm_V_put V z h1 h2 h3 h4
  refine sm_add h1 (by omega) (by omega) (by omega) (by omega) hlo (hfr z) (br_t rfl ?_)
  rw [sm_enc h1 h2 h3 h4]
  refine nm_e (nm_e ?_)
  exact sm_265 (row := sm_put row f (nI (sm_cd k h p n))) V' (fun z => absurd rfl z) hq (fun i' o' b' v' kn' ms' b5 b6 b7 b8 hm => HJ _ _ _ _ _ _ _ _ _ _ _ _ _ _ _ _ V' hm)
theorem sm_109 {J13} {x5 : Int32} {k h p n : Nat} (V : sm_V pr a1 a2 a3 a4 row) (hk : ¬ kn = 0 → sm_Mo pr a1 a2 a3 a4 ms) (hq : q < 5) (h1 : k < 3) (h2 : h < 4) (h3 : p < 16) (h4 : n < 16)
    (HJ : ∀ row' pr' i' o' b' v' kn' ms' c1 c2 c3 c4 c5 c6 c7 c8, sm_V pr' c1 c2 c3 c4 row' → (¬ kn' = 0 → sm_Mo pr' c1 c2 c3 c4 ms') → J13 row' (x4 + 1) pr' i' o' b' v' kn' ms' c1 c2 c3 c4 c5 c6 c7 c8) :
    ∃ m, wL_law_109 post L xs J13 row x4 x5 x6 (nI k) (nI h) (nI p) (nI n) (nI q) kc ks pr i o b v kn ms a1 a2 a3 a4 a5 a6 a7 a8 m 0 := by
  refine pk_loop (σ := Unit) (fun m j _ => wL_law_109 post L xs J13 row x4 x5 x6 (nI k) (nI h) (nI p) (nI n) (nI q) kc ks pr i o b v kn ms a1 a2 a3 a4 a5 a6 a7 a8 m (nI j)) (fun f _ => ∀ j, j < f → bt pr j = true) 5 0 () (by omega) (fun j hj => absurd hj (by omega))
    (fun m _ hs => pk_le 5 5 (fun _ => sm_133 V hk hq h1 h2 h3 h4 (by omega) hs (fun z => absurd z (by omega)) HJ) (fun z => absurd z (by omega))) ?_
  intro m f _ hf hs hw
  show wL_law_109 post L xs J13 row x4 x5 x6 (nI k) (nI h) (nI p) (nI n) (nI q) kc ks pr i o b v kn ms a1 a2 a3 a4 a5 a6 a7 a8 (m + 1) (nI f)
  refine pk_le 5 f (fun z => absurd z (by omega)) (fun _ => sm_rule (br_c (fun e => sm_133 V hk hq h1 h2 h3 h4 (by omega) hs (fun _ => (sm_V_z V hf).1 e) HJ) (fun e => nm_r (nI_1 f) (hw () (fun j hj => ?_)))))
  by_cases z : j = f
  · rw [z]
    cases y : bt pr f
    · exact (e ((sm_V_z V hf).2 y)).elim
    · rfl
  · exact hs j (by omega)
end
theorem sm_V0 : sm_V 0 (fun _ => 0) (fun _ => 0) (fun _ => 0) (fun _ => 0) 0 := by
  refine ⟨fun r _ => ⟨⟨?_, ?_⟩, fun j hj => absurd hj (sm_b0 j), fun j hj => absurd hj (sm_b0 j)⟩, fun r _ => b_0 r, fun r hr => Or.inl ⟨b_0 r, (by decide +kernel : ∀ r, r < 5 → sm_rl 0 r = 0) r hr⟩⟩
  · show (0 : Int32) = nI (0 : Int32).toNatClampNeg
    rw [sb_cl0]
    rfl
  · show (0 : Int32).toNatClampNeg < 6
    rw [sb_cl0]
    omega
end
section
theorem sm_pn {x y : Int32} : ∃ p, p < 16 ∧ (x &&& 15) &&& (y &&& 15) = nI p := by
  refine Exists.elim (sm_nat (x := (x &&& 15) &&& (y &&& 15)) (c := 4) (fun j hj => ?_)) (fun n hn => ⟨n, hn.1, hn.2⟩)
  rw [b_and, b_and, Bool.and_eq_true, Bool.and_eq_true] at hj
  exact sm_bnd (n := 15) (c := 4) (by omega) hj.1.2
theorem sm_13 {L : Nat} {xs : Nat → Int32} {kc ks : Nat} (hL : L ≤ 260) (a5 a6 a7 a8 : Nat → Int32) : ∃ n, wL_law_13 (fun r => r = 1) L xs kc ks n 0 0 0 0 0 0 0 0 0 (fun _ => 0) (fun _ => 0) (fun _ => 0) (fun _ => 0) a5 a6 a7 a8 := by
  refine pk_loop (σ := Int64 × Int32 × (Int32 × Int32 × Int32 × Int32) × Int32 × Int64 × (Nat → Int32) × (Nat → Int32) × (Nat → Int32) × (Nat → Int32) × (Nat → Int32) × (Nat → Int32) × (Nat → Int32) × (Nat → Int32))
    (fun n j s => wL_law_13 (fun r => r = 1) L xs kc ks n s.1 (nI j) s.2.1 s.2.2.1.1 s.2.2.1.2.1 s.2.2.1.2.2.1 s.2.2.1.2.2.2 s.2.2.2.1 s.2.2.2.2.1 s.2.2.2.2.2.1 s.2.2.2.2.2.2.1 s.2.2.2.2.2.2.2.1 s.2.2.2.2.2.2.2.2.1 s.2.2.2.2.2.2.2.2.2.1 s.2.2.2.2.2.2.2.2.2.2.1 s.2.2.2.2.2.2.2.2.2.2.2.1 s.2.2.2.2.2.2.2.2.2.2.2.2)
    (fun j s => sm_V s.2.1 s.2.2.2.2.2.1 s.2.2.2.2.2.2.1 s.2.2.2.2.2.2.2.1 s.2.2.2.2.2.2.2.2.1 s.1 ∧ (¬ s.2.2.2.1 = 0 → sm_Mo s.2.1 s.2.2.2.2.2.1 s.2.2.2.2.2.2.1 s.2.2.2.2.2.2.2.1 s.2.2.2.2.2.2.2.2.1 s.2.2.2.2.1)) L 0
    (0, 0, (0, 0, 0, 0), 0, 0, (fun _ => 0), (fun _ => 0), (fun _ => 0), (fun _ => 0), a5, a6, a7, a8) (by omega) ⟨sm_V0, fun z => absurd rfl z⟩ ?_ ?_
  · intro n s hs
    exact pk_le L L (fun _ => rfl) (fun z => absurd z (by omega))
  · intro n j s hj hs hw
    obtain ⟨row, pr, ⟨i, o, b, v⟩, kn, ms, a1, a2, a3, a4, a5, a6, a7, a8⟩ := s
    obtain ⟨V, hk⟩ := hs
    dsimp only at V hk
    show wL_law_13 (fun r => r = 1) L xs kc ks (n + 1) row (nI j) pr i o b v kn ms a1 a2 a3 a4 a5 a6 a7 a8
    refine pk_le L j (fun z => absurd z (by omega)) (fun _ => ⟨pk_in j L hj, nm_e ⟨pk_in j L hj, nm_e ⟨by decide, ?_⟩⟩⟩)
    generalize (xs (nI j).toNatClampNeg) >>> ((4 : Int32) &&& 31) = x6
    generalize (xs (nI j).toNatClampNeg) &&& 15 = x5
    obtain ⟨k, hk1, e1⟩ : ∃ k, k < 3 ∧ (x6 &&& 255) - (x6 &&& 255) / 3 * 3 = nI k := by
      obtain ⟨t, ht, e⟩ := pk_andE x6 (m := 255) 8 (by decide +kernel)
      rw [e]
      exact ⟨t % 3, Nat.mod_lt _ (by omega), pk_rem (a := t) (d := 3) (by omega) (by omega) (by omega)⟩
    obtain ⟨h, hh1, e2⟩ := pk_andE (x6 >>> ((8 : Int32) &&& 31)) (m := 3) 2 (by decide +kernel)
    obtain ⟨p, hp1, e3⟩ := sm_pn (x := x6 >>> ((10 : Int32) &&& 31)) (y := x6 >>> ((14 : Int32) &&& 31))
    obtain ⟨n', hn1, e4⟩ := sm_pn (x := x6 >>> ((18 : Int32) &&& 31)) (y := x6 >>> ((22 : Int32) &&& 31))
    obtain ⟨q, hq1, e5⟩ : ∃ k, k < 5 ∧ ((x6 >>> ((3 : Int32) &&& 31)) &&& 255) - ((x6 >>> ((3 : Int32) &&& 31)) &&& 255) / 5 * 5 = nI k := by
      obtain ⟨t, ht, e⟩ := pk_andE (x6 >>> ((3 : Int32) &&& 31)) (m := 255) 8 (by decide +kernel)
      rw [e]
      exact ⟨t % 5, Nat.mod_lt _ (by omega), pk_rem (a := t) (d := 5) (by omega) (by omega) (by omega)⟩
    refine nm_r e1 (nm_r e2 (nm_r e3 (nm_r e4 ⟨by decide, nm_r e5 ?_⟩)))
    refine sm_109 V hk hq1 hk1 hh1 hp1 hn1 (fun row' pr' i' o' b' v' kn' ms' c1 c2 c3 c4 c5 c6 c7 c8 V' hm => ?_)
    rw [nI_1]
    exact hw (row', pr', (i', o', b', v'), kn', ms', c1, c2, c3, c4, c5, c6, c7, c8) ⟨V', hm⟩
theorem i_vc (xs : Nat → Int32) (L : Nat) (hL : L ≤ 260) : wpL_law (fun r => r = 1) L xs := by
  refine ⟨8, 72, by omega, by omega, ?_⟩
  refine ⟨by omega, by omega, by omega, by omega, by omega, by omega, by omega, by omega, by omega, by omega, by omega, by omega, by omega, by omega, by omega, by omega, ?_⟩
  exact sm_13 hL _ _ _ _
end
