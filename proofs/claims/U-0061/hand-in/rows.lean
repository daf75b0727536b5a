section
theorem pk_us {f : Nat → Int32} {k : Nat} {x : Int32} : upd f k x k = x := if_pos rfl
theorem pk_un {f : Nat → Int32} {k j : Nat} {x : Int32} (h : j ≠ k) : upd f k x j = f j := if_neg h
theorem pk_sub {a b : Nat} (h : b ≤ a) : nI a - nI b = nI (a - b) := by
  obtain ⟨c, rfl⟩ : ∃ c, a = c + b := ⟨a - b, by omega⟩
  rw [← nI_add, Int32.add_sub_cancel, Nat.add_sub_cancel]
theorem pk_m1 (n : Nat) : nI (n + 1) + (-1) = nI n := by
  rw [← nI_1, Int32.add_assoc, show (1 : Int32) + (-1) = 0 from rfl, Int32.add_zero]
theorem pk_mul (a b : Nat) : nI a * nI b = nI (a * b) := (Int32.ofNat_mul a b).symm
theorem pk_div {a d : Nat} (ha : a < 2 ^ 31) (h0 : 0 < d) (hd : d < 2 ^ 31) : nI a / nI d = nI (a / d) := by
  apply Int32.toInt_inj.mp
  rw [lg_idiv_nonneg (by rw [nI_toInt ha]; omega) (by rw [nI_toInt hd]; omega), nI_toInt ha, nI_toInt hd, nI_toInt (Nat.lt_of_le_of_lt (Nat.div_le_self a d) ha)]
  first | rfl | exact (Int.natCast_ediv _ _).symm
theorem pk_rem {a d : Nat} (ha : a < 2 ^ 31) (h0 : 0 < d) (hd : d < 2 ^ 31) : nI a - nI a / nI d * nI d = nI (a % d) := by
  rw [pk_div ha h0 hd, pk_mul, pk_sub (Nat.div_mul_le_self a d)]
  exact congrArg nI (by have := Nat.div_add_mod' a d; omega)
theorem pk_sub_toInt {a b : Nat} (ha : a < 2 ^ 30) (hb : b < 2 ^ 30) : (nI a - nI b).toInt = (a : Int) - b := by
  rw [Int32.toInt_sub, nI_toInt (by omega), nI_toInt (by omega)]
  exact Int.bmod_eq_of_le (by omega) (by omega)
theorem pk_sneg {a b : Nat} (hb : b < 2 ^ 30) (h : a < b) : nI a - nI b < 0 := by
  rw [Int32.lt_iff_toInt_lt, pk_sub_toInt (by omega) hb, show (0 : Int32).toInt = 0 from by decide]
  omega
theorem pk_ix (x : Int32) {n : Nat} (hn : n < 2 ^ 31) : x < 0 ∨ nI n ≤ x ∨ ∃ j : Nat, j < n ∧ x = nI j := by
  by_cases h : x < 0
  · exact Or.inl h
  · obtain ⟨j, hj, rfl⟩ := nI_of h
    by_cases h2 : j < n
    · exact Or.inr (Or.inr ⟨j, h2, rfl⟩)
    · exact Or.inr (Or.inl (nI_le (by omega) hj))
theorem pk_le {x y : Int32} {A B : Prop} (a b : Nat) (f : a ≤ b → A) (g : b < a → B) (hx : x = nI a := by rfl) (hy : y = nI b := by rfl) (ha : a < 2 ^ 31 := by omega) (hb : b < 2 ^ 31 := by omega) : (x ≤ y → A) ∧ (¬ x ≤ y → B) := by
  subst hx hy
  rw [nI_leI ha hb]
  exact ⟨f, fun z => g (by omega)⟩
theorem pk_lt {x y : Int32} {A B : Prop} (a b : Nat) (f : a < b → A) (g : b ≤ a → B) (hx : x = nI a := by rfl) (hy : y = nI b := by rfl) (ha : a < 2 ^ 31 := by omega) (hb : b < 2 ^ 31 := by omega) : (x < y → A) ∧ (¬ x < y → B) := by
  subst hx hy
  rw [nI_ltI ha hb]
  exact ⟨f, fun z => g (by omega)⟩
theorem pk_eq {x y : Int32} {A B : Prop} (a b : Nat) (f : a = b → A) (g : a ≠ b → B) (hx : x = nI a := by rfl) (hy : y = nI b := by rfl) (ha : a < 2 ^ 31 := by omega) (hb : b < 2 ^ 31 := by omega) : (x = y → A) ∧ (¬ x = y → B) := by
  subst hx hy
  rw [nI_eq ha hb]
  exact ⟨f, g⟩
theorem pk_in {x : Int32} (n N : Nat) (h : n < N) (hx : x = nI n := by rfl) (hN : N < 2 ^ 31 := by omega) : vp_in x N := by
  subst hx
  exact vp_in_nI h hN
theorem pk_cl {x : Int32} (n : Nat) (hx : x = nI n := by rfl) (h : n < 2 ^ 31 := by omega) : x.toNatClampNeg = n := by
  subst hx
  exact nI_clamp h
theorem pk_loop {σ : Type} (W : Nat → Nat → σ → Prop) (I : Nat → σ → Prop) (e i0 : Nat) (s : σ) (hi : i0 ≤ e) (h0 : I i0 s) (hx : ∀ n s, I e s → W (n + 1) e s)
    (hs : ∀ n i s, i < e → I i s → (∀ s', I (i + 1) s' → W n (i + 1) s') → W (n + 1) i s) : ∃ n, W n i0 s :=
  ⟨e + 1, loop_i W I e hx hs (e + 1) i0 s hi (by omega) h0⟩
theorem ek_if {c d A B : Prop} (e : c ↔ d) (f : d → A) (g : ¬ d → B) : (c → A) ∧ (¬ c → B) :=
  ⟨fun z => f (e.mp z), fun z => g (fun y => z (e.mpr y))⟩
theorem ek_v {α : Sort _} {P : α → Prop} {a b : α} (e : a = b) (h : P b) : P a := e ▸ h
def bt (x : Int32) (i : Nat) : Bool := x.toBitVec.getLsbD i
theorem b_ext {x y : Int32} (h : ∀ i, i < 32 → bt x i = bt y i) : x = y := Int32.toBitVec_inj.mp (BitVec.eq_of_getLsbD_eq (fun i hi => h i hi))
theorem b_or (x y : Int32) (i : Nat) : bt (x ||| y) i = (bt x i || bt y i) := by unfold bt; rw [Int32.toBitVec_or, BitVec.getLsbD_or]
theorem b_and (x y : Int32) (i : Nat) : bt (x &&& y) i = (bt x i && bt y i) := by unfold bt; rw [Int32.toBitVec_and, BitVec.getLsbD_and]
theorem b_xor (x y : Int32) (i : Nat) : bt (x ^^^ y) i = (bt x i ^^ bt y i) := by unfold bt; rw [Int32.toBitVec_xor, BitVec.getLsbD_xor]
theorem b_big {x : Int32} {i : Nat} (h : 32 ≤ i) : bt x i = false := BitVec.getLsbD_of_ge _ _ h
theorem b_m1 : ∀ i, i < 32 → bt (-1) i = true := by decide +kernel
theorem b_0 (i : Nat) : bt 0 i = false := BitVec.getLsbD_zero
theorem s_l : ∀ n, n < 32 → ((nI n &&& 31).toBitVec.smod 32).toNat = n := by decide +kernel
theorem b_shl (n : Nat) (hn : n < 32) (x : Int32) {i : Nat} (hi : i < 32) : bt (x <<< (nI n &&& 31)) i = (decide (n ≤ i) && bt x (i - n)) := by
  unfold bt
  rw [Int32.toBitVec_shiftLeft]
  show (x.toBitVec <<< ((nI n &&& 31).toBitVec.smod 32).toNat).getLsbD i = _
  rw [s_l n hn, BitVec.getLsbD_shiftLeft]
  rcases Nat.lt_or_ge i n with h | h
  · simp [h, Nat.not_le.mpr h]
  · simp [hi, h, Nat.not_lt.mpr h]
theorem b_sshr (n : Nat) (hn : n < 32) (x : Int32) {i : Nat} (hi : i < 32) : bt (x >>> (nI n &&& 31)) i = if n + i < 32 then bt x (n + i) else bt x 31 := by
  unfold bt
  rw [Int32.toBitVec_shiftRight]
  show (x.toBitVec.sshiftRight ((nI n &&& 31).toBitVec.smod 32).toNat).getLsbD i = _
  rw [s_l n hn, BitVec.getLsbD_sshiftRight, BitVec.msb_eq_getLsbD_last]
  simp [hi]
end
section
/-! bits of a mask -/
theorem ir_b1 : ∀ i, i < 32 → bt 1 i = decide (i = 0) := by decide +kernel
theorem ir_shl1 {n i : Nat} (hn : n < 32) (hi : i < 32) : bt ((1 : Int32) <<< (nI n &&& 31)) i = decide (i = n) := by
  rw [b_shl n hn 1 hi]
  by_cases h : i = n
  · subst h
    rw [Nat.sub_self, ir_b1 0 (by decide)]
    simp
  · by_cases h2 : n ≤ i
    · rw [ir_b1 _ (by omega), decide_eq_false (show ¬ i - n = 0 by omega), Bool.and_false, decide_eq_false h]
    · rw [decide_eq_false h2, Bool.false_and, decide_eq_false h]
theorem ir_has (m : Int32) {n : Nat} (hn : n < 32) : ((m >>> (nI n &&& 31)) &&& 1) = 0 ↔ bt m n = false := by
  have e : n + 0 < 32 := by omega
  constructor
  · intro h
    have h2 := b_and (m >>> (nI n &&& 31)) 1 0
    rw [h, b_0, b_sshr n hn m (by decide), ir_b1 0 (by decide), if_pos e] at h2
    simpa using h2.symm
  · intro h
    apply b_ext
    intro i hi
    rw [b_and, b_0, b_sshr n hn m hi, ir_b1 i hi]
    by_cases hz : i = 0
    · subst hz
      rw [if_pos e, Nat.add_zero, h, Bool.false_and]
    · rw [decide_eq_false hz, Bool.and_false]
theorem ir_hasv (m : Int32) {n : Nat} (hn : n < 32) : ((m >>> (nI n &&& 31)) &&& 1) = nI (if bt m n = true then 1 else 0) := by
  by_cases h : bt m n = true
  · rw [if_pos h]
    apply b_ext
    intro i hi
    have e : n + 0 < 32 := by omega
    show _ = bt 1 i
    rw [b_and, b_sshr n hn m hi, ir_b1 i hi]
    by_cases hz : i = 0
    · subst hz
      rw [if_pos e, Nat.add_zero, h, Bool.true_and]
    · rw [decide_eq_false hz, Bool.and_false]
  · rw [if_neg h]
    exact (ir_has m hn).mpr (by simpa using h)
theorem ir_bnot (x : Int32) {i : Nat} (hi : i < 32) : bt (x ^^^ (-1)) i = !bt x i := by
  rw [b_xor, b_m1 i hi, Bool.xor_true]
theorem ir_z {x : Int32} : x = 0 ↔ ∀ i, bt x i = false :=
  ⟨fun h i => by rw [h, b_0], fun h => b_ext (fun i _ => by rw [h, b_0])⟩
theorem ir_nz {x : Int32} : ¬ x = 0 ↔ ∃ i, bt x i = true := by
  rw [ir_z]
  constructor
  · intro h
    exact Classical.byContradiction fun z => h fun i => by
      cases hb : bt x i with
      | false => rfl
      | true => exact absurd ⟨i, hb⟩ z
  · rintro ⟨i, hi⟩ h
    rw [h i] at hi
    cases hi
theorem ir_b32 {x : Int32} {i : Nat} (h : bt x i = true) : i < 32 := by
  rcases Nat.lt_or_ge i 32 with z | z
  · exact z
  · rw [b_big z] at h; cases h
theorem ir_nf {x : Bool} (h : ¬ x = false) : x = true := by cases x with | false => exact absurd rfl h | true => rfl
theorem ir_nt {x : Bool} (h : ¬ x = true) : x = false := by cases x with | true => exact absurd rfl h | false => rfl
theorem ir_ft {x : Bool} (h : x = false) : ¬ x = true := by rw [h]; exact Bool.false_ne_true
/-! counts -/
def ir_ct (p : Nat → Bool) : Nat → Nat
  | 0 => 0
  | n + 1 => ir_ct p n + (if p n = true then 1 else 0)
theorem ir_ct_le (p : Nat → Bool) : ∀ n, ir_ct p n ≤ n
  | 0 => Nat.le_refl _
  | n + 1 => by
    have := ir_ct_le p n
    simp only [ir_ct]
    split <;> omega
theorem ir_ct_mono {p q : Nat → Bool} : ∀ {n : Nat}, (∀ i, i < n → p i = true → q i = true) → ir_ct p n ≤ ir_ct q n
  | 0, _ => Nat.le_refl _
  | n + 1, h => by
    have a := ir_ct_mono (p := p) (q := q) (n := n) (fun i hi => h i (by omega))
    have b := h n (by omega)
    simp only [ir_ct]
    by_cases hp : p n = true
    · rw [if_pos hp, if_pos (b hp)]; omega
    · rw [if_neg hp]; omega
theorem ir_ct_lt {p q : Nat → Bool} {a : Nat} (hp : p a = false) (hq : q a = true) : ∀ {n : Nat}, (∀ i, i < n → p i = true → q i = true) → a < n → ir_ct p n < ir_ct q n
  | 0, _, ha => absurd ha (by omega)
  | n + 1, h, ha => by
    simp only [ir_ct]
    rcases Nat.lt_or_ge a n with z | z
    · have x := ir_ct_lt hp hq (n := n) (fun i hi => h i (by omega)) z
      have b := h n (by omega)
      by_cases hn : p n = true
      · rw [if_pos hn, if_pos (b hn)]; omega
      · rw [if_neg hn]; omega
    · have e : a = n := by omega
      subst e
      have x := ir_ct_mono (p := p) (q := q) (n := a) (fun i hi => h i (by omega))
      rw [if_neg (ir_ft hp), if_pos hq]; omega
theorem ir_ct_congr {p q : Nat → Bool} : ∀ {n : Nat}, (∀ i, i < n → p i = q i) → ir_ct p n = ir_ct q n
  | 0, _ => rfl
  | n + 1, h => by
    simp only [ir_ct]
    rw [ir_ct_congr (n := n) (fun i hi => h i (by omega)), h n (by omega)]
theorem ir_ct_ext {p : Nat → Bool} {n : Nat} (h : ∀ i, n ≤ i → p i = false) : ∀ k, ir_ct p (n + k) = ir_ct p n
  | 0 => rfl
  | k + 1 => by
    show ir_ct p (n + k) + (if p (n + k) = true then 1 else 0) = _
    rw [if_neg (ir_ft (h (n + k) (by omega))), ir_ct_ext h k, Nat.add_zero]
theorem ir_ct0 {p : Nat → Bool} : ∀ {n : Nat}, ir_ct p n = 0 ↔ ∀ i, i < n → p i = false
  | 0 => ⟨fun _ i hi => absurd hi (by omega), fun _ => rfl⟩
  | n + 1 => by
    simp only [ir_ct]
    constructor
    · intro h i hi
      by_cases hp : p n = true
      · rw [if_pos hp] at h; omega
      · rcases Nat.lt_or_ge i n with z | z
        · exact (ir_ct0 (p := p) (n := n)).mp (by omega) i z
        · have e : i = n := by omega
          subst e
          exact ir_nt hp
    · intro h
      rw [if_neg (ir_ft (h n (by omega))), (ir_ct0 (p := p) (n := n)).mpr (fun i hi => h i (by omega))]
theorem ir_ct1 {p : Nat → Bool} {w : Nat} : ∀ {n : Nat}, w < n → p w = true → (∀ i, i < n → p i = true → i = w) → ir_ct p n = 1
  | 0, h, _, _ => absurd h (by omega)
  | n + 1, h, hw, hu => by
    simp only [ir_ct]
    rcases Nat.lt_or_ge w n with z | z
    · have hn : ¬ p n = true := fun hp => by have := hu n (by omega) hp; omega
      rw [if_neg hn, ir_ct1 z hw (fun i hi => hu i (by omega))]
    · have e : w = n := by omega
      subst e
      rw [if_pos hw, ir_ct0.mpr (fun i hi => ir_nt fun hp => by have := hu i (by omega) hp; omega)]
theorem ir_ct1' {p : Nat → Bool} {n : Nat} (h : ir_ct p n = 1) : ∃ w, w < n ∧ p w = true ∧ ∀ i, i < n → p i = true → i = w := by
  have h1 : ∃ w, w < n ∧ p w = true := Classical.byContradiction fun z => by
    have := (ir_ct0 (p := p) (n := n)).mpr (fun i hi => ir_nt fun hp => z ⟨i, hi, hp⟩)
    omega
  obtain ⟨w, hw, pw⟩ := h1
  refine ⟨w, hw, pw, fun i hi hp => Classical.byContradiction fun z => ?_⟩
  have a := ir_ct1 (p := fun j => p j && decide (j = w)) (w := w) (n := n) hw (by simp [pw]) (fun j _ hj => by simpa using (Bool.and_eq_true _ _ |>.mp hj).2)
  have b := ir_ct_lt (p := fun j => p j && decide (j = w)) (q := p) (a := i) (by simp [z]) hp (n := n) (fun j _ hj => (Bool.and_eq_true _ _ |>.mp hj).1) hi
  omega
/-! the least set -/
def ir_L (S0 : Nat → Prop) (E : Nat → Nat → Prop) (ok : Nat → Prop) (n : Nat) : Prop :=
  ∀ S : Nat → Prop, (∀ a, S0 a → ok a → S a) → (∀ a b, S a → E a b → ok b → S b) → S n
theorem ir_L0 {S0 ok : Nat → Prop} {E : Nat → Nat → Prop} {a : Nat} (h : S0 a) (ho : ok a) : ir_L S0 E ok a := fun _ h0 _ => h0 a h ho
theorem ir_L1 {S0 ok : Nat → Prop} {E : Nat → Nat → Prop} {a b : Nat} (h : ir_L S0 E ok a) (e : E a b) (ho : ok b) : ir_L S0 E ok b := fun S h0 h1 => h1 a b (h S h0 h1) e ho
theorem ir_Lok {S0 ok : Nat → Prop} {E : Nat → Nat → Prop} {n : Nat} (h : ir_L S0 E ok n) : ok n := h ok (fun _ _ z => z) (fun _ _ _ _ z => z)
/-- every node of the least set is below c -/
theorem ir_Lc {S0 ok : Nat → Prop} {E : Nat → Nat → Prop} {c n : Nat} (h0 : ∀ a, S0 a → ok a → a < c) (h1 : ∀ a b, E a b → b < c) (h : ir_L S0 E ok n) : n < c :=
  h (fun a => a < c) h0 (fun a b _ e _ => h1 a b e)
theorem ir_Lcongr {S0 T0 ok ok' : Nat → Prop} {E F : Nat → Nat → Prop} (h0 : ∀ a, S0 a → ok a → (T0 a ∧ ok' a)) (h1 : ∀ a b, E a b → ok b → (F a b ∧ ok' b)) {n : Nat} (h : ir_L S0 E ok n) : ir_L T0 F ok' n :=
  h _ (fun a z y => ir_L0 (h0 a z y).1 (h0 a z y).2) (fun a b z e o => ir_L1 z (h1 a b e o).1 (h1 a b e o).2)
/-! the graph -/
def ir_R (E : Nat → Nat → Prop) (n : Nat) : Prop := ir_L (fun s => s = 0) E (fun _ => True) n
/-- from f, not through h -/
def ir_F (E : Nat → Nat → Prop) (f h n : Nat) : Prop := ir_L (fun s => s = f) E (fun s => s ≠ h) n
def ir_D (E : Nat → Nat → Prop) (a b : Nat) : Prop := ir_R E a ∧ ir_R E b ∧ ¬ ir_F E 0 a b
def ir_Lp (E : Nat → Nat → Prop) (h n : Nat) : Prop := ∃ u, ir_D E h u ∧ E u h ∧ (n = h ∨ (ir_R E n ∧ ir_F E n h u))
section
variable {E : Nat → Nat → Prop}
theorem ir_R0 : ir_R E 0 := ir_L0 rfl trivial
theorem ir_R1 {a b : Nat} (h : ir_R E a) (e : E a b) : ir_R E b := ir_L1 h e trivial
theorem ir_F0 {f h : Nat} (z : f ≠ h) : ir_F E f h f := ir_L0 rfl z
theorem ir_F1 {f h a b : Nat} (z : ir_F E f h a) (e : E a b) (o : b ≠ h) : ir_F E f h b := ir_L1 z e o
theorem ir_Fs {p t h u : Nat} (e : E p t) (hp : p ≠ h) (z : ir_F E t h u) : ir_F E p h u :=
  z _ (fun _ ha ho => by subst ha; exact ir_F1 (ir_F0 hp) e ho) (fun _ _ a b o => ir_F1 a b o)
theorem ir_Ft {f g h u : Nat} (a : ir_F E f h g) (z : ir_F E g h u) : ir_F E f h u :=
  z _ (fun _ ha _ => by subst ha; exact a) (fun _ _ a b o => ir_F1 a b o)
theorem ir_FR {f h u : Nat} (a : ir_R E f) (z : ir_F E f h u) : ir_R E u :=
  z _ (fun _ ha _ => by subst ha; exact a) (fun _ _ a b _ => ir_R1 a b)
theorem ir_Lph {h n : Nat} (z : ir_Lp E h n) : ir_Lp E h h := by
  obtain ⟨u, a, b, _⟩ := z
  exact ⟨u, a, b, Or.inl rfl⟩
theorem ir_LpR {h n : Nat} (z : ir_Lp E h n) : ir_R E n := by
  obtain ⟨u, a, b, y⟩ := z
  rcases y with y | y
  · rw [y]; exact a.1
  · exact y.1
/-- a loop is entered at its header alone -/
theorem ir_Lpe {h p t : Nat} (e : E p t) (r : ir_R E p) (z : ir_Lp E h t) (nz : ¬ ir_Lp E h p) : t = h := by
  obtain ⟨u, a, b, y⟩ := z
  rcases y with y | y
  · exact y
  · refine Classical.byContradiction fun _ => nz ?_
    by_cases hp : p = h
    · rw [hp]; exact ⟨u, a, b, Or.inl rfl⟩
    · exact ⟨u, a, b, Or.inr ⟨r, ir_Fs e hp y.2⟩⟩
theorem ir_Lp0 {h : Nat} (z : ir_Lp E h 0) : h = 0 := by
  obtain ⟨u, a, b, y⟩ := z
  rcases y with y | y
  · exact y.symm
  · exact absurd y.2 a.2.2
/-- of two reachable nodes one is reached without the other -/
theorem ir_two {h H : Nat} (ne : h ≠ H) (r : ir_R E h) : ir_F E 0 h H ∨ ir_F E 0 H h := by
  have key : ∀ x, ir_R E x → ir_L (fun s => s = 0) E (fun s => s ≠ h ∧ s ≠ H) x ∨ (ir_F E 0 h H ∨ ir_F E 0 H h) := by
    intro x hx
    refine hx (fun x => ir_L (fun s => s = 0) E (fun s => s ≠ h ∧ s ≠ H) x ∨ (ir_F E 0 h H ∨ ir_F E 0 H h)) ?_ ?_
    · intro a ha _
      subst ha
      by_cases z1 : 0 = h
      · subst z1; exact Or.inr (Or.inr (ir_F0 ne))
      · by_cases z2 : 0 = H
        · subst z2; exact Or.inr (Or.inl (ir_F0 z1))
        · exact Or.inl (ir_L0 rfl ⟨z1, z2⟩)
    · intro a b ha e _
      rcases ha with ha | ha
      · by_cases z1 : b = h
        · subst z1
          exact Or.inr (Or.inr (ir_F1 (ir_Lcongr (fun _ z o => ⟨z, o.2⟩) (fun _ _ z o => ⟨z, o.2⟩) ha) e ne))
        · by_cases z2 : b = H
          · subst z2
            exact Or.inr (Or.inl (ir_F1 (ir_Lcongr (fun _ z o => ⟨z, o.1⟩) (fun _ _ z o => ⟨z, o.1⟩) ha) e (Ne.symm ne)))
          · exact Or.inl (ir_L1 ha e ⟨z1, z2⟩)
      · exact Or.inr ha
  rcases key h r with z | z
  · exact absurd rfl (ir_Lok z).1
  · exact z
theorem ir_Lpd {h H : Nat} (z : ir_Lp E h H) (ne : H ≠ h) : ¬ ir_F E 0 h H := by
  obtain ⟨u, a, b, y⟩ := z
  rcases y with y | y
  · exact absurd y ne
  · exact fun f => a.2.2 (ir_Ft f y.2)
theorem ir_Lpa {h H : Nat} (z : ir_Lp E h H) (y : ir_Lp E H h) : h = H := by
  refine Classical.byContradiction fun ne => ?_
  rcases ir_two ne (ir_LpR y) with f | f
  · exact ir_Lpd z (Ne.symm ne) f
  · exact ir_Lpd y ne f
/-- loops are nested -/
theorem ir_Lpn {H h n : Nat} (z : ir_Lp E H h) (y : ir_Lp E h n) : ir_Lp E H n := by
  by_cases ne : h = H
  · rw [← ne]; exact y
  by_cases nh : n = h
  · rw [nh]; exact z
  have na : ∀ m, ir_Lp E h m → m ≠ H := fun m hm e => by subst e; exact ne (ir_Lpa hm z)
  obtain ⟨U, a1, a2, a3⟩ := z
  obtain ⟨u, b1, b2, b3⟩ := y
  rcases a3 with a3 | a3
  · exact absurd a3 ne
  rcases b3 with b3 | b3
  · exact absurd b3 nh
  have key : ∀ m, ir_F E n h m → (ir_R E m ∧ m ≠ h ∧ (ir_F E m h u → ir_F E n H m)) := by
    intro m hm
    refine hm (fun m => ir_R E m ∧ m ≠ h ∧ (ir_F E m h u → ir_F E n H m)) ?_ ?_
    · intro a ha ho
      subst ha
      exact ⟨b3.1, ho, fun f => ir_F0 (na _ ⟨u, b1, b2, Or.inr ⟨b3.1, f⟩⟩)⟩
    · intro a b ha e ho
      have rb := ir_R1 ha.1 e
      exact ⟨rb, ho, fun f => ir_F1 (ha.2.2 (ir_Fs e ha.2.1 f)) e (na _ ⟨u, b1, b2, Or.inr ⟨rb, f⟩⟩)⟩
  have ku := key u b3.2
  have k1 : ir_F E n H u := ku.2.2 (ir_F0 ku.2.1)
  have k2 : ir_F E n H h := ir_F1 k1 b2 ne
  exact ⟨U, a1, a2, Or.inr ⟨b3.1, ir_Ft k2 a3.2⟩⟩
/-- the backward flood from the tails -/
theorem ir_Bw {h n : Nat} : ir_L (fun s => E s h ∧ ir_D E h s) (fun a b => E b a) (fun s => ir_R E s ∧ s ≠ h) n → ir_Lp E h n := by
  intro z
  have key : ∃ u, ir_D E h u ∧ E u h ∧ (ir_R E n ∧ n ≠ h ∧ ir_F E n h u) := by
    refine z (fun n => ∃ u, ir_D E h u ∧ E u h ∧ (ir_R E n ∧ n ≠ h ∧ ir_F E n h u)) ?_ ?_
    · intro a ha ho
      exact ⟨a, ha.2, ha.1, ho.1, ho.2, ir_F0 ho.2⟩
    · intro a b ha e ho
      obtain ⟨u, x1, x2, _, x4, x5⟩ := ha
      exact ⟨u, x1, x2, ho.1, ho.2, ir_Fs e ho.2 x5⟩
  obtain ⟨u, a, b, r, _, f⟩ := key
  exact ⟨u, a, b, Or.inr ⟨r, f⟩⟩
theorem ir_Bw' {h n : Nat} (z : ir_Lp E h n) : n = h ∨ ir_L (fun s => E s h ∧ ir_D E h s) (fun a b => E b a) (fun s => ir_R E s ∧ s ≠ h) n := by
  obtain ⟨u, a, b, y⟩ := z
  rcases y with y | y
  · exact Or.inl y
  · right
    intro T t0 t1
    have key : ∀ m, ir_F E n h m → (ir_R E m ∧ m ≠ h ∧ (T m → T n)) := by
      intro m hm
      refine hm (fun m => ir_R E m ∧ m ≠ h ∧ (T m → T n)) ?_ ?_
      · intro a ha ho
        subst ha
        exact ⟨y.1, ho, id⟩
      · intro a b ha e ho
        exact ⟨ir_R1 ha.1 e, ho, fun tb => ha.2.2 (t1 b a tb e ⟨ha.1, ha.2.1⟩)⟩
    have ku := key u y.2
    exact ku.2.2 (t0 u ⟨b, a⟩ ⟨ku.1, ku.2.1⟩)
end
end
section
/-! the law of the reduced run: products carried, comparisons moved; no program in sight -/
def ir_E (c : Nat) (kd zs nx : Nat → Int32) (n s : Nat) : Prop := n < c ∧ s < c ∧ ((kd n ≠ 0 ∧ nx n = nI s) ∨ (kd n = 5 ∧ zs n = nI s))
/-- n writes the variable v -/
def ir_W (c : Nat) (kd xs : Nat → Int32) (n v : Nat) : Prop := n < c ∧ ¬ kd n < 1 ∧ ¬ 4 < kd n ∧ xs n = nI v
/-- m is reduced: home H, base b, factor f -/
def ir_H (c vl : Nat) (kd xs ys zs nx hm bs fa : Nat → Int32) (m H b f : Nat) : Prop :=
  hm m = nI H ∧ H < c ∧ bs m = nI b ∧ fa m = nI f ∧ b < vl ∧ f < vl ∧ ir_Lp (ir_E c kd zs nx) H m ∧ kd m = 4 ∧
  ((ys m = nI b ∧ zs m = nI f) ∨ (zs m = nI b ∧ ys m = nI f)) ∧
  (∀ p, ir_Lp (ir_E c kd zs nx) H p → ir_W c kd xs p b → kd p = 2 ∧ ys p = nI b) ∧ (∀ p, ir_Lp (ir_E c kd zs nx) H p → ¬ ir_W c kd xs p f) ∧ b ≠ f
/-- h is a linear header: carrier m, stepper w, base b, factor f, bound y -/
def ir_C (c vl : Nat) (kd xs ys zs nx hm bs fa cr ic : Nat → Int32) (h m w H b f y : Nat) : Prop :=
  cr h = nI m ∧ m < c ∧ ir_H c vl kd xs ys zs nx hm bs fa m H b f ∧ ir_Lp (ir_E c kd zs nx) H h ∧ kd h = 5 ∧ xs h = nI b ∧ ys h = nI y ∧ y < vl ∧
  (∀ t, t < c → zs h = nI t → ¬ ir_Lp (ir_E c kd zs nx) h t) ∧ (∀ p, ir_Lp (ir_E c kd zs nx) h p → ¬ ir_W c kd xs p y) ∧
  (∀ p, ir_Lp (ir_E c kd zs nx) h p → ir_W c kd xs p b → p = w) ∧ ir_W c kd xs w b ∧ ir_Lp (ir_E c kd zs nx) h w ∧ kd w = 2 ∧ ys w = nI b ∧ zs w = ic h ∧ 1 ≤ zs w ∧
  (∀ t, t < c → nx w = nI t → ¬ ir_F (ir_E c kd zs nx) t h w)
/-- where a stay in L(h) is: at h, or below the bound, or past the step -/
def ir_Ph (E : Nat → Nat → Prop) (h w p : Nat) (a b f i : Int) : Prop :=
  1 ≤ f ∧ b - 1 + i ≤ 2147483647 ∧ -2147483648 ≤ b * f ∧ (b - 1 + i) * f ≤ 2147483647 ∧ -2147483648 ≤ a * f ∧ a * f ≤ 2147483647 ∧ (p = h ∨ a < b ∨ ¬ ir_F E p h w)
def ir_Cd (a b f i : Int) : Prop :=
  1 ≤ f ∧ b - 1 + i ≤ 2147483647 ∧ -2147483648 ≤ (if b ≤ a then b else a) * f ∧ (if a ≤ b - 1 + i then b - 1 + i else a) * f ≤ 2147483647
def ir_J1 (c vl : Nat) (kd xs ys zs nx hm bs fa : Nat → Int32) (Q : Nat → Prop) (t : Nat) (va cd : Nat → Int32) : Prop :=
  ∀ m H b f, m < c → ir_H c vl kd xs ys zs nx hm bs fa m H b f → Q H → ir_Lp (ir_E c kd zs nx) H t → cd m = va (8 + b) * va (8 + f)
def ir_J2 (c vl : Nat) (kd xs ys zs nx hm bs fa cr ic : Nat → Int32) (Q : Nat → Prop) (t : Nat) (va mk : Nat → Int32) : Prop :=
  ∀ h, h < c → mk h ≠ 0 → cr h ≠ -1 ∧ (Q h → ir_Lp (ir_E c kd zs nx) h t → ∀ m w H b f y, ir_C c vl kd xs ys zs nx hm bs fa cr ic h m w H b f y →
    ir_Ph (ir_E c kd zs nx) h w t (va (8 + b)).toInt (va (8 + y)).toInt (va (8 + f)).toInt (ic h).toInt)
theorem ir_mulT {a b : Int32} (h1 : -2147483648 ≤ a.toInt * b.toInt) (h2 : a.toInt * b.toInt ≤ 2147483647) : (a * b).toInt = a.toInt * b.toInt := by
  rw [Int32.toInt_mul]
  generalize a.toInt * b.toInt = z at *
  exact Int.bmod_eq_of_le (by omega) (by omega)
theorem ir_addT {a b : Int32} (h1 : -2147483648 ≤ a.toInt + b.toInt) (h2 : a.toInt + b.toInt ≤ 2147483647) : (a + b).toInt = a.toInt + b.toInt := by
  rw [Int32.toInt_add]
  exact Int.bmod_eq_of_le (by omega) (by omega)
theorem ir_cmp {a b f : Int32} (hf : 1 ≤ f.toInt) (a1 : -2147483648 ≤ a.toInt * f.toInt) (a2 : a.toInt * f.toInt ≤ 2147483647) (b1 : -2147483648 ≤ b.toInt * f.toInt) (b2 : b.toInt * f.toInt ≤ 2147483647) :
    (b * f ≤ a * f ↔ b ≤ a) := by
  rw [Int32.le_iff_toInt_le, Int32.le_iff_toInt_le, ir_mulT a1 a2, ir_mulT b1 b2]
  exact Int.mul_le_mul_right (by omega)
theorem ir_nI_inj {a b : Nat} (ha : a < 2 ^ 31) (hb : b < 2 ^ 31) (h : nI a = nI b) : a = b := (nI_eq ha hb).mp h
theorem ir_PhB {E : Nat → Nat → Prop} {h w p : Nat} {a b f i : Int} (z : ir_Ph E h w p a b f i) (hi : 1 ≤ i) : b * f ≤ 2147483647 := by
  obtain ⟨z1, z2, z3, z4, z5, z6, z7⟩ := z
  exact Int.le_trans (Int.mul_le_mul_of_nonneg_right (by omega) (by omega)) z4
theorem ir_PhCd {E : Nat → Nat → Prop} {h w : Nat} {a b f i : Int} (z : ir_Cd a b f i) : ir_Ph E h w h a b f i := by
  obtain ⟨z1, z2, z3, z4⟩ := z
  have f0 : 0 ≤ f := by omega
  have l1 : (if b ≤ a then b else a) ≤ a := by split <;> omega
  have l2 : (if b ≤ a then b else a) ≤ b := by split <;> omega
  have g1 : a ≤ (if a ≤ b - 1 + i then b - 1 + i else a) := by split <;> omega
  have g2 : b - 1 + i ≤ (if a ≤ b - 1 + i then b - 1 + i else a) := by split <;> omega
  exact ⟨z1, z2, Int.le_trans z3 (Int.mul_le_mul_of_nonneg_right l2 f0), Int.le_trans (Int.mul_le_mul_of_nonneg_right g2 f0) z4,
    Int.le_trans z3 (Int.mul_le_mul_of_nonneg_right l1 f0), Int.le_trans (Int.mul_le_mul_of_nonneg_right g1 f0) z4, Or.inl rfl⟩
section
variable {c vl : Nat} {kd xs ys zs nx hm bs fa cr ic va cd mk va' cd' mk' : Nat → Int32} {p t v : Nat} {r : Int32} {Q : Nat → Prop}
/-- a writing step keeps the products -/
theorem ir_law1 (hv : vl ≤ 8) (w : ir_W c kd xs p v) (hvl : v < vl) (hva : va' = upd va (8 + v) r) (hr : kd p = 2 → ∀ b, b < vl → ys p = nI b → r = va (8 + b) + zs p)
    (hc : ∀ m H b f, m < c → ir_H c vl kd xs ys zs nx hm bs fa m H b f → ir_Lp (ir_E c kd zs nx) H p → cd' m = (if b = v then cd m + zs p * va' (8 + f) else cd m))
    (I : ir_J1 c vl kd xs ys zs nx hm bs fa (fun _ => True) p va cd) : ir_J1 c vl kd xs ys zs nx hm bs fa (fun H => ir_Lp (ir_E c kd zs nx) H p) t va' cd' := by
  intro m H b f hm h q _
  have e := I m H b f hm h trivial q
  rw [hc m H b f hm h q]
  obtain ⟨h1, h2, h3, h4, h5, h6, h7, h8, h9, h10, h11, h12⟩ := h
  have fv : f ≠ v := fun z => h11 p q (z ▸ w)
  have ef : va' (8 + f) = va (8 + f) := by rw [hva]; exact pk_un (by omega)
  rw [ef]
  by_cases z : b = v
  · subst z
    obtain ⟨k2, ky⟩ := h10 p q w
    rw [if_pos rfl, e, hva, pk_us, hr k2 b h5 ky, Int32.add_mul]
  · rw [if_neg z, e, hva, pk_un (show 8 + b ≠ 8 + v by omega)]
/-- a writing step keeps the marks' ranges -/
theorem ir_law2 (hv : vl ≤ 8) (hc31 : c < 2 ^ 31) (w : ir_W c kd xs p v) (hvl : v < vl) (e : ir_E c kd zs nx p t) (hva : va' = upd va (8 + v) r) (hr : kd p = 2 → ∀ b, b < vl → ys p = nI b → r = va (8 + b) + zs p)
    (I : ir_J2 c vl kd xs ys zs nx hm bs fa cr ic (fun _ => True) p va mk) : ir_J2 c vl kd xs ys zs nx hm bs fa cr ic (fun H => ir_Lp (ir_E c kd zs nx) H p) t va' mk := by
  intro h hh hmk
  obtain ⟨i1, i2⟩ := I h hh hmk
  refine ⟨i1, fun q qt m w' H b f y C => ?_⟩
  have P := i2 trivial q m w' H b f y C
  obtain ⟨c1, c2, c3, c4, c5, c6, c7, c8, c9, c10, c11, c12, c13, c14, c15, c16, c17, c18⟩ := C
  obtain ⟨h1, h2, h3, h4, h5, h6, h7, h8, h9, h10, h11, h12⟩ := c3
  have yv : y ≠ v := fun z => c10 p q (z ▸ w)
  have fv : f ≠ v := fun z => h11 p (ir_Lpn c4 q) (z ▸ w)
  have ey : va' (8 + y) = va (8 + y) := by rw [hva]; exact pk_un (by omega)
  have ef : va' (8 + f) = va (8 + f) := by rw [hva]; exact pk_un (by omega)
  have k5 : ¬ kd p = 5 := fun z => w.2.2.1 (by rw [z]; decide)
  have ph : p ≠ h := fun z => k5 (z ▸ c5)
  obtain ⟨p1, p2, p3, p4, p5, p6, p7⟩ := P
  rw [ey, ef]
  by_cases z : b = v
  · subst z
    have pw : p = w' := c11 p q w
    subst pw
    have hb : (va (8 + b)).toInt < (va (8 + y)).toInt := by
      rcases p7 with p7 | p7 | p7
      · exact absurd p7 ph
      · exact p7
      · exact absurd (ir_F0 ph) p7
    have hi : (1 : Int) ≤ (ic h).toInt := by
      rw [c16, Int32.le_iff_toInt_le] at c17
      exact c17
    have lo := (va (8 + b)).le_toInt
    have er : va' (8 + b) = va (8 + b) + ic h := by rw [hva, pk_us, hr c14 b h5 c15, c16]
    have ea : (va' (8 + b)).toInt = (va (8 + b)).toInt + (ic h).toInt := by
      rw [er]
      exact ir_addT (by omega) (by omega)
    rw [ea]
    refine ⟨p1, p2, p3, p4, ?_, ?_, ?_⟩
    · exact Int.le_trans p5 (Int.mul_le_mul_of_nonneg_right (by omega) (by omega))
    · exact Int.le_trans (Int.mul_le_mul_of_nonneg_right (by omega) (by omega)) p4
    · obtain ⟨e1, e2, e3⟩ := e
      have en : nx p = nI t := by
        rcases e3 with e3 | e3
        · exact e3.2
        · exact absurd e3.1 k5
      exact Or.inr (Or.inr (c18 t e2 en))
  · have eb : va' (8 + b) = va (8 + b) := by rw [hva]; exact pk_un (by omega)
    rw [eb]
    refine ⟨p1, p2, p3, p4, p5, p6, ?_⟩
    rcases p7 with p7 | p7 | p7
    · exact absurd p7 ph
    · exact Or.inr (Or.inl p7)
    · exact Or.inr (Or.inr fun g => p7 (ir_Fs e ph g))
/-- a step that writes no variable -/
theorem ir_law1n (I : ir_J1 c vl kd xs ys zs nx hm bs fa (fun _ => True) p va cd) : ir_J1 c vl kd xs ys zs nx hm bs fa (fun H => ir_Lp (ir_E c kd zs nx) H p) t va cd :=
  fun m H b f hm h q _ => I m H b f hm h trivial q
theorem ir_law2n (e : ir_E c kd zs nx p t) (hl : kd p = 5 → ∀ x y, x < vl → y < vl → xs p = nI x → ys p = nI y → va (8 + x) < va (8 + y) ∨ zs p = nI t)
    (I : ir_J2 c vl kd xs ys zs nx hm bs fa cr ic (fun _ => True) p va mk) : ir_J2 c vl kd xs ys zs nx hm bs fa cr ic (fun H => ir_Lp (ir_E c kd zs nx) H p) t va mk := by
  intro h hh hmk
  obtain ⟨i1, i2⟩ := I h hh hmk
  refine ⟨i1, fun q qt m w' H b f y C => ?_⟩
  have P := i2 trivial q m w' H b f y C
  obtain ⟨c1, c2, c3, c4, c5, c6, c7, c8, c9, c10, c11, c12, c13, c14, c15, c16, c17, c18⟩ := C
  obtain ⟨p1, p2, p3, p4, p5, p6, p7⟩ := P
  refine ⟨p1, p2, p3, p4, p5, p6, ?_⟩
  by_cases ph : p = h
  · subst ph
    rcases hl c5 b y c3.2.2.2.2.1 c8 c6 c7 with z | z
    · exact Or.inr (Or.inl (Int32.lt_iff_toInt_lt.mp z))
    · exact absurd qt (c9 t e.2.1 z)
  · rcases p7 with p7 | p7 | p7
    · exact absurd p7 ph
    · exact Or.inr (Or.inl p7)
    · exact Or.inr (Or.inr fun g => p7 (ir_Fs e ph g))
/-- no loop is entered -/
theorem ir_fin1 (hQ : ∀ H, ir_Lp (ir_E c kd zs nx) H t → Q H) (I : ir_J1 c vl kd xs ys zs nx hm bs fa Q t va cd) : ir_J1 c vl kd xs ys zs nx hm bs fa (fun _ => True) t va cd :=
  fun m H b f hm h _ q => I m H b f hm h (hQ H q) q
theorem ir_fin2 (hQ : ∀ H, ir_Lp (ir_E c kd zs nx) H t → Q H) (I : ir_J2 c vl kd xs ys zs nx hm bs fa cr ic Q t va mk) : ir_J2 c vl kd xs ys zs nx hm bs fa cr ic (fun _ => True) t va mk :=
  fun h hh hm => ⟨(I h hh hm).1, fun _ q => (I h hh hm).2 (hQ h q) q⟩
/-- the loop t is entered -/
theorem ir_ent1 (hc31 : c < 2 ^ 31) (hQ : ∀ H, ir_Lp (ir_E c kd zs nx) H t → H = t ∨ Q H) (ht : t < c)
    (h1 : ∀ m b f, m < c → hm m = nI t → bs m = nI b → fa m = nI f → b < vl → f < vl → cd' m = va (8 + b) * va (8 + f)) (h2 : ∀ m, m < c → hm m ≠ nI t → cd' m = cd m)
    (I : ir_J1 c vl kd xs ys zs nx hm bs fa Q t va cd) : ir_J1 c vl kd xs ys zs nx hm bs fa (fun _ => True) t va cd' := by
  intro m H b f hmc h _ q
  by_cases z : H = t
  · subst z
    exact h1 m b f hmc h.1 h.2.2.1 h.2.2.2.1 h.2.2.2.2.1 h.2.2.2.2.2.1
  · rw [h2 m hmc (by rw [h.1]; exact fun e => z (ir_nI_inj (by have := h.2.1; omega) (by omega) e))]
    exact I m H b f hmc h ((hQ H q).resolve_left z) q
theorem ir_ent2 (hQ : ∀ H, ir_Lp (ir_E c kd zs nx) H t → H = t ∨ Q H)
    (h1 : mk' t ≠ 0 → cr t ≠ -1 ∧ ∀ m w H b f y, ir_C c vl kd xs ys zs nx hm bs fa cr ic t m w H b f y → ir_Cd (va (8 + b)).toInt (va (8 + y)).toInt (va (8 + f)).toInt (ic t).toInt)
    (h2 : ∀ h, h ≠ t → mk' h = mk h)
    (I : ir_J2 c vl kd xs ys zs nx hm bs fa cr ic Q t va mk) : ir_J2 c vl kd xs ys zs nx hm bs fa cr ic (fun _ => True) t va mk' := by
  intro h hh hmk
  by_cases z : h = t
  · subst z
    exact ⟨(h1 hmk).1, fun _ _ m w H b f y C => ir_PhCd ((h1 hmk).2 m w H b f y C)⟩
  · rw [h2 h z] at hmk
    exact ⟨(I h hh hmk).1, fun _ q => (I h hh hmk).2 ((hQ h q).resolve_left z) q⟩
/-- the moved comparison is the comparison -/
theorem ir_moved {h m w H b f y : Nat} (hh : h < c) (C : ir_C c vl kd xs ys zs nx hm bs fa cr ic h m w H b f y) (hl : ir_Lp (ir_E c kd zs nx) h h) (hmk : mk h ≠ 0)
    (I : ir_J1 c vl kd xs ys zs nx hm bs fa (fun _ => True) h va cd) (J : ir_J2 c vl kd xs ys zs nx hm bs fa cr ic (fun _ => True) h va mk) :
    (va (8 + y) * va (8 + f) ≤ cd m ↔ va (8 + y) ≤ va (8 + b)) := by
  have P := (J h hh hmk).2 trivial hl m w H b f y C
  have hi : (1 : Int) ≤ (ic h).toInt := by
    have c16 := C.2.2.2.2.2.2.2.2.2.2.2.2.2.2.2.1
    have c17 := C.2.2.2.2.2.2.2.2.2.2.2.2.2.2.2.2.1
    rw [c16, Int32.le_iff_toInt_le] at c17
    exact c17
  rw [I m H b f C.2.1 C.2.2.1 trivial C.2.2.2.1]
  exact ir_cmp P.1 P.2.2.2.2.1 P.2.2.2.2.2.1 P.2.2.1 (ir_PhB P hi)
/-- a reduced product is the product -/
theorem ir_prod {m H b f y z : Nat} (hv : vl ≤ 8) (hmc : m < c) (h : ir_H c vl kd xs ys zs nx hm bs fa m H b f) (hy : ys m = nI y) (hz : zs m = nI z) (hy8 : y < vl) (hz8 : z < vl) (p1 : ir_Lp (ir_E c kd zs nx) H p)
    (I : ir_J1 c vl kd xs ys zs nx hm bs fa (fun _ => True) p va cd) : cd m = va (8 + y) * va (8 + z) := by
  rw [I m H b f hmc h trivial p1]
  rcases h.2.2.2.2.2.2.2.2.1 with q | q
  · rw [ir_nI_inj (by omega) (by have := h.2.2.2.2.1; omega) (hy.symm.trans q.1), ir_nI_inj (by omega) (by have := h.2.2.2.2.2.1; omega) (hz.symm.trans q.2)]
  · rw [ir_nI_inj (by omega) (by have := h.2.2.2.2.2.1; omega) (hy.symm.trans q.2), ir_nI_inj (by omega) (by have := h.2.2.2.2.1; omega) (hz.symm.trans q.1), Int32.mul_comm]
end
end
section
theorem ir_10 : ¬ (1 : Int32) = 0 := by decide
section
variable {nl vl ol c : Nat} {cl rc : Int32} {kd xs ys zs nx su pr dm lo wr sp hm bs fa cr ic it va st ou cd mk nd lk dY lY se : Nat → Int32}
variable {post : Int32 → Prop}
theorem ir_x_has {m : Int32} {n : Nat} (hn : n < 32) (h1 : bt m n = true → post 1) (h0 : bt m n = false → post 0) : wpX_has post (nI nl, nI vl, nI ol, nI c, cl, rc, kd, xs, ys, zs, nx, su, pr, dm, lo, wr, sp, hm, bs, fa, cr, ic, it, va, st, ou, cd, mk) m (nI n) :=
  br_c (fun z => h0 ((ir_has m hn).mp z)) (fun z => h1 (ir_nf fun y => z ((ir_has m hn).mpr y)))
theorem ir_x_ex {j : Nat} (h : j < c) (hc : c < 2 ^ 31) (hp : post 1) : wpX_exists post (nI nl, nI vl, nI ol, nI c, cl, rc, kd, xs, ys, zs, nx, su, pr, dm, lo, wr, sp, hm, bs, fa, cr, ic, it, va, st, ou, cd, mk) (nI j) :=
  br_f (nI_pos (by omega)) (br_f (nI_ge h hc) hp)
theorem ir_x_exn {x : Int32} (h : x < 0 ∨ nI c ≤ x) (hp : post 0) : wpX_exists post (nI nl, nI vl, nI ol, nI c, cl, rc, kd, xs, ys, zs, nx, su, pr, dm, lo, wr, sp, hm, bs, fa, cr, ic, it, va, st, ou, cd, mk) x :=
  br_c (fun _ => hp) (fun z => br_t (h.resolve_left z) hp)
theorem ir_x_var {j : Nat} (h : j < vl) (hc : vl < 2 ^ 31) (hp : post 1) : wpX_isVar post (nI nl, nI vl, nI ol, nI c, cl, rc, kd, xs, ys, zs, nx, su, pr, dm, lo, wr, sp, hm, bs, fa, cr, ic, it, va, st, ou, cd, mk) (nI j) :=
  br_f (nI_pos (by omega)) (br_f (nI_ge h hc) hp)
theorem ir_x_varn {x : Int32} (h : x < 0 ∨ nI vl ≤ x) (hp : post 0) : wpX_isVar post (nI nl, nI vl, nI ol, nI c, cl, rc, kd, xs, ys, zs, nx, su, pr, dm, lo, wr, sp, hm, bs, fa, cr, ic, it, va, st, ou, cd, mk) x :=
  br_c (fun _ => hp) (fun z => br_t (h.resolve_left z) hp)
/-- one round of neighbours -/
theorem ir_x_nb5 {m bw : Int32} {g : Nat → Int32} {R : Nat → Nat → Prop} (hc : c ≤ 16) (hg : (bw = 0 → g = su) ∧ (¬ bw = 0 → g = pr)) (hR : ∀ n t, n < c → (bt (g n) t = true ↔ R n t)) :
    ∀ k i f, i + k = c → (∀ r, (∀ t, bt r t = true ↔ (bt f t = true ∨ ∃ n, i ≤ n ∧ n < c ∧ bt m n = true ∧ R n t)) → post r) → wX_neighbours_5 post m bw (nI nl) (nI vl) (nI ol) (nI c) cl rc kd xs ys zs nx su pr dm lo wr sp hm bs fa cr ic it va st ou cd mk (k + 1) f (nI i) := by
  intro k
  induction k with
  | zero =>
    intro i f hi hp
    refine br_t (nI_le (by omega) (by omega)) (hp f fun t => ⟨Or.inl, fun z => z.elim id ?_⟩)
    rintro ⟨n, a, b, _⟩
    omega
  | succ k ih =>
    intro i f hi hp
    refine br_f (nI_ge (by omega) (by omega)) (ir_x_has (by omega) (fun hb => ?_) (fun hb => ?_))
    · have key : wX_neighbours_5 post m bw (nI nl) (nI vl) (nI ol) (nI c) cl rc kd xs ys zs nx su pr dm lo wr sp hm bs fa cr ic it va st ou cd mk (k + 1) (f ||| g i) (nI (i + 1)) := by
        refine ih (i + 1) (f ||| g i) (by omega) (fun r hr => hp r fun t => ?_)
        rw [hr t, b_or, Bool.or_eq_true, hR i t (by omega)]
        constructor
        · rintro ((z | z) | ⟨n, a, b, d⟩)
          · exact Or.inl z
          · exact Or.inr ⟨i, Nat.le_refl _, by omega, hb, z⟩
          · exact Or.inr ⟨n, by omega, b, d⟩
        · rintro (z | ⟨n, a, b, d⟩)
          · exact Or.inl (Or.inl z)
          · by_cases e : n = i
            · subst e
              exact Or.inl (Or.inr d.2)
            · exact Or.inr ⟨n, by omega, b, d⟩
      refine br_f ir_10 (br_c (fun z => ⟨vp_in_nI (by omega) (by omega), nm_r (e' := f ||| g i) ?_ (nm_r (nI_1 i) key)⟩) (fun z => ⟨vp_in_nI (by omega) (by omega), nm_r (e' := f ||| g i) ?_ (nm_r (nI_1 i) key)⟩))
      · rw [nI_clamp (by omega), hg.1 z]
      · rw [nI_clamp (by omega), hg.2 z]
    · refine br_t rfl (nm_r (nI_1 i) (ih (i + 1) f (by omega) (fun r hr => hp r fun t => ?_)))
      rw [hr t]
      constructor
      · rintro (z | ⟨n, a, b, d⟩)
        · exact Or.inl z
        · exact Or.inr ⟨n, by omega, b, d⟩
      · rintro (z | ⟨n, a, b, d⟩)
        · exact Or.inl z
        · by_cases e : n = i
          · subst e
            rw [hb] at d
            exact absurd d.1 Bool.false_ne_true
          · exact Or.inr ⟨n, by omega, b, d⟩
theorem ir_x_nb {m bw : Int32} {g : Nat → Int32} {R : Nat → Nat → Prop} (hc : c ≤ 16) (hg : (bw = 0 → g = su) ∧ (¬ bw = 0 → g = pr)) (hR : ∀ n t, n < c → (bt (g n) t = true ↔ R n t))
    (hp : ∀ r, (∀ t, bt r t = true ↔ ∃ n, n < c ∧ bt m n = true ∧ R n t) → post r) : wpX_neighbours post (nI nl, nI vl, nI ol, nI c, cl, rc, kd, xs, ys, zs, nx, su, pr, dm, lo, wr, sp, hm, bs, fa, cr, ic, it, va, st, ou, cd, mk) m bw := by
  refine ⟨c + 1, ir_x_nb5 hc hg hR c 0 0 (by omega) (fun r hr => hp r fun t => ?_)⟩
  rw [hr t, b_0]
  constructor
  · rintro (z | ⟨n, _, b⟩)
    · cases z
    · exact ⟨n, b⟩
  · rintro ⟨n, b⟩
    exact Or.inr ⟨n, Nat.zero_le _, b⟩
theorem ir_x_fl8 {sd al bw : Int32} {g : Nat → Int32} {R : Nat → Nat → Prop} (hc : c ≤ 16) (hg : (bw = 0 → g = su) ∧ (¬ bw = 0 → g = pr)) (hR : ∀ n t, n < c → (bt (g n) t = true ↔ R n t))
    (hRc : ∀ a b, R a b → b < c) (hS : ∀ t, bt sd t = true → bt al t = true → t < c)
    (hp : ∀ r, (∀ t, bt r t = true ↔ ir_L (fun s => bt sd s = true) R (fun s => bt al s = true) t) → post r) :
    ∀ k i s, i + k = c → (∀ t, bt s t = true → ir_L (fun s => bt sd s = true) R (fun s => bt al s = true) t) → (∀ t, bt sd t = true → bt al t = true → bt s t = true) →
      ((∀ a b, bt s a = true → R a b → bt al b = true → bt s b = true) ∨ i + 1 ≤ ir_ct (bt s) c) → wX_flood_8 post al bw (nI nl) (nI vl) (nI ol) (nI c) cl rc kd xs ys zs nx su pr dm lo wr sp hm bs fa cr ic it va st ou cd mk (k + 1) s (nI i) := by
  intro k
  induction k with
  | zero =>
    intro i s hi h1 h2 h3
    refine br_t (nI_le (by omega) (by omega)) (hp s fun t => ⟨h1 t, fun z => ?_⟩)
    have cl : ∀ a b, bt s a = true → R a b → bt al b = true → bt s b = true := by
      rcases h3 with h3 | h3
      · exact h3
      · have := ir_ct_le (bt s) c
        omega
    exact z _ h2 cl
  | succ k ih =>
    intro i s hi h1 h2 h3
    refine br_f (nI_ge (by omega) (by omega)) (ir_x_nb hc hg hR (fun r hr => nm_e (nm_r (nI_1 i) ?_)))
    have hs : ∀ a, bt s a = true → a < c := fun a ha => ir_Lc hS hRc (h1 a ha)
    have hb : ∀ t, bt (s ||| (r &&& al)) t = true ↔ (bt s t = true ∨ ((∃ n, n < c ∧ bt s n = true ∧ R n t) ∧ bt al t = true)) := by
      intro t
      rw [b_or, b_and, Bool.or_eq_true, Bool.and_eq_true, hr t]
    refine ih (i + 1) (s ||| (r &&& al)) (by omega) ?_ ?_ ?_
    · intro t ht
      rcases (hb t).mp ht with z | ⟨⟨n, _, a, b⟩, o⟩
      · exact h1 t z
      · exact ir_L1 (h1 n a) b o
    · intro t a b
      exact (hb t).mpr (Or.inl (h2 t a b))
    · rcases Classical.em (∀ a b, bt s a = true → R a b → bt al b = true → bt s b = true) with cl | ncl
      · left
        have same : ∀ t, bt (s ||| (r &&& al)) t = true → bt s t = true := by
          intro t ht
          rcases (hb t).mp ht with z | ⟨⟨n, _, a, b⟩, o⟩
          · exact z
          · exact cl n t a b o
        intro a b ha e o
        exact (hb b).mpr (Or.inl (cl a b (same a ha) e o))
      · right
        have h4 : i + 1 ≤ ir_ct (bt s) c := by
          rcases h3 with h3 | h3
          · exact absurd h3 ncl
          · exact h3
        have ex : ∃ a b, bt s a = true ∧ R a b ∧ bt al b = true ∧ bt s b = false := by
          refine Classical.byContradiction fun z => ncl ?_
          intro a b ha e o
          exact ir_nf fun y => z ⟨a, b, ha, e, o, y⟩
        obtain ⟨a, b, ha, e, o, nb⟩ := ex
        have lt := ir_ct_lt (p := bt s) (q := bt (s ||| (r &&& al))) (a := b) nb ((hb b).mpr (Or.inr ⟨⟨a, hs a ha, ha, e⟩, o⟩)) (n := c) (fun j _ hj => (hb j).mpr (Or.inl hj)) (hRc a b e)
        omega
theorem ir_x_flood {sd al bw : Int32} {R : Nat → Nat → Prop} (g : Nat → Int32) (hc : c ≤ 16) (hg : (bw = 0 → g = su) ∧ (¬ bw = 0 → g = pr)) (hR : ∀ n t, n < c → (bt (g n) t = true ↔ R n t))
    (hRc : ∀ a b, R a b → b < c) (hS : ∀ t, bt sd t = true → bt al t = true → t < c)
    (hp : ∀ r, (∀ t, bt r t = true ↔ ir_L (fun s => bt sd s = true) R (fun s => bt al s = true) t) → post r) : wpX_flood post (nI nl, nI vl, nI ol, nI c, cl, rc, kd, xs, ys, zs, nx, su, pr, dm, lo, wr, sp, hm, bs, fa, cr, ic, it, va, st, ou, cd, mk) sd al bw := by
  refine nm_e ⟨c + 1, ir_x_fl8 hc hg hR hRc hS hp c 0 (sd &&& al) (by omega) ?_ ?_ ?_⟩
  · intro t ht
    rw [b_and, Bool.and_eq_true] at ht
    exact ir_L0 ht.1 ht.2
  · intro t a b
    rw [b_and, a, b]
    rfl
  · rcases Classical.em (∃ t, bt (sd &&& al) t = true) with ⟨t, ht⟩ | z
    · right
      have h2 := ht
      rw [b_and, Bool.and_eq_true] at h2
      have lt := ir_ct_lt (p := fun _ => false) (q := bt (sd &&& al)) (a := t) rfl ht (n := c) (fun j _ hj => absurd hj Bool.false_ne_true) (hS t h2.1 h2.2)
      omega
    · left
      intro a b ha
      exact absurd ⟨a, ha⟩ z
/-- the number of bits -/
theorem ir_x_sz4 {m : Int32} : ∀ k i s, i + k = 16 → s = ir_ct (bt m) i → post (nI (ir_ct (bt m) 16)) → wX_sizeOf_4 post m (nI nl) (nI vl) (nI ol) (nI c) cl rc kd xs ys zs nx su pr dm lo wr sp hm bs fa cr ic it va st ou cd mk (k + 1) (nI s) (nI i) := by
  intro k
  induction k with
  | zero =>
    intro i s hi hs hp
    have e : i = 16 := by omega
    subst e
    rw [hs]
    exact br_t (nI_le (a := 16) (b := 16) (by omega) (by omega)) hp
  | succ k ih =>
    intro i s hi hs hp
    refine br_f (nI_ge (b := 16) (by omega) (by decide)) (nm_r (e' := nI (ir_ct (bt m) (i + 1))) ?_ (nm_r (nI_1 i) (ih (i + 1) _ (by omega) rfl hp)))
    rw [ir_hasv m (by omega), nI_add, hs]
    rfl
theorem ir_x_size {m : Int32} (hp : post (nI (ir_ct (bt m) 16))) : wpX_sizeOf post (nI nl, nI vl, nI ol, nI c, cl, rc, kd, xs, ys, zs, nx, su, pr, dm, lo, wr, sp, hm, bs, fa, cr, ic, it, va, st, ou, cd, mk) m :=
  ⟨17, ir_x_sz4 16 0 0 rfl rfl hp⟩
end
end
section
theorem ir_setb {x : Int32} {t b : Nat} (ht : t < 32) : bt (x ||| ((1 : Int32) <<< (nI t &&& 31))) b = true ↔ (bt x b = true ∨ b = t) := by
  rw [b_or, Bool.or_eq_true]
  rcases Nat.lt_or_ge b 32 with h | h
  · rw [ir_shl1 ht h, decide_eq_true_eq]
  · rw [b_big h, b_big h]
    constructor
    · rintro (z | z) <;> cases z
    · rintro (z | z)
      · cases z
      · omega
theorem ir_clrb {t b : Nat} (ht : t < 32) : bt (((1 : Int32) <<< (nI t &&& 31)) ^^^ (-1)) b = true ↔ (b < 32 ∧ b ≠ t) := by
  rcases Nat.lt_or_ge b 32 with h | h
  · rw [ir_bnot _ h, ir_shl1 ht h, Bool.not_eq_true', decide_eq_false_iff_not]
    exact ⟨fun z => ⟨h, z⟩, fun z => z.2⟩
  · rw [b_big h]
    constructor
    · intro z; cases z
    · intro z; omega
/-- every successor is a node -/
def ir_Cl (c : Nat) (kd zs nx : Nat → Int32) : Prop := ∀ n, n < c → (¬ kd n = 0 → ∃ t, t < c ∧ nx n = nI t) ∧ (kd n = 5 → ∃ t, t < c ∧ zs n = nI t)
def ir_EB (P : Nat → Nat → Prop) (su pr : Nat → Int32) : Prop := ∀ n t, (bt (su n) t = true ↔ P n t) ∧ (bt (pr t) n = true ↔ P n t)
theorem ir_EBadd {P : Nat → Nat → Prop} {su pr : Nat → Int32} {n t : Nat} (hn : n < 32) (ht : t < 32) (h : ir_EB P su pr) :
    ir_EB (fun a b => P a b ∨ (a = n ∧ b = t)) (upd su n (su n ||| ((1 : Int32) <<< (nI t &&& 31)))) (upd pr t (pr t ||| ((1 : Int32) <<< (nI n &&& 31)))) := by
  intro a b
  obtain ⟨h1, h2⟩ := h a b
  constructor
  · by_cases z : a = n
    · subst z
      rw [pk_us, ir_setb ht, h1]
      exact ⟨fun y => y.elim Or.inl (fun w => Or.inr ⟨rfl, w⟩), fun y => y.elim Or.inl (fun w => Or.inr w.2)⟩
    · rw [pk_un z, h1]
      exact ⟨Or.inl, fun y => y.elim id (fun w => absurd w.1 z)⟩
  · by_cases z : b = t
    · subst z
      rw [pk_us, ir_setb hn, h2]
      exact ⟨fun y => y.elim Or.inl (fun w => Or.inr ⟨w, rfl⟩), fun y => y.elim Or.inl (fun w => Or.inr w.1)⟩
    · rw [pk_un z, h2]
      exact ⟨Or.inl, fun y => y.elim id (fun w => absurd w.2 z)⟩
theorem ir_EBc {P Q : Nat → Nat → Prop} {su pr : Nat → Int32} (h : ir_EB P su pr) (e : ∀ a b, P a b ↔ Q a b) : ir_EB Q su pr :=
  fun a b => ⟨(h a b).1.trans (e a b), (h a b).2.trans (e a b)⟩
section
variable {nl vl ol c : Nat} {cl rc : Int32} {kd xs ys zs nx su pr dm lo wr sp hm bs fa cr ic it va st ou cd mk nd lk dY lY se : Nat → Int32}
variable {post : SX → Prop}
theorem ir_x_link2 {n t : Nat} (hn : n < 16) (ht : t < 16) (h : post (nI nl, nI vl, nI ol, nI c, cl, rc, kd, xs, ys, zs, nx, upd su n (su n ||| ((1 : Int32) <<< (nI t &&& 31))), upd pr t (pr t ||| ((1 : Int32) <<< (nI n &&& 31))), dm, lo, wr, sp, hm, bs, fa, cr, ic, it, va, st, ou, cd, mk)) : wpX_link2 post (nI nl, nI vl, nI ol, nI c, cl, rc, kd, xs, ys, zs, nx, su, pr, dm, lo, wr, sp, hm, bs, fa, cr, ic, it, va, st, ou, cd, mk) (nI n) (nI t) := by
  refine ⟨vp_in_nI hn (by omega), vp_in_nI hn (by omega), nm_r (e' := upd su n (su n ||| ((1 : Int32) <<< (nI t &&& 31)))) (by rw [nI_clamp (by omega)]) ?_⟩
  exact ⟨vp_in_nI ht (by omega), vp_in_nI ht (by omega), nm_r (e' := upd pr t (pr t ||| ((1 : Int32) <<< (nI n &&& 31)))) (by rw [nI_clamp (by omega)]) h⟩
theorem ir_x_fe30 {J2 : Int32 → Int32 → Int32 → Int32 → Int32 → Int32 → Int32 → (Nat → Int32) → (Nat → Int32) → (Nat → Int32) → (Nat → Int32) → (Nat → Int32) → (Nat → Int32) → (Nat → Int32) → (Nat → Int32) → (Nat → Int32) → (Nat → Int32) → (Nat → Int32) → (Nat → Int32) → (Nat → Int32) → (Nat → Int32) → (Nat → Int32) → (Nat → Int32) → (Nat → Int32) → (Nat → Int32) → (Nat → Int32) → (Nat → Int32) → (Nat → Int32) → (Nat → Int32) → Prop} {P : Nat → Nat → Prop} {i : Nat} (hi : i < c) (hc : c ≤ 16) (hz : kd i = 5 → ∃ t, t < c ∧ zs i = nI t) (h : ir_EB P su pr)
    (J : ∀ su' pr', ir_EB (fun a b => P a b ∨ (a = i ∧ kd i = 5 ∧ zs i = nI b ∧ b < c)) su' pr' → J2 (nI (i + 1)) (nI nl) (nI vl) (nI ol) (nI c) cl rc kd xs ys zs nx su' pr' dm lo wr sp hm bs fa cr ic it va st ou cd mk) : wX_findEdges_30 post J2 (nI i) (nI nl) (nI vl) (nI ol) (nI c) cl rc kd xs ys zs nx su pr dm lo wr sp hm bs fa cr ic it va st ou cd mk := by
  unfold wX_findEdges_30
  rw [nI_clamp (by omega)]
  refine ⟨vp_in_nI (by omega) (by omega), ?_⟩
  by_cases z : kd i = 5
  · obtain ⟨t, ht, e⟩ := hz z
    refine br_t z ⟨vp_in_nI (by omega) (by omega), ?_⟩
    rw [e]
    refine ir_x_link2 (by omega) (by omega) (nm_r (nI_1 i) (J _ _ (ir_EBc (ir_EBadd (by omega) (by omega) h) fun a b => ?_)))
    constructor
    · rintro (y | y)
      · exact Or.inl y
      · exact Or.inr ⟨y.1, z, by rw [e, y.2], by omega⟩
    · rintro (y | y)
      · exact Or.inl y
      · exact Or.inr ⟨y.1, ir_nI_inj (by omega) (by omega) (y.2.2.1.symm.trans e)⟩
  · refine br_f z (nm_r (nI_1 i) (J _ _ (ir_EBc h fun a b => ⟨Or.inl, ?_⟩)))
    rintro (y | y)
    · exact y
    · exact absurd y.2.1 z
theorem ir_x_fe2 (hc : c ≤ 16) (hcl : ir_Cl c kd zs nx) (hp : ∀ su' pr', ir_EB (ir_E c kd zs nx) su' pr' → post (nI nl, nI vl, nI ol, nI c, cl, rc, kd, xs, ys, zs, nx, su', pr', dm, lo, wr, sp, hm, bs, fa, cr, ic, it, va, st, ou, cd, mk)) :
    ∀ k i su pr, i + k = c → ir_EB (fun a b => a < i ∧ ir_E c kd zs nx a b) su pr → wX_findEdges_2 post (k + 1) (nI i) (nI nl) (nI vl) (nI ol) (nI c) cl rc kd xs ys zs nx su pr dm lo wr sp hm bs fa cr ic it va st ou cd mk := by
  intro k
  induction k with
  | zero =>
    intro i su pr hi h
    refine br_t (nI_le (by omega) (by omega)) (hp su pr (ir_EBc h fun a b => ⟨fun y => y.2, fun y => ⟨?_, y⟩⟩))
    have := y.1
    omega
  | succ k ih =>
    intro i su pr hi h
    refine br_f (nI_ge (by omega) (by omega)) ⟨vp_in_nI (by omega) (by omega), ?_⟩
    rw [nI_clamp (by omega)]
    have icl : i < c := by omega
    have fin : ∀ P : Nat → Nat → Prop, (∀ a b, P a b ↔ ((a < i ∧ ir_E c kd zs nx a b) ∨ (a = i ∧ ¬ kd i = 0 ∧ nx i = nI b ∧ b < c))) → ∀ su pr, ir_EB P su pr → wX_findEdges_30 post (wX_findEdges_2 post (k + 1)) (nI i) (nI nl) (nI vl) (nI ol) (nI c) cl rc kd xs ys zs nx su pr dm lo wr sp hm bs fa cr ic it va st ou cd mk := by
      intro P hP su pr hE
      refine ir_x_fe30 icl hc (hcl i icl).2 hE (fun su' pr' h' => ih (i + 1) su' pr' (by omega) (ir_EBc h' fun a b => ?_))
      rw [hP a b]
      constructor
      · rintro ((y | y) | y)
        · exact ⟨by omega, y.2⟩
        · refine ⟨by omega, by omega, y.2.2.2, Or.inl ?_⟩
          rw [y.1]
          exact ⟨y.2.1, y.2.2.1⟩
        · refine ⟨by omega, by omega, y.2.2.2, Or.inr ?_⟩
          rw [y.1]
          exact ⟨y.2.1, y.2.2.1⟩
      · rintro ⟨y1, y2, y3, y4⟩
        by_cases e : a = i
        · subst e
          rcases y4 with y4 | y4
          · exact Or.inl (Or.inr ⟨rfl, y4.1, y4.2, y3⟩)
          · exact Or.inr ⟨rfl, y4.1, y4.2, y3⟩
        · exact Or.inl (Or.inl ⟨by omega, y2, y3, y4⟩)
    by_cases z : kd i = 0
    · refine br_t z (fin _ (fun a b => ⟨Or.inl, ?_⟩) su pr h)
      rintro (y | y)
      · exact y
      · exact absurd z y.2.1
    · obtain ⟨t, ht, e⟩ := (hcl i icl).1 z
      refine br_f z ⟨vp_in_nI (by omega) (by omega), ?_⟩
      rw [e]
      refine ir_x_link2 (by omega) (by omega) (fin _ (fun a b => ?_) _ _ (ir_EBadd (by omega) (by omega) h))
      constructor
      · rintro (y | y)
        · exact Or.inl y
        · exact Or.inr ⟨y.1, z, by rw [e, y.2], by omega⟩
      · rintro (y | y)
        · exact Or.inl y
        · exact Or.inr ⟨y.1, ir_nI_inj (by omega) (by omega) (y.2.2.1.symm.trans e)⟩
theorem ir_x_edges (hc : c ≤ 16) (hcl : ir_Cl c kd zs nx) (hsu : su = fun _ => 0) (hpr : pr = fun _ => 0) (hp : ∀ su' pr', ir_EB (ir_E c kd zs nx) su' pr' → post (nI nl, nI vl, nI ol, nI c, cl, rc, kd, xs, ys, zs, nx, su', pr', dm, lo, wr, sp, hm, bs, fa, cr, ic, it, va, st, ou, cd, mk)) : wpX_findEdges post (nI nl, nI vl, nI ol, nI c, cl, rc, kd, xs, ys, zs, nx, su, pr, dm, lo, wr, sp, hm, bs, fa, cr, ic, it, va, st, ou, cd, mk) := by
  refine ⟨c + 1, ir_x_fe2 hc hcl hp c 0 su pr (by omega) (fun a b => ?_)⟩
  rw [hsu, hpr]
  dsimp only
  rw [b_0, b_0]
  exact ⟨⟨fun y => absurd y Bool.false_ne_true, fun y => absurd y.1 (by omega)⟩, ⟨fun y => absurd y Bool.false_ne_true, fun y => absurd y.1 (by omega)⟩⟩
end
/-! what the floods find -/
section
variable {c : Nat} {E : Nat → Nat → Prop}
theorem ir_b1t {s : Nat} : bt 1 s = true ↔ s = 0 := by
  rcases Nat.lt_or_ge s 32 with h | h
  · rw [ir_b1 s h, decide_eq_true_eq]
  · rw [b_big h]
    exact ⟨fun z => absurd z Bool.false_ne_true, fun z => by omega⟩
theorem ir_m1t {s : Nat} : bt (-1) s = true ↔ s < 32 := by
  rcases Nat.lt_or_ge s 32 with h | h
  · rw [b_m1 s h]
    exact ⟨fun _ => h, fun _ => rfl⟩
  · rw [b_big h]
    exact ⟨fun z => absurd z Bool.false_ne_true, fun z => by omega⟩
theorem ir_LR (hc : c ≤ 16) (hE : ∀ a b, E a b → b < c) {t : Nat} : ir_L (fun s => bt 1 s = true) E (fun s => bt (-1) s = true) t ↔ ir_R E t := by
  constructor
  · exact ir_Lcongr (fun a h _ => ⟨ir_b1t.mp h, trivial⟩) (fun a b e _ => ⟨e, trivial⟩)
  · exact ir_Lcongr (fun a h _ => ⟨ir_b1t.mpr h, ir_m1t.mpr (by omega)⟩) (fun a b e _ => ⟨e, ir_m1t.mpr (by have := hE a b e; omega)⟩)
theorem ir_LF (hc : c ≤ 16) (hE : ∀ a b, E a b → b < c) {a t : Nat} (ha : a < 32) : ir_L (fun s => bt 1 s = true) E (fun s => bt (((1 : Int32) <<< (nI a &&& 31)) ^^^ (-1)) s = true) t ↔ ir_F E 0 a t := by
  constructor
  · exact ir_Lcongr (fun b h o => ⟨ir_b1t.mp h, ((ir_clrb ha).mp o).2⟩) (fun b d e o => ⟨e, ((ir_clrb ha).mp o).2⟩)
  · exact ir_Lcongr (fun b h o => ⟨ir_b1t.mpr h, (ir_clrb ha).mpr ⟨by omega, o⟩⟩) (fun b d e o => ⟨e, (ir_clrb ha).mpr ⟨by have := hE b d e; omega, o⟩⟩)
theorem ir_Rc (h0 : 0 < c) (hE : ∀ a b, E a b → b < c) {t : Nat} (h : ir_R E t) : t < c := ir_Lc (fun a z _ => by omega) hE h
theorem ir_Lpc (h0 : 0 < c) (hE : ∀ a b, E a b → b < c) {h t : Nat} (z : ir_Lp E h t) : h < c ∧ t < c := ⟨ir_Rc h0 hE (ir_LpR (ir_Lph z)), ir_Rc h0 hE (ir_LpR z)⟩
end
section
variable {nl vl ol c : Nat} {cl rc : Int32} {kd xs ys zs nx su pr dm lo wr sp hm bs fa cr ic it va st ou cd mk nd lk dY lY se : Nat → Int32}
variable {post : SX → Prop}
theorem ir_x_fd13 (hc : c ≤ 16) (h0 : 0 < c) (hE : ir_EB (ir_E c kd zs nx) su pr) (hr : ∀ t, bt rc t = true ↔ ir_R (ir_E c kd zs nx) t)
    (hp : ∀ dm', (∀ a b, bt (dm' a) b = true ↔ ir_D (ir_E c kd zs nx) a b) → post (nI nl, nI vl, nI ol, nI c, cl, rc, kd, xs, ys, zs, nx, su, pr, dm', lo, wr, sp, hm, bs, fa, cr, ic, it, va, st, ou, cd, mk)) :
    ∀ k i dm, i + k = c → (∀ a b, bt (dm a) b = true ↔ (a < i ∧ ir_D (ir_E c kd zs nx) a b)) → wX_findDominators_13 post (nI nl) (nI vl) (nI ol) (nI c) cl rc (k + 1) (nI i) kd xs ys zs nx su pr dm lo wr sp hm bs fa cr ic it va st ou cd mk := by
  have hEc : ∀ a b, ir_E c kd zs nx a b → b < c := fun a b e => e.2.1
  intro k
  induction k with
  | zero =>
    intro i dm hi h
    refine br_t (nI_le (by omega) (by omega)) (hp dm fun a b => (h a b).trans ⟨fun y => y.2, fun y => ⟨?_, y⟩⟩)
    have := ir_Rc h0 hEc y.1
    omega
  | succ k ih =>
    intro i dm hi h
    refine br_f (nI_ge (by omega) (by omega)) (ir_x_has (by omega) (fun hb => ?_) (fun hb => ?_))
    · refine br_f ir_10 (ir_x_flood su hc ⟨fun _ => rfl, fun z => absurd rfl z⟩ (fun n t _ => (hE n t).1) hEc (fun t ht _ => by rw [ir_b1t] at ht; omega) (fun r hr' => ?_))
      refine ⟨vp_in_nI (by omega) (by omega), nm_r (e' := upd dm i (rc &&& (r ^^^ (-1)))) (by rw [nI_clamp (by omega)]) (nm_r (nI_1 i) (ih (i + 1) _ (by omega) fun a b => ?_))⟩
      by_cases z : a = i
      · subst z
        rw [pk_us, b_and, Bool.and_eq_true, hr b]
        constructor
        · rintro ⟨y1, y2⟩
          rw [ir_bnot _ (ir_b32 y2), Bool.not_eq_true'] at y2
          refine ⟨by omega, (hr a).mp hb, y1, fun f => ?_⟩
          rw [(hr' b).mpr ((ir_LF hc hEc (by omega)).mpr f)] at y2
          cases y2
        · rintro ⟨_, y1, y2, y3⟩
          have := ir_Rc h0 hEc y2
          refine ⟨y2, ?_⟩
          rw [ir_bnot _ (by omega), Bool.not_eq_true']
          exact ir_nt fun y => y3 ((ir_LF hc hEc (by omega)).mp ((hr' b).mp y))
      · rw [pk_un z, h a b]
        exact ⟨fun y => ⟨by omega, y.2⟩, fun y => ⟨by omega, y.2⟩⟩
    · refine br_t rfl (nm_r (nI_1 i) (ih (i + 1) dm (by omega) fun a b => (h a b).trans ⟨fun y => ⟨by omega, y.2⟩, fun y => ⟨?_, y.2⟩⟩))
      by_cases z : a = i
      · subst z
        rw [(hr a).mpr y.2.1] at hb
        cases hb
      · have := y.1
        omega
theorem ir_x_dom (hc : c ≤ 16) (h0 : 0 < c) (hE : ir_EB (ir_E c kd zs nx) su pr) (hdm : dm = fun _ => 0)
    (hp : ∀ rc' dm', (∀ t, bt rc' t = true ↔ ir_R (ir_E c kd zs nx) t) → (∀ a b, bt (dm' a) b = true ↔ ir_D (ir_E c kd zs nx) a b) → post (nI nl, nI vl, nI ol, nI c, cl, rc', kd, xs, ys, zs, nx, su, pr, dm', lo, wr, sp, hm, bs, fa, cr, ic, it, va, st, ou, cd, mk)) : wpX_findDominators post (nI nl, nI vl, nI ol, nI c, cl, rc, kd, xs, ys, zs, nx, su, pr, dm, lo, wr, sp, hm, bs, fa, cr, ic, it, va, st, ou, cd, mk) := by
  have hEc : ∀ a b, ir_E c kd zs nx a b → b < c := fun a b e => e.2.1
  refine ir_x_flood su hc ⟨fun _ => rfl, fun z => absurd rfl z⟩ (fun n t _ => (hE n t).1) hEc (fun t ht _ => by rw [ir_b1t] at ht; omega) (fun r hr => ?_)
  have hr' : ∀ t, bt r t = true ↔ ir_R (ir_E c kd zs nx) t := fun t => (hr t).trans (ir_LR hc hEc)
  refine ⟨c + 1, ir_x_fd13 hc h0 hE hr' (fun dm' h => hp r dm' hr' h) c 0 dm (by omega) (fun a b => ?_)⟩
  rw [hdm]
  dsimp only
  rw [b_0]
  exact ⟨fun y => absurd y Bool.false_ne_true, fun y => absurd y.1 (by omega)⟩
theorem ir_x_fl2 (hc : c ≤ 16) (h0 : 0 < c) (hE : ir_EB (ir_E c kd zs nx) su pr) (hr : ∀ t, bt rc t = true ↔ ir_R (ir_E c kd zs nx) t) (hD : ∀ a b, bt (dm a) b = true ↔ ir_D (ir_E c kd zs nx) a b)
    (hp : ∀ lo', (∀ h n, bt (lo' h) n = true ↔ ir_Lp (ir_E c kd zs nx) h n) → post (nI nl, nI vl, nI ol, nI c, cl, rc, kd, xs, ys, zs, nx, su, pr, dm, lo', wr, sp, hm, bs, fa, cr, ic, it, va, st, ou, cd, mk)) :
    ∀ k i lo, i + k = c → (∀ h n, bt (lo h) n = true ↔ (h < i ∧ ir_Lp (ir_E c kd zs nx) h n)) → wX_findLoops_2 post (nI nl) (nI vl) (nI ol) (nI c) cl rc (k + 1) (nI i) kd xs ys zs nx su pr dm lo wr sp hm bs fa cr ic it va st ou cd mk := by
  have hEc : ∀ a b, ir_E c kd zs nx a b → b < c := fun a b e => e.2.1
  intro k
  induction k with
  | zero =>
    intro i lo hi h
    refine br_t (nI_le (by omega) (by omega)) (hp lo fun a b => (h a b).trans ⟨fun y => y.2, fun y => ⟨?_, y⟩⟩)
    have := ir_Lpc h0 hEc y
    omega
  | succ k ih =>
    intro i lo hi h
    have hm : ∀ s, bt (pr i &&& dm i) s = true ↔ (ir_E c kd zs nx s i ∧ ir_D (ir_E c kd zs nx) i s) := by
      intro s
      rw [b_and, Bool.and_eq_true, (hE s i).2, hD i s]
    refine br_f (nI_ge (by omega) (by omega)) ⟨vp_in_nI (by omega) (by omega), vp_in_nI (by omega) (by omega), nm_r (e' := pr i &&& dm i) (by rw [nI_clamp (by omega)]) (br_c (fun z => ?_) (fun z => ?_))⟩
    · refine nm_r (nI_1 i) (ih (i + 1) lo (by omega) fun a b => (h a b).trans ⟨fun y => ⟨by omega, y.2⟩, fun y => ⟨?_, y.2⟩⟩)
      by_cases w : a = i
      · subst w
        obtain ⟨u, y1, y2, _⟩ := y.2
        have := (hm u).mpr ⟨y2, y1⟩
        rw [ir_z.mp z u] at this
        cases this
      · have := y.1
        omega
    · obtain ⟨u, hu⟩ := ir_nz.mp z
      have hu' := (hm u).mp hu
      have ok : ∀ s, bt (rc &&& (((1 : Int32) <<< (nI i &&& 31)) ^^^ (-1))) s = true ↔ (ir_R (ir_E c kd zs nx) s ∧ s ≠ i) := by
        intro s
        rw [b_and, Bool.and_eq_true, hr s, ir_clrb (by omega)]
        exact ⟨fun y => ⟨y.1, y.2.2⟩, fun y => ⟨y.1, by have := ir_Rc h0 hEc y.1; omega, y.2⟩⟩
      refine ir_x_flood (R := fun a b => ir_E c kd zs nx b a) pr hc ⟨fun w => absurd w ir_10, fun _ => rfl⟩ (fun n t _ => (hE t n).2) (fun a b e => e.1) (fun t ht _ => ((hm t).mp ht).1.1) (fun r hr' => ?_)
      refine ⟨vp_in_nI (by omega) (by omega), nm_r (e' := upd lo i (r ||| ((1 : Int32) <<< (nI i &&& 31)))) (by rw [nI_clamp (by omega)]) (nm_r (nI_1 i) (ih (i + 1) _ (by omega) fun a b => ?_))⟩
      by_cases w : a = i
      · subst w
        rw [pk_us, ir_setb (by omega), hr' b]
        constructor
        · rintro (y | y)
          · exact ⟨by omega, ir_Bw (ir_Lcongr (fun s p o => ⟨(hm s).mp p, (ok s).mp o⟩) (fun s t p o => ⟨p, (ok t).mp o⟩) y)⟩
          · exact ⟨by omega, u, hu'.2, hu'.1, Or.inl y⟩
        · rintro ⟨_, y⟩
          rcases ir_Bw' y with y | y
          · exact Or.inr y
          · exact Or.inl (ir_Lcongr (fun s p o => ⟨(hm s).mpr p, (ok s).mpr o⟩) (fun s t p o => ⟨p, (ok t).mpr o⟩) y)
      · rw [pk_un w, h a b]
        exact ⟨fun y => ⟨by omega, y.2⟩, fun y => ⟨by omega, y.2⟩⟩
theorem ir_x_loops (hc : c ≤ 16) (h0 : 0 < c) (hE : ir_EB (ir_E c kd zs nx) su pr) (hr : ∀ t, bt rc t = true ↔ ir_R (ir_E c kd zs nx) t) (hD : ∀ a b, bt (dm a) b = true ↔ ir_D (ir_E c kd zs nx) a b) (hlo : lo = fun _ => 0)
    (hp : ∀ lo', (∀ h n, bt (lo' h) n = true ↔ ir_Lp (ir_E c kd zs nx) h n) → post (nI nl, nI vl, nI ol, nI c, cl, rc, kd, xs, ys, zs, nx, su, pr, dm, lo', wr, sp, hm, bs, fa, cr, ic, it, va, st, ou, cd, mk)) : wpX_findLoops post (nI nl, nI vl, nI ol, nI c, cl, rc, kd, xs, ys, zs, nx, su, pr, dm, lo, wr, sp, hm, bs, fa, cr, ic, it, va, st, ou, cd, mk) := by
  refine ⟨c + 1, ir_x_fl2 hc h0 hE hr hD hp c 0 lo (by omega) (fun a b => ?_)⟩
  rw [hlo]
  dsimp only
  rw [b_0]
  exact ⟨fun y => absurd y Bool.false_ne_true, fun y => absurd y.1 (by omega)⟩
end
end
section
/-! writers, roles, homes of the component -/
def ir_Sp (c : Nat) (kd xs ys : Nat → Int32) (n v : Nat) : Prop := n < c ∧ kd n = 2 ∧ xs n = nI v ∧ ys n = nI v
def ir_ro (lo wr sp : Nat → Int32) (h v : Nat) : Int32 := if lo h = 0 then 0 else if wr v &&& lo h = 0 then 1 else if (wr v &&& lo h) &&& (sp v ^^^ (-1)) = 0 then 2 else 3
def ir_st (lo wr sp : Nat → Int32) (y z h : Nat) : Bool := decide (ir_ro lo wr sp h y = 2) && decide (ir_ro lo wr sp h z = 1)
def ir_cx (lo wr sp : Nat → Int32) (y z h : Nat) : Bool := decide (ir_ro lo wr sp h y = 1) && decide (ir_ro lo wr sp h z = 2)
def ir_fit (lo wr sp : Nat → Int32) (m y z h : Nat) : Bool := bt (lo h) m && (ir_st lo wr sp y z h || ir_cx lo wr sp y z h)
def ir_hs (lo wr sp : Nat → Int32) (m y z : Nat) : Nat → Int32 × Nat
  | 0 => (-1, 0)
  | h + 1 => if ir_fit lo wr sp m y z h = true ∧ (ir_hs lo wr sp m y z h).2 < ir_ct (bt (lo h)) 16 then (nI h, ir_ct (bt (lo h)) 16) else ir_hs lo wr sp m y z h
theorem ir_hs_le (lo wr sp : Nat → Int32) (m y z : Nat) : ∀ i, (ir_hs lo wr sp m y z i).2 ≤ 16
  | 0 => Nat.zero_le _
  | i + 1 => by
    have := ir_hs_le lo wr sp m y z i
    have := ir_ct_le (bt (lo i)) 16
    simp only [ir_hs]
    split
    · assumption
    · assumption
def ir_HO (lo wr sp ys zs : Nat → Int32) (i m : Nat) (hv bv fv : Int32) : Prop :=
  hv = (ir_hs lo wr sp m (ys m).toNatClampNeg (zs m).toNatClampNeg i).1 ∧ (hv = -1 ∨ ∃ H, H < i ∧ hv = nI H ∧ ir_fit lo wr sp m (ys m).toNatClampNeg (zs m).toNatClampNeg H = true ∧
    bv = (if ir_st lo wr sp (ys m).toNatClampNeg (zs m).toNatClampNeg H = true then ys m else zs m) ∧ fv = (if ir_st lo wr sp (ys m).toNatClampNeg (zs m).toNatClampNeg H = true then zs m else ys m))
section
variable {nl vl ol c : Nat} {cl rc : Int32} {kd xs ys zs nx su pr dm lo wr sp hm bs fa cr ic it va st ou cd mk nd lk dY lY se : Nat → Int32}
variable {post : SX → Prop}
theorem ir_x_fw47 {J2 : Int32 → (Nat → Int32) → (Nat → Int32) → (Nat → Int32) → (Nat → Int32) → (Nat → Int32) → (Nat → Int32) → (Nat → Int32) → (Nat → Int32) → (Nat → Int32) → (Nat → Int32) → (Nat → Int32) → (Nat → Int32) → (Nat → Int32) → (Nat → Int32) → (Nat → Int32) → (Nat → Int32) → (Nat → Int32) → (Nat → Int32) → (Nat → Int32) → (Nat → Int32) → (Nat → Int32) → (Nat → Int32) → Prop} {i x : Nat} (hi : i < c) (hc : c ≤ 16) (hx : xs i = nI x) (hx8 : x < 8)
    (h : ∀ v n, v < 8 → (bt (sp v) n = true ↔ (n < i ∧ ir_Sp c kd xs ys n v)))
    (J : ∀ sp', (∀ v n, v < 8 → (bt (sp' v) n = true ↔ (n < i + 1 ∧ ir_Sp c kd xs ys n v))) → J2 (nI (i + 1)) kd xs ys zs nx su pr dm lo wr sp' hm bs fa cr ic it va st ou cd mk) : wX_findWriters_47 post J2 (nI i) (nI nl) (nI vl) (nI ol) (nI c) cl rc kd xs ys zs nx su pr dm lo wr sp hm bs fa cr ic it va st ou cd mk := by
  unfold wX_findWriters_47
  rw [nI_clamp (by omega), hx, nI_clamp (by omega)]
  have keep : ¬ (kd i = 2 ∧ nI x = ys i) → J2 (nI (i + 1)) kd xs ys zs nx su pr dm lo wr sp hm bs fa cr ic it va st ou cd mk := by
    intro z
    refine J sp fun v n hv => (h v n hv).trans ⟨fun y => ⟨by omega, y.2⟩, fun y => ⟨?_, y.2⟩⟩
    by_cases w : n = i
    · subst w
      exact absurd ⟨y.2.2.1, by rw [← hx, y.2.2.2.1, y.2.2.2.2]⟩ z
    · have := y.1
      omega
  refine ⟨vp_in_nI (by omega) (by omega), br_c (fun z => ⟨vp_in_nI (by omega) (by omega), vp_in_nI (by omega) (by omega), br_c (fun w => ?_) (fun w => nm_r (nI_1 i) (keep fun y => w y.2))⟩) (fun z => nm_r (nI_1 i) (keep fun y => z y.1))⟩
  refine ⟨vp_in_nI (by omega) (by omega), vp_in_nI (by omega) (by omega), vp_in_nI (by omega) (by omega), nm_e (nm_r (nI_1 i) (J _ fun v n hv => ?_))⟩
  by_cases e : v = x
  · subst e
    rw [pk_us, ir_setb (by omega), h v n hv]
    constructor
    · rintro (y | y)
      · exact ⟨by omega, y.2⟩
      · subst y
        exact ⟨by omega, by omega, z, hx, w.symm⟩
    · rintro ⟨y1, y2⟩
      by_cases q : n = i
      · exact Or.inr q
      · exact Or.inl ⟨by omega, y2⟩
  · rw [pk_un e, h v n hv]
    refine ⟨fun y => ⟨by omega, y.2⟩, fun y => ⟨?_, y.2⟩⟩
    by_cases q : n = i
    · subst q
      exact absurd (ir_nI_inj (by omega) (by omega) (y.2.2.2.1.symm.trans hx)) e
    · have := y.1
      omega
theorem ir_x_fw2 (hc : c ≤ 16) (hx : ∀ n, n < c → ∃ x, x < 8 ∧ xs n = nI x)
    (hp : ∀ wr' sp', (∀ v n, v < 8 → (bt (wr' v) n = true ↔ ir_W c kd xs n v)) → (∀ v n, v < 8 → (bt (sp' v) n = true ↔ ir_Sp c kd xs ys n v)) → post (nI nl, nI vl, nI ol, nI c, cl, rc, kd, xs, ys, zs, nx, su, pr, dm, lo, wr', sp', hm, bs, fa, cr, ic, it, va, st, ou, cd, mk)) :
    ∀ k i wr sp, i + k = c → (∀ v n, v < 8 → (bt (wr v) n = true ↔ (n < i ∧ ir_W c kd xs n v))) → (∀ v n, v < 8 → (bt (sp v) n = true ↔ (n < i ∧ ir_Sp c kd xs ys n v))) →
      wX_findWriters_2 post (nI nl) (nI vl) (nI ol) (nI c) cl rc (k + 1) (nI i) kd xs ys zs nx su pr dm lo wr sp hm bs fa cr ic it va st ou cd mk := by
  intro k
  induction k with
  | zero =>
    intro i wr sp hi h1 h2
    refine br_t (nI_le (by omega) (by omega)) (hp wr sp (fun v n hv => (h1 v n hv).trans ⟨fun y => y.2, fun y => ⟨?_, y⟩⟩) (fun v n hv => (h2 v n hv).trans ⟨fun y => y.2, fun y => ⟨?_, y⟩⟩))
    · have := y.1
      omega
    · have := y.1
      omega
  | succ k ih =>
    intro i wr sp hi h1 h2
    have icl : i < c := by omega
    obtain ⟨x, hx8, ex⟩ := hx i icl
    refine br_f (nI_ge (by omega) (by omega)) ⟨vp_in_nI (by omega) (by omega), ?_⟩
    rw [nI_clamp (by omega), ex, nI_clamp (by omega)]
    have skip : ¬ (¬ kd i < 1 ∧ ¬ 4 < kd i) → wX_findWriters_47 post (wX_findWriters_2 post (nI nl) (nI vl) (nI ol) (nI c) cl rc (k + 1)) (nI i) (nI nl) (nI vl) (nI ol) (nI c) cl rc kd xs ys zs nx su pr dm lo wr sp hm bs fa cr ic it va st ou cd mk := by
      intro z
      refine ir_x_fw47 icl hc ex hx8 h2 (fun sp' h' => ih (i + 1) wr sp' (by omega) (fun v n hv => (h1 v n hv).trans ⟨fun y => ⟨by omega, y.2⟩, fun y => ⟨?_, y.2⟩⟩) h')
      by_cases q : n = i
      · subst q
        exact absurd ⟨y.2.2.1, y.2.2.2.1⟩ z
      · have := y.1
        omega
    refine br_c (fun z => skip fun y => y.1 z) (fun z => ⟨vp_in_nI (by omega) (by omega), br_c (fun w => skip fun y => y.2 w) (fun w => ?_)⟩)
    refine ⟨vp_in_nI (by omega) (by omega), vp_in_nI (by omega) (by omega), vp_in_nI (by omega) (by omega), nm_e (ir_x_fw47 icl hc ex hx8 h2 (fun sp' h' => ih (i + 1) _ sp' (by omega) (fun v n hv => ?_) h'))⟩
    by_cases e : v = x
    · subst e
      rw [pk_us, ir_setb (by omega), h1 v n hv]
      constructor
      · rintro (y | y)
        · exact ⟨by omega, y.2⟩
        · subst y
          exact ⟨by omega, by omega, z, w, ex⟩
      · rintro ⟨y1, y2⟩
        by_cases q : n = i
        · exact Or.inr q
        · exact Or.inl ⟨by omega, y2⟩
    · rw [pk_un e, h1 v n hv]
      refine ⟨fun y => ⟨by omega, y.2⟩, fun y => ⟨?_, y.2⟩⟩
      by_cases q : n = i
      · subst q
        exact absurd (ir_nI_inj (by omega) (by omega) (y.2.2.2.2.symm.trans ex)) e
      · have := y.1
        omega
theorem ir_x_writers (hc : c ≤ 16) (hx : ∀ n, n < c → ∃ x, x < 8 ∧ xs n = nI x) (hwr : wr = fun _ => 0) (hsp : sp = fun _ => 0)
    (hp : ∀ wr' sp', (∀ v n, v < 8 → (bt (wr' v) n = true ↔ ir_W c kd xs n v)) → (∀ v n, v < 8 → (bt (sp' v) n = true ↔ ir_Sp c kd xs ys n v)) → post (nI nl, nI vl, nI ol, nI c, cl, rc, kd, xs, ys, zs, nx, su, pr, dm, lo, wr', sp', hm, bs, fa, cr, ic, it, va, st, ou, cd, mk)) : wpX_findWriters post (nI nl, nI vl, nI ol, nI c, cl, rc, kd, xs, ys, zs, nx, su, pr, dm, lo, wr, sp, hm, bs, fa, cr, ic, it, va, st, ou, cd, mk) := by
  refine ⟨c + 1, ir_x_fw2 hc hx hp c 0 wr sp (by omega) (fun v n _ => ?_) (fun v n _ => ?_)⟩
  · rw [hwr]
    dsimp only
    rw [b_0]
    exact ⟨fun y => absurd y Bool.false_ne_true, fun y => absurd y.1 (by omega)⟩
  · rw [hsp]
    dsimp only
    rw [b_0]
    exact ⟨fun y => absurd y Bool.false_ne_true, fun y => absurd y.1 (by omega)⟩
end
section
variable {nl vl ol c : Nat} {cl rc : Int32} {kd xs ys zs nx su pr dm lo wr sp hm bs fa cr ic it va st ou cd mk nd lk dY lY se : Nat → Int32}
theorem ir_x_role {post : Int32 → Prop} {h v : Nat} (hcl : ¬ cl = 0) (hc : c ≤ 16) (hv8 : vl ≤ 8) (hh : h < c) (hv : v < vl) (hp : post (ir_ro lo wr sp h v)) : wpX_role post (nI nl, nI vl, nI ol, nI c, cl, rc, kd, xs, ys, zs, nx, su, pr, dm, lo, wr, sp, hm, bs, fa, cr, ic, it, va, st, ou, cd, mk) (nI h) (nI v) := by
  refine br_f hcl (ir_x_ex hh (by omega) (br_f ir_10 (ir_x_var hv (by omega) (br_f ir_10 ⟨vp_in_nI (by omega) (by omega), ?_⟩))))
  rw [nI_clamp (by omega), nI_clamp (by omega)]
  unfold ir_ro at hp
  refine br_c (fun z => ?_) (fun z => ⟨vp_in_nI (by omega) (by omega), vp_in_nI (by omega) (by omega), nm_e (br_c (fun w => ?_) (fun w => ⟨vp_in_nI (by omega) (by omega), br_c (fun q => ?_) (fun q => ?_)⟩))⟩)
  · rw [if_pos z] at hp
    exact hp
  · rw [if_neg z, if_pos w] at hp
    exact hp
  · rw [if_neg z, if_neg w, if_pos q] at hp
    exact hp
  · rw [if_neg z, if_neg w, if_neg q] at hp
    exact hp
variable {post : SX → Prop}
theorem ir_x_ch118 {J4 : Int32 → Int32 → (Nat → Int32) → (Nat → Int32) → (Nat → Int32) → (Nat → Int32) → (Nat → Int32) → (Nat → Int32) → (Nat → Int32) → (Nat → Int32) → (Nat → Int32) → (Nat → Int32) → (Nat → Int32) → (Nat → Int32) → (Nat → Int32) → (Nat → Int32) → (Nat → Int32) → (Nat → Int32) → (Nat → Int32) → (Nat → Int32) → (Nat → Int32) → (Nat → Int32) → (Nat → Int32) → (Nat → Int32) → Prop} {m i : Nat} {s z : Int32} (hm16 : m < 16)
    (J : J4 z (nI (i + 1)) kd xs ys zs nx su pr dm lo wr sp (upd hm m (nI i)) (upd bs m (if s = 0 then zs m else ys m)) (upd fa m (if s = 0 then ys m else zs m)) cr ic it va st ou cd mk) : wX_chooseHome_118 post J4 (nI m) (nI i) z s (nI nl) (nI vl) (nI ol) (nI c) cl rc kd xs ys zs nx su pr dm lo wr sp hm bs fa cr ic it va st ou cd mk := by
  have hin : vp_in (nI m) 16 := vp_in_nI hm16 (by omega)
  have hcl : (nI m).toNatClampNeg = m := nI_clamp (by omega)
  unfold wX_chooseHome_118
  rw [hcl]
  refine ⟨hin, nm_e (br_c (fun w => ⟨hin, ?_⟩) (fun w => ⟨hin, ?_⟩))⟩
  · unfold wX_chooseHome_153
    rw [hcl]
    rw [if_pos w, if_pos w] at J
    exact ⟨hin, nm_e (br_t w ⟨hin, hin, nm_e (nm_r (nI_1 i) J)⟩)⟩
  · unfold wX_chooseHome_153
    rw [hcl]
    rw [if_neg w, if_neg w] at J
    exact ⟨hin, nm_e (br_f w ⟨hin, hin, nm_e (nm_r (nI_1 i) J)⟩)⟩
theorem ir_x_ch4 {m y z : Nat} (hcl : ¬ cl = 0) (hc : c ≤ 16) (hv8 : vl ≤ 8) (hmc : m < c) (hy : ys m = nI y) (hz : zs m = nI z) (hyv : y < vl) (hzv : z < vl)
    (hp : ∀ hv bv fv, ir_HO lo wr sp ys zs c m hv bv fv → post (nI nl, nI vl, nI ol, nI c, cl, rc, kd, xs, ys, zs, nx, su, pr, dm, lo, wr, sp, upd hm m hv, upd bs m bv, upd fa m fv, cr, ic, it, va, st, ou, cd, mk)) :
    ∀ k i hv bv fv, i + k = c → ir_HO lo wr sp ys zs i m hv bv fv →
      wX_chooseHome_4 post (nI m) (nI nl) (nI vl) (nI ol) (nI c) cl rc (k + 1) (nI (ir_hs lo wr sp m y z i).2) (nI i) kd xs ys zs nx su pr dm lo wr sp (upd hm m hv) (upd bs m bv) (upd fa m fv) cr ic it va st ou cd mk := by
  have ey : (ys m).toNatClampNeg = y := by rw [hy]; exact nI_clamp (by omega)
  have ez : (zs m).toNatClampNeg = z := by rw [hz]; exact nI_clamp (by omega)
  have uu : ∀ (f : Nat → Int32) (a b : Int32), upd (upd f m a) m b = upd f m b := by
    intro f a b
    funext j
    by_cases e : j = m
    · rw [e, pk_us, pk_us]
    · rw [pk_un e, pk_un e, pk_un e]
  intro k
  induction k with
  | zero =>
    intro i hv bv fv hi h
    have e : i = c := by omega
    subst e
    exact br_t (nI_le (by omega) (by omega)) (hp hv bv fv h)
  | succ k ih =>
    intro i hv bv fv hi h
    have hs16 := ir_hs_le lo wr sp m y z i
    have sz16 := ir_ct_le (bt (lo i)) 16
    refine br_f (nI_ge (by omega) (by omega)) ⟨vp_in_nI (by omega) (by omega), ?_⟩
    rw [nI_clamp (show i < 2 ^ 31 by omega), nI_clamp (show m < 2 ^ 31 by omega), hy, hz]
    have keep : ¬ (ir_fit lo wr sp m y z i = true ∧ (ir_hs lo wr sp m y z i).2 < ir_ct (bt (lo i)) 16) →
        wX_chooseHome_4 post (nI m) (nI nl) (nI vl) (nI ol) (nI c) cl rc (k + 1) (nI (ir_hs lo wr sp m y z i).2) (nI (i + 1)) kd xs ys zs nx su pr dm lo wr sp (upd hm m hv) (upd bs m bv) (upd fa m fv) cr ic it va st ou cd mk := by
      intro w
      have e : ir_hs lo wr sp m y z (i + 1) = ir_hs lo wr sp m y z i := by
        simp only [ir_hs]
        rw [if_neg w]
      have q := ih (i + 1) hv bv fv (by omega) ?_
      · rw [e] at q
        exact q
      · obtain ⟨h1, h2⟩ := h
        rw [ey, ez] at h1 h2
        refine ⟨by rw [ey, ez, e]; exact h1, ?_⟩
        rcases h2 with h2 | ⟨H, a, b⟩
        · exact Or.inl h2
        · rw [ey, ez]
          exact Or.inr ⟨H, by omega, b⟩
    have take : ∀ s : Int32, (ir_hs lo wr sp m y z i).2 < ir_ct (bt (lo i)) 16 → ir_fit lo wr sp m y z i = true → (s = 0 ↔ ¬ ir_st lo wr sp y z i = true) →
        wX_chooseHome_118 post (wX_chooseHome_4 post (nI m) (nI nl) (nI vl) (nI ol) (nI c) cl rc (k + 1)) (nI m) (nI i) (nI (ir_ct (bt (lo i)) 16)) s (nI nl) (nI vl) (nI ol) (nI c) cl rc kd xs ys zs nx su pr dm lo wr sp (upd hm m hv) (upd bs m bv) (upd fa m fv) cr ic it va st ou cd mk := by
      intro s w f hs
      refine ir_x_ch118 (by omega) ?_
      rw [uu, uu, uu]
      have e : ir_hs lo wr sp m y z (i + 1) = (nI i, ir_ct (bt (lo i)) 16) := by
        simp only [ir_hs]
        rw [if_pos ⟨f, w⟩]
      have q := ih (i + 1) (nI i) (if s = 0 then zs m else ys m) (if s = 0 then ys m else zs m) (by omega) ?_
      · rw [e] at q
        exact q
      · refine ⟨by rw [ey, ez, e], Or.inr ⟨i, by omega, rfl, by rw [ey, ez]; exact f, ?_, ?_⟩⟩
        · rw [ey, ez]
          by_cases g : s = 0
          · rw [if_pos g, if_neg (hs.mp g)]
          · rw [if_neg g, if_pos (Classical.byContradiction fun n => g (hs.mpr n))]
        · rw [ey, ez]
          by_cases g : s = 0
          · rw [if_pos g, if_neg (hs.mp g)]
          · rw [if_neg g, if_pos (Classical.byContradiction fun n => g (hs.mpr n))]
    refine ir_x_size (br_c (fun w => nm_r (nI_1 i) (keep ?_)) (fun w => ⟨vp_in_nI (by omega) (by omega), ir_x_has (by omega) (fun hb => ?_) (fun hb => br_t rfl (nm_r (nI_1 i) (keep ?_)))⟩))
    · rw [nI_leI (by omega) (by omega)] at w
      exact fun q => absurd q.2 (by omega)
    · rw [nI_leI (by omega) (by omega)] at w
      have w' : (ir_hs lo wr sp m y z i).2 < ir_ct (bt (lo i)) 16 := by omega
      refine br_f ir_10 ⟨vp_in_nI (by omega) (by omega), ir_x_role hcl hc hv8 (by omega) hyv ⟨vp_in_nI (by omega) (by omega), ir_x_role hcl hc hv8 (by omega) hzv ?_⟩⟩
      have ftE : ir_fit lo wr sp m y z i = (ir_st lo wr sp y z i || ir_cx lo wr sp y z i) := by
        unfold ir_fit
        rw [hb, Bool.true_and]
      have stE : ir_st lo wr sp y z i = true ↔ (ir_ro lo wr sp i y = 2 ∧ ir_ro lo wr sp i z = 1) := by
        unfold ir_st
        rw [Bool.and_eq_true, decide_eq_true_eq, decide_eq_true_eq]
      have cxE : ir_cx lo wr sp y z i = true ↔ (ir_ro lo wr sp i y = 1 ∧ ir_ro lo wr sp i z = 2) := by
        unfold ir_cx
        rw [Bool.and_eq_true, decide_eq_true_eq, decide_eq_true_eq]
      have j105 : ∀ s : Int32, (s = 0 ↔ ¬ ir_st lo wr sp y z i = true) → ¬ ir_cx lo wr sp y z i = true → wX_chooseHome_106 post (wX_chooseHome_4 post (nI m) (nI nl) (nI vl) (nI ol) (nI c) cl rc (k + 1)) (nI m) (nI (ir_hs lo wr sp m y z i).2) (nI i) (nI (ir_ct (bt (lo i)) 16)) s 0 (nI nl) (nI vl) (nI ol) (nI c) cl rc kd xs ys zs nx su pr dm lo wr sp (upd hm m hv) (upd bs m bv) (upd fa m fv) cr ic it va st ou cd mk := by
        intro s hs hx
        refine br_c (fun g => br_t rfl (nm_r (nI_1 i) (keep ?_))) (fun g => take s w' ?_ hs)
        · intro q
          rw [ftE, Bool.or_eq_true] at q
          exact q.1.elim (hs.mp g) hx
        · rw [ftE, Bool.or_eq_true]
          exact Or.inl (Classical.byContradiction fun n => g (hs.mpr n))
      have j87 : ∀ s : Int32, (s = 0 ↔ ¬ ir_st lo wr sp y z i = true) → wX_chooseHome_87 post (wX_chooseHome_4 post (nI m) (nI nl) (nI vl) (nI ol) (nI c) cl rc (k + 1)) (nI m) (nI (ir_hs lo wr sp m y z i).2) (nI i) (nI (ir_ct (bt (lo i)) 16)) (ir_ro lo wr sp i y) (ir_ro lo wr sp i z) s (nI nl) (nI vl) (nI ol) (nI c) cl rc kd xs ys zs nx su pr dm lo wr sp (upd hm m hv) (upd bs m bv) (upd fa m fv) cr ic it va st ou cd mk := by
        intro s hs
        refine br_c (fun g1 => br_c (fun g2 => ?_) (fun g2 => j105 s hs fun x => g2 (cxE.mp x).2)) (fun g1 => j105 s hs fun x => g1 (cxE.mp x).1)
        have tk : ir_fit lo wr sp m y z i = true := by
          rw [ftE, Bool.or_eq_true]
          exact Or.inr (cxE.mpr ⟨g1, g2⟩)
        exact br_c (fun g => br_f ir_10 (take s w' tk hs)) (fun g => take s w' tk hs)
      refine br_c (fun g1 => br_c (fun g2 => j87 1 ⟨fun x => absurd x ir_10, fun x => absurd (stE.mpr ⟨g1, g2⟩) x⟩) (fun g2 => j87 0 ⟨fun _ x => g2 (stE.mp x).2, fun _ => rfl⟩)) (fun g1 => j87 0 ⟨fun _ x => g1 (stE.mp x).1, fun _ => rfl⟩)
    · intro q
      have := q.1
      unfold ir_fit at this
      rw [hb, Bool.false_and] at this
      cases this
end
end
section
/-! homes, carriers, the component's seal -/
/-- homes found for the nodes below i -/
def ir_HB (lo wr sp kd ys zs hm bs fa : Nat → Int32) (c i : Nat) : Prop :=
  ∀ m, m < 16 → ((m < i ∧ m < c ∧ kd m = 4) → ir_HO lo wr sp ys zs c m (hm m) (bs m) (fa m)) ∧ (¬ (m < i ∧ m < c ∧ kd m = 4) → hm m = -1)
/-- h compares a basic with an invariant variable and leaves its loop otherwise -/
def ir_TI (lo wr sp kd xs ys zs : Nat → Int32) (h : Nat) : Prop :=
  kd h = 5 ∧ ir_ro lo wr sp h (xs h).toNatClampNeg = 2 ∧ ir_ro lo wr sp h (ys h).toNatClampNeg = 1 ∧ bt (lo h) (zs h).toNatClampNeg = false
/-- w is the one stepper of h -/
def ir_OS (lo wr kd xs zs nx : Nat → Int32) (c h w : Nat) : Prop :=
  w < c ∧ (∀ n, n < c → (bt (wr (xs h).toNatClampNeg &&& lo h) n = true ↔ n = w)) ∧ 1 ≤ zs w ∧ ¬ ir_L (fun s => ir_E c kd zs nx w s) (ir_E c kd zs nx) (fun s => s ≠ h) w
def ir_cp (lo hm bs : Nat → Int32) (x : Int32) (h m : Nat) : Bool := decide (¬ hm m < 0) && (decide (bs m = x) && bt (lo (hm m).toNatClampNeg) h)
/-- the first that p holds of -/
def ir_fi (p : Nat → Bool) : Nat → Nat → Int32
  | 0, _ => -1
  | k + 1, i => if p i = true then nI i else ir_fi p k (i + 1)
def ir_CO (lo wr sp kd xs ys zs nx hm bs : Nat → Int32) (c h : Nat) (cv iv : Int32) : Prop :=
  (∃ w, ir_TI lo wr sp kd xs ys zs h ∧ ir_OS lo wr kd xs zs nx c h w ∧ iv = zs w ∧ cv = ir_fi (ir_cp lo hm bs (xs h) h) c 0) ∨ ((∀ w, ¬ (ir_TI lo wr sp kd xs ys zs h ∧ ir_OS lo wr kd xs zs nx c h w)) ∧ cv = -1)
section
variable {nl vl ol c : Nat} {cl rc : Int32} {kd xs ys zs nx su pr dm lo wr sp hm bs fa cr ic it va st ou cd mk nd lk dY lY se : Nat → Int32}
variable {post : SX → Prop}
theorem ir_x_home {m y z : Nat} (hcl : ¬ cl = 0) (hc : c ≤ 16) (hv8 : vl ≤ 8) (hmc : m < c) (hy : ys m = nI y) (hz : zs m = nI z) (hyv : y < vl) (hzv : z < vl) (h1 : hm m = -1)
    (hp : ∀ hv bv fv, ir_HO lo wr sp ys zs c m hv bv fv → post (nI nl, nI vl, nI ol, nI c, cl, rc, kd, xs, ys, zs, nx, su, pr, dm, lo, wr, sp, upd hm m hv, upd bs m bv, upd fa m fv, cr, ic, it, va, st, ou, cd, mk)) : wpX_chooseHome post (nI nl, nI vl, nI ol, nI c, cl, rc, kd, xs, ys, zs, nx, su, pr, dm, lo, wr, sp, hm, bs, fa, cr, ic, it, va, st, ou, cd, mk) (nI m) := by
  have us : ∀ f : Nat → Int32, upd f m (f m) = f := by
    intro f
    funext j
    by_cases e : j = m
    · rw [e, pk_us]
    · rw [pk_un e]
  have q := ir_x_ch4 (post := post) hcl hc hv8 hmc hy hz hyv hzv hp c 0 (hm m) (bs m) (fa m) (by omega) ⟨h1, Or.inl h1⟩
  rw [us, us, us] at q
  exact ⟨c + 1, q⟩
theorem ir_x_fr2 (hcl : ¬ cl = 0) (hc : c ≤ 16) (hv8 : vl ≤ 8) (hM : ∀ m, m < c → kd m = 4 → ∃ y z, y < vl ∧ z < vl ∧ ys m = nI y ∧ zs m = nI z)
    (hp : ∀ hm' bs' fa', ir_HB lo wr sp kd ys zs hm' bs' fa' c c → post (nI nl, nI vl, nI ol, nI c, cl, rc, kd, xs, ys, zs, nx, su, pr, dm, lo, wr, sp, hm', bs', fa', cr, ic, it, va, st, ou, cd, mk)) :
    ∀ k i hm bs fa, i + k = c → ir_HB lo wr sp kd ys zs hm bs fa c i → wX_findReduced_2 post (k + 1) (nI i) (nI nl) (nI vl) (nI ol) (nI c) cl rc kd xs ys zs nx su pr dm lo wr sp hm bs fa cr ic it va st ou cd mk := by
  intro k
  induction k with
  | zero =>
    intro i hm bs fa hi h
    have e : i = c := by omega
    subst e
    exact br_t (nI_le (by omega) (by omega)) (hp hm bs fa h)
  | succ k ih =>
    intro i hm bs fa hi h
    refine br_f (nI_ge (by omega) (by omega)) ⟨vp_in_nI (by omega) (by omega), ?_⟩
    rw [nI_clamp (by omega)]
    by_cases z : kd i = 4
    · obtain ⟨y, z', hy, hz, ey, ez⟩ := hM i (by omega) z
      refine br_t z (ir_x_home hcl hc hv8 (by omega) ey ez hy hz ((h i (by omega)).2 (by omega)) (fun hv bv fv ho => nm_r (nI_1 i) (ih (i + 1) _ _ _ (by omega) ?_)))
      intro m hm16
      by_cases e : m = i
      · subst e
        rw [pk_us, pk_us, pk_us]
        exact ⟨fun _ => ho, fun q => absurd ⟨by omega, by omega, z⟩ q⟩
      · rw [pk_un e, pk_un e, pk_un e]
        exact ⟨fun q => (h m hm16).1 ⟨by omega, q.2⟩, fun q => (h m hm16).2 fun q' => q ⟨by omega, q'.2⟩⟩
    · refine br_f z (nm_r (nI_1 i) (ih (i + 1) hm bs fa (by omega) ?_))
      intro m hm16
      refine ⟨fun q => (h m hm16).1 ⟨?_, q.2⟩, fun q => (h m hm16).2 fun q' => q ⟨by omega, q'.2⟩⟩
      by_cases e : m = i
      · subst e
        exact absurd q.2.2 z
      · omega
theorem ir_x_reduced (hcl : ¬ cl = 0) (hc : c ≤ 16) (hv8 : vl ≤ 8) (hM : ∀ m, m < c → kd m = 4 → ∃ y z, y < vl ∧ z < vl ∧ ys m = nI y ∧ zs m = nI z) (h1 : ∀ m, m < 16 → hm m = -1)
    (hp : ∀ hm' bs' fa', ir_HB lo wr sp kd ys zs hm' bs' fa' c c → post (nI nl, nI vl, nI ol, nI c, cl, rc, kd, xs, ys, zs, nx, su, pr, dm, lo, wr, sp, hm', bs', fa', cr, ic, it, va, st, ou, cd, mk)) : wpX_findReduced post (nI nl, nI vl, nI ol, nI c, cl, rc, kd, xs, ys, zs, nx, su, pr, dm, lo, wr, sp, hm, bs, fa, cr, ic, it, va, st, ou, cd, mk) :=
  ⟨c + 1, ir_x_fr2 hcl hc hv8 hM hp c 0 hm bs fa (by omega) (fun m hm16 => ⟨fun q => absurd q.1 (by omega), fun _ => h1 m hm16⟩)⟩
end
section
variable {nl vl ol c : Nat} {cl rc : Int32} {kd xs ys zs nx su pr dm lo wr sp hm bs fa cr ic it va st ou cd mk nd lk dY lY se : Nat → Int32}
variable {post : Int32 → Prop}
theorem ir_x_tests {h x y : Nat} (hcl : ¬ cl = 0) (hc : c ≤ 16) (hv8 : vl ≤ 8) (hh : h < c) (hx : xs h = nI x) (hy : ys h = nI y) (hxv : x < vl) (hyv : y < vl) (hz : kd h = 5 → ∃ t, t < c ∧ zs h = nI t)
    (h1 : ir_TI lo wr sp kd xs ys zs h → post 1) (h0 : ¬ ir_TI lo wr sp kd xs ys zs h → post 0) : wpX_testsInduction post (nI nl, nI vl, nI ol, nI c, cl, rc, kd, xs, ys, zs, nx, su, pr, dm, lo, wr, sp, hm, bs, fa, cr, ic, it, va, st, ou, cd, mk) (nI h) := by
  have hin : vp_in (nI h) 16 := vp_in_nI (by omega) (by omega)
  have ex : (xs h).toNatClampNeg = x := by rw [hx]; exact nI_clamp (by omega)
  have ey : (ys h).toNatClampNeg = y := by rw [hy]; exact nI_clamp (by omega)
  unfold ir_TI at h1 h0
  rw [ex, ey] at h1 h0
  refine ⟨hin, ?_⟩
  rw [nI_clamp (by omega)]
  refine br_c (fun k5 => ⟨hin, br_c (fun z => h0 fun q => ?_) (fun z => ⟨hin, ?_⟩)⟩) (fun k5 => h0 fun q => k5 q.1)
  · have := q.2.1
    unfold ir_ro at this
    rw [if_pos z] at this
    exact absurd this (by decide)
  · obtain ⟨t, ht, ez⟩ := hz k5
    have ezn : (zs h).toNatClampNeg = t := by rw [ez]; exact nI_clamp (by omega)
    rw [ezn] at h1 h0
    rw [hx, hy, ez]
    refine ir_x_role hcl hc hv8 hh hxv (br_c (fun r2 => ⟨hin, ir_x_role hcl hc hv8 hh hyv (br_c (fun r1 => ⟨hin, hin, ir_x_has (by omega) (fun hb => br_f ir_10 (h0 fun q => ?_)) (fun hb => br_t rfl (h1 ⟨k5, r2, r1, hb⟩))⟩) (fun r1 => h0 fun q => r1 q.2.2.1))⟩) (fun r2 => h0 fun q => r2 q.2.1))
    rw [hb] at q
    exact absurd q.2.2.2 (by decide)
theorem ir_x_os24 {h : Nat} (hc : c ≤ 16) (hh : h < c) (hE : ir_EB (ir_E c kd zs nx) su pr)
    (h1 : ∀ w, ir_OS lo wr kd xs zs nx c h w → post (nI w)) (h0 : (∀ w, ¬ ir_OS lo wr kd xs zs nx c h w) → post (-1)) :
    ∀ k i (q : Int32), i + k = c → ((q = -1 ∧ ∀ n, n < i → bt (wr (xs h).toNatClampNeg &&& lo h) n = false) ∨ (∃ w, w < i ∧ q = nI w ∧ ∀ n, n < i → (bt (wr (xs h).toNatClampNeg &&& lo h) n = true ↔ n = w))) →
      wX_onlyStepper_24 post (nI h) (wr (xs h).toNatClampNeg &&& lo h) (nI nl) (nI vl) (nI ol) (nI c) cl rc kd xs ys zs nx su pr dm lo wr sp hm bs fa cr ic it va st ou cd mk (k + 1) q (nI i) := by
  intro k
  induction k with
  | zero =>
    intro i q hi hq
    have e : i = c := by omega
    subst e
    refine br_t (nI_le (by omega) (by omega)) ?_
    rcases hq with ⟨rfl, hq⟩ | ⟨w, hw, rfl, hq⟩
    · refine br_t (by decide) (h0 fun w o => ?_)
      have := (o.2.1 w o.1).mpr rfl
      rw [hq w o.1] at this
      cases this
    · have uq : ∀ w', ir_OS lo wr kd xs zs nx i h w' → w' = w := fun w' o => (hq w' o.1).mp ((o.2.1 w' o.1).mpr rfl)
      refine br_f (nI_pos (by omega)) ⟨vp_in_nI (by omega) (by omega), ?_⟩
      rw [nI_clamp (by omega)]
      refine br_c (fun z1 => ⟨vp_in_nI (by omega) (by omega), ?_⟩) (fun z1 => h0 fun w' o => z1 (by have := o.2.2.1; rw [uq w' o] at this; exact this))
      have hEc : ∀ a b, ir_E i kd zs nx a b → b < i := fun a b e => e.2.1
      refine ir_x_flood su hc ⟨fun _ => rfl, fun z => absurd rfl z⟩ (fun n t _ => (hE n t).1) hEc (fun t ht _ => ((hE w t).1.mp ht).2.1) (fun r hr => ir_x_has (by omega) (fun hb => br_f ir_10 (h0 fun w' o => ?_)) (fun hb => br_t rfl (h1 w ⟨hw, hq, z1, fun f => ?_⟩)))
      · have o4 := o.2.2.2
        rw [uq w' o] at o4
        exact o4 (ir_Lcongr (fun s p ok => ⟨(hE w s).1.mp p, ((ir_clrb (by omega)).mp ok).2⟩) (fun s t p ok => ⟨p, ((ir_clrb (by omega)).mp ok).2⟩) ((hr w).mp hb))
      · have := (hr w).mpr (ir_Lcongr (fun s p ok => ⟨(hE w s).1.mpr p, (ir_clrb (by omega)).mpr ⟨by have := p.2.1; omega, ok⟩⟩) (fun s t p ok => ⟨p, (ir_clrb (by omega)).mpr ⟨by have := p.2.1; omega, ok⟩⟩) f)
        rw [hb] at this
        cases this
  | succ k ih =>
    intro i q hi hq
    refine br_f (nI_ge (by omega) (by omega)) (ir_x_has (by omega) (fun hb => ?_) (fun hb => ?_))
    · refine br_f ir_10 ?_
      rcases hq with ⟨rfl, hq⟩ | ⟨w, hw, rfl, hq⟩
      · refine br_t (by decide) (nm_r (nI_1 i) (ih (i + 1) (nI i) (by omega) (Or.inr ⟨i, by omega, rfl, fun n hn => ?_⟩)))
        by_cases e : n = i
        · subst e
          exact ⟨fun _ => rfl, fun _ => hb⟩
        · rw [hq n (by omega)]
          exact ⟨fun z => absurd z Bool.false_ne_true, fun z => absurd z e⟩
      · refine br_f (nI_pos (by omega)) (h0 fun w' o => ?_)
        have a := (o.2.1 i (by omega)).mp hb
        have b := (o.2.1 w (by omega)).mp ((hq w hw).mpr rfl)
        omega
    · refine br_t rfl (nm_r (nI_1 i) (ih (i + 1) q (by omega) ?_))
      rcases hq with ⟨e, hq⟩ | ⟨w, hw, e, hq⟩
      · refine Or.inl ⟨e, fun n hn => ?_⟩
        by_cases e : n = i
        · subst e
          exact hb
        · exact hq n (by omega)
      · refine Or.inr ⟨w, by omega, e, fun n hn => ?_⟩
        by_cases e : n = i
        · subst e
          rw [hb]
          exact ⟨fun z => absurd z Bool.false_ne_true, fun z => by omega⟩
        · exact hq n (by omega)
theorem ir_x_only {h x : Nat} (hc : c ≤ 16) (hh : h < c) (hE : ir_EB (ir_E c kd zs nx) su pr) (hx : xs h = nI x) (hx8 : x < 8)
    (h1 : ∀ w, ir_OS lo wr kd xs zs nx c h w → post (nI w)) (h0 : (∀ w, ¬ ir_OS lo wr kd xs zs nx c h w) → post (-1)) : wpX_onlyStepper post (nI nl, nI vl, nI ol, nI c, cl, rc, kd, xs, ys, zs, nx, su, pr, dm, lo, wr, sp, hm, bs, fa, cr, ic, it, va, st, ou, cd, mk) (nI h) := by
  refine ⟨vp_in_nI (by omega) (by omega), ?_⟩
  rw [nI_clamp (by omega)]
  exact ⟨by rw [hx]; exact vp_in_nI hx8 (by omega), vp_in_nI (by omega) (by omega), nm_e ⟨c + 1, ir_x_os24 hc hh hE h1 h0 c 0 (-1) (by omega) (Or.inl ⟨rfl, fun n hn => absurd hn (by omega)⟩)⟩⟩
theorem ir_x_fc2 {h : Nat} (hc : c ≤ 16) (hh : h < c) (hH : ∀ m, m < c → hm m = -1 ∨ ∃ H, H < c ∧ hm m = nI H) :
    ∀ k i, i + k = c → post (ir_fi (ir_cp lo hm bs (xs h) h) k i) → wX_findCarrier_2 post (nI h) (nI nl) (nI vl) (nI ol) (nI c) cl rc kd xs ys zs nx su pr dm lo wr sp hm bs fa cr ic it va st ou cd mk (k + 1) (nI i) := by
  intro k
  induction k with
  | zero =>
    intro i hi hp
    exact br_t (nI_le (by omega) (by omega)) hp
  | succ k ih =>
    intro i hi hp
    have hin : vp_in (nI i) 16 := vp_in_nI (by omega) (by omega)
    simp only [ir_fi] at hp
    refine br_f (nI_ge (by omega) (by omega)) ⟨hin, ?_⟩
    rw [nI_clamp (show i < 2 ^ 31 by omega), nI_clamp (show h < 2 ^ 31 by omega)]
    have skip : ¬ ir_cp lo hm bs (xs h) h i = true → wX_findCarrier_2 post (nI h) (nI nl) (nI vl) (nI ol) (nI c) cl rc kd xs ys zs nx su pr dm lo wr sp hm bs fa cr ic it va st ou cd mk (k + 1) (nI (i + 1)) := by
      intro z
      rw [if_neg z] at hp
      exact ih (i + 1) (by omega) hp
    rcases hH i (by omega) with e | ⟨H, hHc, e⟩
    · refine br_t (by rw [e]; decide) (nm_r (nI_1 i) (skip fun z => ?_))
      unfold ir_cp at z
      rw [e] at z
      exact absurd (decide_eq_true_eq.mp (Bool.and_eq_true _ _ |>.mp z).1) (by decide)
    · have n0 : ¬ hm i < 0 := by rw [e]; exact nI_pos (by omega)
      have cpE : ir_cp lo hm bs (xs h) h i = true ↔ (bs i = xs h ∧ bt (lo H) h = true) := by
        unfold ir_cp
        rw [e, nI_clamp (by omega), Bool.and_eq_true, Bool.and_eq_true, decide_eq_true_eq, decide_eq_true_eq]
        exact ⟨fun q => q.2, fun q => ⟨nI_pos (by omega), q⟩⟩
      refine br_f n0 ⟨hin, vp_in_nI (by omega) (by omega), br_c (fun z => ?_) (fun z => nm_r (nI_1 i) (skip fun q => z (cpE.mp q).1))⟩
      rw [e, nI_clamp (show H < 2 ^ 31 by omega)]
      refine ⟨hin, vp_in_nI (by omega) (by omega), ir_x_has (by omega) (fun hb => ?_) (fun hb => br_t rfl (nm_r (nI_1 i) (skip fun q => ?_)))⟩
      · rw [if_pos (cpE.mpr ⟨z, hb⟩)] at hp
        exact br_f ir_10 hp
      · rw [(cpE.mp q).2] at hb
        cases hb
end
section
variable {nl vl ol c : Nat} {cl rc : Int32} {kd xs ys zs nx su pr dm lo wr sp hm bs fa cr ic it va st ou cd mk nd lk dY lY se : Nat → Int32}
variable {post : SX → Prop}
theorem ir_x_li2 (hcl : ¬ cl = 0) (hc : c ≤ 16) (hv8 : vl ≤ 8) (hE : ir_EB (ir_E c kd zs nx) su pr) (hN : ∀ n, n < c → ∃ x y, x < vl ∧ y < vl ∧ xs n = nI x ∧ ys n = nI y) (hC : ir_Cl c kd zs nx)
    (hH : ∀ m, m < c → hm m = -1 ∨ ∃ H, H < c ∧ hm m = nI H)
    (hp : ∀ cr' ic', (∀ h, h < c → ir_CO lo wr sp kd xs ys zs nx hm bs c h (cr' h) (ic' h)) → post (nI nl, nI vl, nI ol, nI c, cl, rc, kd, xs, ys, zs, nx, su, pr, dm, lo, wr, sp, hm, bs, fa, cr', ic', it, va, st, ou, cd, mk)) :
    ∀ k i cr ic, i + k = c → (∀ h, h < c → ((h < i → ir_CO lo wr sp kd xs ys zs nx hm bs c h (cr h) (ic h)) ∧ (¬ h < i → cr h = -1))) → wX_findLinear_2 post (nI nl) (nI vl) (nI ol) (nI c) cl rc (k + 1) (nI i) kd xs ys zs nx su pr dm lo wr sp hm bs fa cr ic it va st ou cd mk := by
  intro k
  induction k with
  | zero =>
    intro i cr ic hi h
    exact br_t (nI_le (by omega) (by omega)) (hp cr ic fun h' hh => (h h' hh).1 (by omega))
  | succ k ih =>
    intro i cr ic hi h
    have icl : i < c := by omega
    obtain ⟨x, y, hxv, hyv, ex, ey⟩ := hN i icl
    have keep : (∀ w, ¬ (ir_TI lo wr sp kd xs ys zs i ∧ ir_OS lo wr kd xs zs nx c i w)) → wX_findLinear_2 post (nI nl) (nI vl) (nI ol) (nI c) cl rc (k + 1) (nI (i + 1)) kd xs ys zs nx su pr dm lo wr sp hm bs fa cr ic it va st ou cd mk := by
      intro z
      refine ih (i + 1) cr ic (by omega) fun h' hh => ?_
      by_cases e : h' = i
      · subst e
        exact ⟨fun _ => Or.inr ⟨z, (h h' hh).2 (by omega)⟩, fun q => absurd (Nat.lt_succ_self _) q⟩
      · exact ⟨fun q => (h h' hh).1 (by omega), fun q => (h h' hh).2 (by omega)⟩
    refine br_f (nI_ge (by omega) (by omega)) (ir_x_tests hcl hc hv8 icl ex ey hxv hyv (hC i icl).2 (fun ti => br_f ir_10 ?_) (fun ti => br_t rfl (nm_r (nI_1 i) (keep fun w q => ti q.1))))
    refine ir_x_only hc icl hE ex (by omega) (fun w o => ?_) (fun o => br_t (by decide) (nm_r (nI_1 i) (keep fun w q => o w q.2)))
    have hw := o.1
    refine br_f (nI_pos (by omega)) ⟨vp_in_nI (by omega) (by omega), vp_in_nI (by omega) (by omega), ?_⟩
    rw [nI_clamp (show w < 2 ^ 31 by omega), nI_clamp (show i < 2 ^ 31 by omega)]
    refine nm_e ⟨c + 1, ir_x_fc2 hc icl hH c 0 (by omega) ⟨vp_in_nI (by omega) (by omega), nm_e (nm_r (nI_1 i) (ih (i + 1) _ _ (by omega) fun h' hh => ?_))⟩⟩
    by_cases e : h' = i
    · subst e
      rw [pk_us, pk_us]
      exact ⟨fun _ => Or.inl ⟨w, ti, o, rfl, rfl⟩, fun q => absurd (Nat.lt_succ_self _) q⟩
    · rw [pk_un e, pk_un e]
      exact ⟨fun q => (h h' hh).1 (by omega), fun q => (h h' hh).2 (by omega)⟩
theorem ir_x_linear (hcl : ¬ cl = 0) (hc : c ≤ 16) (hv8 : vl ≤ 8) (hE : ir_EB (ir_E c kd zs nx) su pr) (hN : ∀ n, n < c → ∃ x y, x < vl ∧ y < vl ∧ xs n = nI x ∧ ys n = nI y) (hC : ir_Cl c kd zs nx)
    (hH : ∀ m, m < c → hm m = -1 ∨ ∃ H, H < c ∧ hm m = nI H) (h1 : ∀ m, m < 16 → cr m = -1)
    (hp : ∀ cr' ic', (∀ h, h < c → ir_CO lo wr sp kd xs ys zs nx hm bs c h (cr' h) (ic' h)) → post (nI nl, nI vl, nI ol, nI c, cl, rc, kd, xs, ys, zs, nx, su, pr, dm, lo, wr, sp, hm, bs, fa, cr', ic', it, va, st, ou, cd, mk)) : wpX_findLinear post (nI nl, nI vl, nI ol, nI c, cl, rc, kd, xs, ys, zs, nx, su, pr, dm, lo, wr, sp, hm, bs, fa, cr, ic, it, va, st, ou, cd, mk) :=
  ⟨c + 1, ir_x_li2 hcl hc hv8 hE hN hC hH hp c 0 cr ic (by omega) (fun h hh => ⟨fun q => absurd q (by omega), fun _ => h1 h (by omega)⟩)⟩
end
end
section
/-! the component's seal -/
def ir_OK (c : Nat) (kd zs nx : Nat → Int32) (n : Nat) : Prop := (¬ kd n = 0 → ∃ t, t < c ∧ nx n = nI t) ∧ (kd n = 5 → ∃ t, t < c ∧ zs n = nI t)
/-- what the component finds on sealing -/
def ir_XS (c : Nat) (rc : Int32) (kd xs ys zs nx dm lo wr sp hm bs fa cr ic : Nat → Int32) : Prop :=
  (∀ t, bt rc t = true ↔ ir_R (ir_E c kd zs nx) t) ∧ (∀ a b, bt (dm a) b = true ↔ ir_D (ir_E c kd zs nx) a b) ∧ (∀ h n, bt (lo h) n = true ↔ ir_Lp (ir_E c kd zs nx) h n) ∧
  (∀ v n, v < 8 → (bt (wr v) n = true ↔ ir_W c kd xs n v)) ∧ (∀ v n, v < 8 → (bt (sp v) n = true ↔ ir_Sp c kd xs ys n v)) ∧
  ir_HB lo wr sp kd ys zs hm bs fa c c ∧ (∀ h, h < c → ir_CO lo wr sp kd xs ys zs nx hm bs c h (cr h) (ic h))
theorem ir_HBh {lo wr sp kd ys zs hm bs fa : Nat → Int32} {c : Nat} (hc : c ≤ 16) (h : ir_HB lo wr sp kd ys zs hm bs fa c c) (m : Nat) (hmc : m < c) : hm m = -1 ∨ ∃ H, H < c ∧ hm m = nI H := by
  by_cases k : kd m = 4
  · rcases ((h m (by omega)).1 ⟨hmc, hmc, k⟩).2 with z | ⟨H, a, b, _⟩
    · exact Or.inl z
    · exact Or.inr ⟨H, a, b⟩
  · exact Or.inl ((h m (by omega)).2 fun q => k q.2.2)
section
variable {nl vl ol c : Nat} {cl rc : Int32} {kd xs ys zs nx su pr dm lo wr sp hm bs fa cr ic it va st ou cd mk nd lk dY lY se : Nat → Int32}
theorem ir_x_dang {post : Int32 → Prop} {n : Nat} (hc : c ≤ 16) (hn : n < c) (h0 : ir_OK c kd zs nx n → post 0) (h1 : ¬ ir_OK c kd zs nx n → post 1) : wpX_dangles post (nI nl, nI vl, nI ol, nI c, cl, rc, kd, xs, ys, zs, nx, su, pr, dm, lo, wr, sp, hm, bs, fa, cr, ic, it, va, st, ou, cd, mk) (nI n) := by
  have hin : vp_in (nI n) 16 := vp_in_nI (by omega) (by omega)
  refine ⟨hin, ?_⟩
  rw [nI_clamp (by omega)]
  refine br_c (fun k0 => h0 ⟨fun z => absurd k0 z, fun z => absurd (k0.symm.trans z) (by decide)⟩) (fun k0 => ⟨hin, ?_⟩)
  have no : ∀ x : Int32, (x < 0 ∨ nI c ≤ x) → ∀ t, t < c → ¬ x = nI t := by
    intro x hx t ht e
    subst e
    rcases hx with z | z
    · exact nI_pos (by omega) z
    · exact nI_ge ht (by omega) z
  have ex : ∀ x : Int32, (x < 0 ∨ nI c ≤ x) ∨ ∃ j, j < c ∧ x = nI j := by
    intro x
    rcases pk_ix x (n := c) (by omega) with z | z | z
    · exact Or.inl (Or.inl z)
    · exact Or.inl (Or.inr z)
    · exact Or.inr z
  rcases ex (nx n) with z | ⟨t, ht, e⟩
  · exact ir_x_exn z (br_t rfl (h1 fun q => by obtain ⟨t, ht, e⟩ := q.1 k0; exact no _ z t ht e))
  · rw [e]
    refine ir_x_ex ht (by omega) (br_f ir_10 ⟨hin, br_c (fun k5 => ⟨hin, ?_⟩) (fun k5 => h0 ⟨fun _ => ⟨t, ht, e⟩, fun q => absurd q k5⟩)⟩)
    rcases ex (zs n) with z | ⟨u, hu, e2⟩
    · exact ir_x_exn z (br_t rfl (h1 fun q => by obtain ⟨t, ht, e⟩ := q.2 k5; exact no _ z t ht e))
    · rw [e2]
      exact ir_x_ex hu (by omega) (br_f ir_10 (h0 ⟨fun _ => ⟨t, ht, e⟩, fun _ => ⟨u, hu, e2⟩⟩))
variable {post : Int32 → SX → Prop}
theorem ir_x_sl18 (hc : c ≤ 16) (hv8 : vl ≤ 8) (h0 : 0 < c) (hN : ∀ n, n < c → ∃ x y, x < vl ∧ y < vl ∧ xs n = nI x ∧ ys n = nI y) (hM : ∀ m, m < c → kd m = 4 → ∃ y z, y < vl ∧ z < vl ∧ ys m = nI y ∧ zs m = nI z)
    (i1 : su = fun _ => 0) (i2 : pr = fun _ => 0) (i3 : dm = fun _ => 0) (i4 : lo = fun _ => 0) (i5 : wr = fun _ => 0) (i6 : sp = fun _ => 0) (i7 : ∀ m, m < 16 → hm m = -1) (i8 : ∀ m, m < 16 → cr m = -1)
    (hbad : ∀ n, n < c → (∀ j, j < n → ir_OK c kd zs nx j) → ¬ ir_OK c kd zs nx n → post (nI (n + 1)) (nI nl, nI vl, nI ol, nI c, cl, rc, kd, xs, ys, zs, nx, su, pr, dm, lo, wr, sp, hm, bs, fa, cr, ic, it, va, st, ou, cd, mk))
    (hok : ir_Cl c kd zs nx → ∀ rc' su' pr' dm' lo' wr' sp' hm' bs' fa' cr' ic', ir_XS c rc' kd xs ys zs nx dm' lo' wr' sp' hm' bs' fa' cr' ic' → post 0 (nI nl, nI vl, nI ol, nI c, 1, rc', kd, xs, ys, zs, nx, su', pr', dm', lo', wr', sp', hm', bs', fa', cr', ic', it, va, st, ou, cd, mk)) :
    ∀ k i, i + k = c → (∀ n, n < i → ir_OK c kd zs nx n) → wX_seal_18 post (nI nl) (nI vl) (nI ol) (nI c) cl rc kd xs ys zs nx su pr dm lo wr sp hm bs fa cr ic it va st ou cd mk (k + 1) (nI i) := by
  intro k
  induction k with
  | zero =>
    intro i hi h
    refine br_t (nI_le (by omega) (by omega)) ?_
    have cl : ir_Cl c kd zs nx := fun n hn => h n (by omega)
    refine ir_x_edges hc cl i1 i2 (fun su' pr' e1 => ?_)
    refine ir_x_dom hc h0 e1 i3 (fun rc' dm' e2 e3 => ?_)
    refine ir_x_loops hc h0 e1 e2 e3 i4 (fun lo' e4 => ?_)
    refine ir_x_writers hc (fun n hn => by obtain ⟨x, y, a, b, d, e⟩ := hN n hn; exact ⟨x, by omega, d⟩) i5 i6 (fun wr' sp' e5 e6 => ?_)
    refine ir_x_reduced ir_10 hc hv8 hM i7 (fun hm' bs' fa' e7 => ?_)
    refine ir_x_linear ir_10 hc hv8 e1 hN cl (ir_HBh hc e7) i8 (fun cr' ic' e8 => ?_)
    exact hok cl rc' su' pr' dm' lo' wr' sp' hm' bs' fa' cr' ic' ⟨e2, e3, e4, e5, e6, e7, e8⟩
  | succ k ih =>
    intro i hi h
    refine br_f (nI_ge (by omega) (by omega)) (ir_x_dang hc (by omega) (fun ok => br_t rfl (nm_r (nI_1 i) (ih (i + 1) (by omega) fun n hn => ?_))) (fun nok => br_f ir_10 ?_))
    · by_cases e : n = i
      · subst e
        exact ok
      · exact h n (by omega)
    · rw [nI_1]
      exact hbad i (by omega) h nok
theorem ir_x_seal (hcl : cl = 0) (hc : c ≤ 16) (hv8 : vl ≤ 8) (h0 : 0 < c) (hN : ∀ n, n < c → ∃ x y, x < vl ∧ y < vl ∧ xs n = nI x ∧ ys n = nI y) (hM : ∀ m, m < c → kd m = 4 → ∃ y z, y < vl ∧ z < vl ∧ ys m = nI y ∧ zs m = nI z)
    (i1 : su = fun _ => 0) (i2 : pr = fun _ => 0) (i3 : dm = fun _ => 0) (i4 : lo = fun _ => 0) (i5 : wr = fun _ => 0) (i6 : sp = fun _ => 0) (i7 : ∀ m, m < 16 → hm m = -1) (i8 : ∀ m, m < 16 → cr m = -1)
    (hbad : ∀ n, n < c → (∀ j, j < n → ir_OK c kd zs nx j) → ¬ ir_OK c kd zs nx n → post (nI (n + 1)) (nI nl, nI vl, nI ol, nI c, cl, rc, kd, xs, ys, zs, nx, su, pr, dm, lo, wr, sp, hm, bs, fa, cr, ic, it, va, st, ou, cd, mk))
    (hok : ir_Cl c kd zs nx → ∀ rc' su' pr' dm' lo' wr' sp' hm' bs' fa' cr' ic', ir_XS c rc' kd xs ys zs nx dm' lo' wr' sp' hm' bs' fa' cr' ic' → post 0 (nI nl, nI vl, nI ol, nI c, 1, rc', kd, xs, ys, zs, nx, su', pr', dm', lo', wr', sp', hm', bs', fa', cr', ic', it, va, st, ou, cd, mk)) : wpX_seal post (nI nl, nI vl, nI ol, nI c, cl, rc, kd, xs, ys, zs, nx, su, pr, dm, lo, wr, sp, hm, bs, fa, cr, ic, it, va, st, ou, cd, mk) :=
  br_t hcl (br_f (nI_ne0 h0 (by omega)) ⟨c + 1, ir_x_sl18 hc hv8 h0 hN hM i1 i2 i3 i4 i5 i6 i7 i8 hbad hok c 0 (by omega) (fun n hn => absurd hn (by omega))⟩)
end
end
section
/-! the reference: nodes, successors, flood -/
def ir_N (nd kd xs ys zs nx : Nat → Int32) : Prop := ∀ n, nd (5 * n) = kd n ∧ nd (5 * n + 1) = xs n ∧ nd (5 * n + 2) = ys n ∧ nd (5 * n + 3) = zs n ∧ nd (5 * n + 4) = nx n
theorem ir_5 (n j : Nat) : (5 : Int32) * nI n + nI j = nI (5 * n + j) := by
  show nI 5 * nI n + nI j = _
  rw [pk_mul, nI_add]
theorem ir_16 (n j : Nat) : (16 : Int32) * nI n + nI j = nI (16 * n + j) := by
  show nI 16 * nI n + nI j = _
  rw [pk_mul, nI_add]
theorem ir_17 (n : Nat) : (17 : Int32) * nI n = nI (17 * n) := by
  show nI 17 * nI n = _
  rw [pk_mul]
theorem ir_v5 {n j : Nat} (hn : n < 16) (hj : j < 5) : vp_in ((5 : Int32) * nI n + nI j) 80 := by
  rw [ir_5]
  exact vp_in_nI (by omega) (by omega)
theorem ir_c5 {n j : Nat} (hn : n < 16) (hj : j < 5) : ((5 : Int32) * nI n + nI j).toNatClampNeg = 5 * n + j := by
  rw [ir_5]
  exact nI_clamp (by omega)
theorem ir_v16 {n j : Nat} (hn : n < 16) (hj : j < 16) : vp_in ((16 : Int32) * nI n + nI j) 256 := by
  rw [ir_16]
  exact vp_in_nI (by omega) (by omega)
theorem ir_c16 {n j : Nat} (hn : n < 16) (hj : j < 16) : ((16 : Int32) * nI n + nI j).toNatClampNeg = 16 * n + j := by
  rw [ir_16]
  exact nI_clamp (by omega)
theorem ir_v17 {n : Nat} (hn : n < 16) : vp_in ((17 : Int32) * nI n) 256 := by
  rw [ir_17]
  exact vp_in_nI (by omega) (by omega)
theorem ir_c17 {n : Nat} (hn : n < 16) : ((17 : Int32) * nI n).toNatClampNeg = 16 * n + n := by
  rw [ir_17, nI_clamp (by omega)]
  omega
section
variable {nd kd xs ys zs nx : Nat → Int32} {n : Nat}
theorem ir_n0 (h : ir_N nd kd xs ys zs nx) (hn : n < 16) : nd ((5 : Int32) * nI n + 0).toNatClampNeg = kd n := by
  rw [show ((5 : Int32) * nI n + 0).toNatClampNeg = 5 * n + 0 from ir_c5 (j := 0) hn (by decide)]
  exact (h n).1
theorem ir_n1 (h : ir_N nd kd xs ys zs nx) (hn : n < 16) : nd ((5 : Int32) * nI n + 1).toNatClampNeg = xs n := by
  rw [show ((5 : Int32) * nI n + 1).toNatClampNeg = 5 * n + 1 from ir_c5 (j := 1) hn (by decide)]
  exact (h n).2.1
theorem ir_n2 (h : ir_N nd kd xs ys zs nx) (hn : n < 16) : nd ((5 : Int32) * nI n + 2).toNatClampNeg = ys n := by
  rw [show ((5 : Int32) * nI n + 2).toNatClampNeg = 5 * n + 2 from ir_c5 (j := 2) hn (by decide)]
  exact (h n).2.2.1
theorem ir_n3 (h : ir_N nd kd xs ys zs nx) (hn : n < 16) : nd ((5 : Int32) * nI n + 3).toNatClampNeg = zs n := by
  rw [show ((5 : Int32) * nI n + 3).toNatClampNeg = 5 * n + 3 from ir_c5 (j := 3) hn (by decide)]
  exact (h n).2.2.2.1
theorem ir_n4 (h : ir_N nd kd xs ys zs nx) (hn : n < 16) : nd ((5 : Int32) * nI n + 4).toNatClampNeg = nx n := by
  rw [show ((5 : Int32) * nI n + 4).toNatClampNeg = 5 * n + 4 from ir_c5 (j := 4) hn (by decide)]
  exact (h n).2.2.2.2
end
def ir_sc (kd zs nx : Nat → Int32) (n k : Nat) : Int32 := if k = 1 then (if kd n = 5 then zs n else -1) else (if kd n = 0 then -1 else nx n)
theorem ir_m1n {t : Nat} (ht : t < 2 ^ 31) : ¬ (-1 : Int32) = nI t := by
  intro e
  have h : nI t < 0 := by rw [← e]; decide
  exact nI_pos ht h
section
variable {nl vl ol c : Nat} {cl rc : Int32} {kd xs ys zs nx su pr dm lo wr sp hm bs fa cr ic it va st ou cd mk nd lk dY lY se : Nat → Int32}
variable {post : Int32 → Prop}
theorem ir_y_ex {j : Nat} (h : j < c) (hc : c < 2 ^ 31) (hp : post 1) : wpY_isNode post (nI nl, nI vl, nI ol, nI c, cl, nd, it, va, st, ou, lk, mk, dY, lY, se) (nI j) :=
  br_f (nI_pos (by omega)) (br_f (nI_ge h hc) hp)
theorem ir_y_exn {x : Int32} (h : x < 0 ∨ nI c ≤ x) (hp : post 0) : wpY_isNode post (nI nl, nI vl, nI ol, nI c, cl, nd, it, va, st, ou, lk, mk, dY, lY, se) x :=
  br_c (fun _ => hp) (fun z => br_t (h.resolve_left z) hp)
theorem ir_y_var {j : Nat} (h : j < vl) (hc : vl < 2 ^ 31) (hp : post 1) : wpY_isVar post (nI nl, nI vl, nI ol, nI c, cl, nd, it, va, st, ou, lk, mk, dY, lY, se) (nI j) :=
  br_f (nI_pos (by omega)) (br_f (nI_ge h hc) hp)
theorem ir_y_varn {x : Int32} (h : x < 0 ∨ nI vl ≤ x) (hp : post 0) : wpY_isVar post (nI nl, nI vl, nI ol, nI c, cl, nd, it, va, st, ou, lk, mk, dY, lY, se) x :=
  br_c (fun _ => hp) (fun z => br_t (h.resolve_left z) hp)
theorem ir_y_succ {n k : Nat} (hN : ir_N nd kd xs ys zs nx) (hn : n < 16) (hk : k < 2) (hp : post (ir_sc kd zs nx n k)) : wpY_succ post (nI nl, nI vl, nI ol, nI c, cl, nd, it, va, st, ou, lk, mk, dY, lY, se) (nI n) (nI k) := by
  unfold wpY_succ
  dsimp only
  rw [ir_n0 hN hn, ir_n3 hN hn, ir_n4 hN hn]
  unfold ir_sc at hp
  have v0 : vp_in ((5 : Int32) * nI n + 0) 80 := ir_v5 (j := 0) hn (by decide)
  have v3 : vp_in ((5 : Int32) * nI n + 3) 80 := ir_v5 (j := 3) hn (by decide)
  have v4 : vp_in ((5 : Int32) * nI n + 4) 80 := ir_v5 (j := 4) hn (by decide)
  by_cases z : k = 1
  · rw [if_pos z] at hp
    refine br_t (by rw [z]; rfl) ⟨v0, br_c (fun q => ?_) (fun q => ?_)⟩
    · rw [if_pos q] at hp
      exact ⟨v3, hp⟩
    · rw [if_neg q] at hp
      exact hp
  · rw [if_neg z] at hp
    have k0 : k = 0 := by omega
    refine br_f (by rw [k0]; decide) ⟨v0, br_c (fun q => ?_) (fun q => ?_)⟩
    · rw [if_pos q] at hp
      exact hp
    · rw [if_neg q] at hp
      exact ⟨v4, hp⟩
end
/-! the reference's flood, purely -/
def ir_b (x : Int32) : Bool := !decide (x = 0)
theorem ir_bt {x : Int32} : ir_b x = true ↔ ¬ x = 0 := by
  unfold ir_b
  rw [Bool.not_eq_true', decide_eq_false_iff_not]
def ir_Sat (kd zs nx : Nat → Int32) (c : Nat) (wo : Int32) (S : Nat → Bool) (e : Nat) : Prop := S (e / 2) = true → ∀ t, t < c → ir_sc kd zs nx (e / 2) (e % 2) = nI t → ¬ nI t = wo → S t = true
def ir_FJ (kd zs nx : Nat → Int32) (c f : Nat) (wo : Int32) (i : Nat) (S : Nat → Bool) : Prop :=
  (∀ t, t < 16 → S t = true → ir_L (fun s => s = f) (ir_E c kd zs nx) (fun s => ¬ nI s = wo) t) ∧ (¬ nI f = wo → S f = true) ∧
  ((∀ e, e < 32 → ir_Sat kd zs nx c wo S e) ∨ (i / 32 + 1 ≤ ir_ct S 16 ∧ (i / 32 + 2 ≤ ir_ct S 16 ∨ ∀ e, e < i % 32 → ir_Sat kd zs nx c wo S e)))
section
variable {kd zs nx : Nat → Int32} {c f : Nat} {wo : Int32} {i : Nat} {S : Nat → Bool}
theorem ir_scE (hc : c ≤ 16) (hk : ∀ n, c ≤ n → kd n = 0) {n k t : Nat} (hkk : k < 2) (ht : t < c) (h : ir_sc kd zs nx n k = nI t) : ir_E c kd zs nx n t := by
  have nn : n < c := by
    rcases Nat.lt_or_ge n c with z | z
    · exact z
    · exfalso
      unfold ir_sc at h
      rw [hk n z, if_neg (show ¬ (0 : Int32) = 5 by decide), if_pos (show (0 : Int32) = 0 from rfl)] at h
      by_cases k1 : k = 1
      · rw [if_pos k1] at h
        exact ir_m1n (by omega) h
      · rw [if_neg k1] at h
        exact ir_m1n (by omega) h
  refine ⟨nn, ht, ?_⟩
  unfold ir_sc at h
  split at h
  · split at h
    · exact Or.inr ⟨by assumption, h⟩
    · exact absurd h (ir_m1n (by omega))
  · split at h
    · exact absurd h (ir_m1n (by omega))
    · exact Or.inl ⟨by assumption, h⟩
theorem ir_Esc {n t : Nat} (h : ir_E c kd zs nx n t) : ∃ k, k < 2 ∧ ir_sc kd zs nx n k = nI t := by
  obtain ⟨_, _, h⟩ := h
  rcases h with h | h
  · refine ⟨0, by decide, ?_⟩
    unfold ir_sc
    rw [if_neg (by decide), if_neg h.1]
    exact h.2
  · refine ⟨1, by decide, ?_⟩
    unfold ir_sc
    rw [if_pos rfl, if_pos h.1]
    exact h.2
theorem ir_FJk (h : ir_FJ kd zs nx c f wo i S) (hs : ir_Sat kd zs nx c wo S (i % 32)) : ir_FJ kd zs nx c f wo (i + 1) S := by
  obtain ⟨h1, h2, h3⟩ := h
  refine ⟨h1, h2, ?_⟩
  rcases h3 with h3 | ⟨h3, h4⟩
  · exact Or.inl h3
  · by_cases z : i % 32 = 31
    · have e1 : (i + 1) / 32 = i / 32 + 1 := by omega
      have e2 : (i + 1) % 32 = 0 := by omega
      rw [e1, e2]
      rcases h4 with h4 | h4
      · exact Or.inr ⟨by omega, Or.inr fun e he => absurd he (by omega)⟩
      · refine Or.inl fun e he => ?_
        by_cases q : e = i % 32
        · rw [q]; exact hs
        · exact h4 e (by omega)
    · have e1 : (i + 1) / 32 = i / 32 := by omega
      have e2 : (i + 1) % 32 = i % 32 + 1 := by omega
      rw [e1, e2]
      refine Or.inr ⟨h3, ?_⟩
      rcases h4 with h4 | h4
      · exact Or.inl h4
      · refine Or.inr fun e he => ?_
        by_cases q : e = i % 32
        · rw [q]; exact hs
        · exact h4 e (by omega)
theorem ir_FJa (hc : c ≤ 16) (hk : ∀ n, c ≤ n → kd n = 0) {t : Nat} (h : ir_FJ kd zs nx c f wo i S) (hn : S (i % 32 / 2) = true) (ht : t < c) (hsc : ir_sc kd zs nx (i % 32 / 2) (i % 32 % 2) = nI t) (hw : ¬ nI t = wo) :
    ir_FJ kd zs nx c f wo (i + 1) (fun j => if j = t then true else S j) := by
  by_cases st : S t = true
  · have e : (fun j => if j = t then true else S j) = S := by
      funext j
      by_cases q : j = t
      · rw [if_pos q, q, st]
      · rw [if_neg q]
    rw [e]
    refine ir_FJk h ?_
    intro _ t' ht' hs' _
    rw [← ir_nI_inj (by omega) (by omega) (hsc.symm.trans hs')]
    exact st
  · obtain ⟨h1, h2, h3⟩ := h
    have nE : ir_E c kd zs nx (i % 32 / 2) t := ir_scE hc hk (by omega) ht hsc
    refine ⟨?_, ?_, ?_⟩
    · intro j hj hS
      dsimp only at hS
      by_cases q : j = t
      · subst q
        exact ir_L1 (h1 _ (by omega) hn) nE hw
      · rw [if_neg q] at hS
        exact h1 j hj hS
    · intro q
      dsimp only
      by_cases z : f = t
      · rw [if_pos z]
      · rw [if_neg z]; exact h2 q
    · have h4 : i / 32 + 1 ≤ ir_ct S 16 := by
        rcases h3 with h3 | h3
        · exact absurd (h3 (i % 32) (by omega) hn t ht hsc hw) st
        · exact h3.1
      have lt := ir_ct_lt (p := S) (q := fun j => if j = t then true else S j) (a := t) (ir_nt st) (by simp) (n := 16) (fun j _ hj => by by_cases q : j = t <;> simp [q, hj]) (by omega)
      right
      by_cases z : i % 32 = 31
      · have e1 : (i + 1) / 32 = i / 32 + 1 := by omega
        have e2 : (i + 1) % 32 = 0 := by omega
        rw [e1, e2]
        exact ⟨by omega, Or.inr fun e he => absurd he (by omega)⟩
      · have e1 : (i + 1) / 32 = i / 32 := by omega
        rw [e1]
        exact ⟨by omega, Or.inl (by omega)⟩
theorem ir_FJe (hc : c ≤ 16) (hf : f < c) (h : ir_FJ kd zs nx c f wo 512 S) {t : Nat} (ht : t < 16) : S t = true ↔ ir_L (fun s => s = f) (ir_E c kd zs nx) (fun s => ¬ nI s = wo) t := by
  obtain ⟨h1, h2, h3⟩ := h
  have cls : ∀ e, e < 32 → ir_Sat kd zs nx c wo S e := by
    rcases h3 with h3 | h3
    · exact h3
    · have := ir_ct_le S 16
      have := h3.1
      omega
  refine ⟨h1 t ht, fun z => ?_⟩
  refine z (fun t => S t = true) ?_ ?_
  · intro a ha ho
    subst ha
    exact h2 ho
  · intro a b ha e ho
    obtain ⟨k, hk, hs⟩ := ir_Esc e
    have := e.1
    have q := cls (2 * a + k) (by omega)
    unfold ir_Sat at q
    rw [show (2 * a + k) / 2 = a by omega, show (2 * a + k) % 2 = k by omega] at q
    exact q ha b e.2.1 hs ho
end
theorem ir_vb0 : vp_nar .boolean 0 = 0 := rfl
theorem ir_vb1 : vp_nar .boolean 1 = 1 := rfl
theorem ir_r2 {i : Nat} (hi : i < 2 ^ 31) : nI i - nI i / 2 * 2 = nI (i % 2) := pk_rem (d := 2) hi (by decide) (by decide)
theorem ir_r32 {i : Nat} (hi : i < 2 ^ 31) : (nI i - nI i / 32 * 32) / 2 = nI (i % 32 / 2) := by
  have e : nI i - nI i / 32 * 32 = nI (i % 32) := pk_rem (d := 32) hi (by decide) (by decide)
  rw [e]
  exact pk_div (d := 2) (by omega) (by decide) (by decide)
section
variable {nl vl ol c : Nat} {cl rc : Int32} {kd xs ys zs nx su pr dm lo wr sp hm bs fa cr ic it va st ou cd mk nd lk dY lY se : Nat → Int32}
variable {post : SY → Prop}
theorem ir_y_fl37 {f : Nat} {wo : Int32} (hN : ir_N nd kd xs ys zs nx) (hc : c ≤ 16) (hk : ∀ n, c ≤ n → kd n = 0) (hf : f < c)
    (hp : ∀ se', (∀ t, t < 16 → (¬ se' t = 0 ↔ ir_L (fun s => s = f) (ir_E c kd zs nx) (fun s => ¬ nI s = wo) t)) → post (nI nl, nI vl, nI ol, nI c, cl, nd, it, va, st, ou, lk, mk, dY, lY, se')) :
    ∀ k i se, i + k = 512 → ir_FJ kd zs nx c f wo i (fun j => ir_b (se j)) → wY_flood_37 post wo (nI nl) (nI vl) (nI ol) (nI c) cl (k + 1) (nI i) nd it va st ou lk mk dY lY se := by
  intro k
  induction k with
  | zero =>
    intro i se hi h
    have e : i = 512 := by omega
    subst e
    refine br_t (nI_le (a := 512) (b := 512) (by omega) (by omega)) (hp se fun t ht => ?_)
    rw [← ir_FJe hc hf h ht, ir_bt]
  | succ k ih =>
    intro i se hi h
    have keep : ir_Sat kd zs nx c wo (fun j => ir_b (se j)) (i % 32) → wY_flood_37 post wo (nI nl) (nI vl) (nI ol) (nI c) cl (k + 1) (nI (i + 1)) nd it va st ou lk mk dY lY se := fun s => ih (i + 1) se (by omega) (ir_FJk h s)
    have n16 : i % 32 / 2 < 16 := by omega
    refine br_f (nI_ge (b := 512) (by omega) (by decide)) ⟨by decide, by decide, nm_r (ir_r32 (by omega)) ⟨by decide, ?_⟩⟩
    rw [ir_r2 (by omega), show i % 2 = i % 32 % 2 by omega]
    refine ir_y_succ hN n16 (by omega) ⟨vp_in_nI n16 (by omega), ?_⟩
    rw [nI_clamp (show i % 32 / 2 < 2 ^ 31 by omega)]
    refine br_c (fun z => nm_r (nI_1 i) (keep fun q => absurd z (ir_bt.mp q))) (fun z => ?_)
    rcases pk_ix (ir_sc kd zs nx (i % 32 / 2) (i % 32 % 2)) (n := c) (by omega) with q | q | ⟨t, ht, e⟩
    · refine ir_y_exn (Or.inl q) (br_t rfl (nm_r (nI_1 i) (keep fun _ t ht e _ => ?_)))
      rw [e] at q
      exact absurd q (nI_pos (by omega))
    · refine ir_y_exn (Or.inr q) (br_t rfl (nm_r (nI_1 i) (keep fun _ t ht e _ => ?_)))
      rw [e] at q
      exact absurd q (nI_ge ht (by omega))
    · rw [e]
      refine ir_y_ex ht (by omega) (br_f ir_10 (br_c (fun w => nm_r (nI_1 i) (keep fun _ t' ht' e' nw => ?_)) (fun w => ⟨vp_in_nI (by omega) (by omega), ?_⟩)))
      · rw [← w, ← e', e] at nw
        exact absurd rfl nw
      · rw [nI_clamp (show t < 2 ^ 31 by omega)]
        refine nm_r (e' := upd se t 1) (by rw [ir_vb1]) (nm_r (nI_1 i) (ih (i + 1) (upd se t 1) (by omega) ?_))
        have a := ir_FJa hc hk h (ir_bt.mpr z) ht e w
        have eq : (fun j => ir_b (upd se t 1 j)) = (fun j => if j = t then true else ir_b (se j)) := by
          funext j
          by_cases g : j = t
          · rw [g, pk_us, if_pos rfl]
            rfl
          · rw [pk_un g, if_neg g]
        rw [eq]
        exact a
theorem ir_y_fl2 {f : Nat} {wo : Int32} (hN : ir_N nd kd xs ys zs nx) (hc : c ≤ 16) (hk : ∀ n, c ≤ n → kd n = 0) (hf : f < c)
    (hp : ∀ se', (∀ t, t < 16 → (¬ se' t = 0 ↔ ir_L (fun s => s = f) (ir_E c kd zs nx) (fun s => ¬ nI s = wo) t)) → post (nI nl, nI vl, nI ol, nI c, cl, nd, it, va, st, ou, lk, mk, dY, lY, se')) :
    ∀ k i se, i + k = 16 → (∀ t, t < i → (¬ se t = 0 ↔ (t = f ∧ ¬ nI t = wo))) → wY_flood_2 post (nI f) wo (nI nl) (nI vl) (nI ol) (nI c) cl (k + 1) (nI i) nd it va st ou lk mk dY lY se := by
  intro k
  induction k with
  | zero =>
    intro i se hi h
    have e : i = 16 := by omega
    subst e
    refine br_t (nI_le (a := 16) (b := 16) (by omega) (by omega)) ⟨513, ir_y_fl37 hN hc hk hf hp 512 0 se (by omega) ⟨?_, ?_, ?_⟩⟩
    · intro t ht hs
      have := (h t ht).mp (ir_bt.mp hs)
      exact ir_L0 this.1 this.2
    · intro q
      exact ir_bt.mpr ((h f (by omega)).mpr ⟨rfl, q⟩)
    · by_cases q : nI f = wo
      · left
        intro e he hs
        have := (h (e / 2) (by omega)).mp (ir_bt.mp hs)
        rw [this.1] at this
        exact absurd q this.2
      · right
        have lt := ir_ct_lt (p := fun _ => false) (q := fun j => ir_b (se j)) (a := f) rfl (ir_bt.mpr ((h f (by omega)).mpr ⟨rfl, q⟩)) (n := 16) (fun j _ hj => absurd hj Bool.false_ne_true) (by omega)
        exact ⟨by omega, Or.inr fun e he => absurd he (by omega)⟩
  | succ k ih =>
    intro i se hi h
    have step : ∀ x : Int32, (¬ x = 0 ↔ (i = f ∧ ¬ nI i = wo)) → wY_flood_2 post (nI f) wo (nI nl) (nI vl) (nI ol) (nI c) cl (k + 1) (nI (i + 1)) nd it va st ou lk mk dY lY (upd se i x) := by
      intro x hx
      refine ih (i + 1) (upd se i x) (by omega) fun t ht => ?_
      by_cases q : t = i
      · rw [q, pk_us]
        exact hx
      · rw [pk_un q]
        exact h t (by omega)
    have hin : vp_in (nI i) 16 := vp_in_nI (by omega) (by omega)
    refine br_f (nI_ge (b := 16) (by omega) (by decide)) ?_
    rw [nI_clamp (show i < 2 ^ 31 by omega), ir_vb0, ir_vb1]
    refine br_c (fun a => br_c (fun b => ⟨hin, nm_e (nm_r (nI_1 i) (step 0 ⟨fun z => absurd rfl z, fun z => absurd b z.2⟩))⟩) (fun b => ⟨hin, nm_e (nm_r (nI_1 i) (step 1 ⟨fun _ => ⟨ir_nI_inj (by omega) (by omega) a, b⟩, fun _ => ir_10⟩))⟩)) (fun a => ⟨hin, nm_e (nm_r (nI_1 i) (step 0 ⟨fun z => absurd rfl z, fun z => absurd (congrArg nI z.1) a⟩))⟩)
theorem ir_y_flood {f h : Nat} (hN : ir_N nd kd xs ys zs nx) (hc : c ≤ 16) (hk : ∀ n, c ≤ n → kd n = 0) (hf : f < c) (hh : h < c)
    (hp : ∀ se', (∀ t, t < 16 → (¬ se' t = 0 ↔ ir_F (ir_E c kd zs nx) f h t)) → post (nI nl, nI vl, nI ol, nI c, cl, nd, it, va, st, ou, lk, mk, dY, lY, se')) : wpY_flood post (nI nl, nI vl, nI ol, nI c, cl, nd, it, va, st, ou, lk, mk, dY, lY, se) (nI f) (nI h) := by
  refine ⟨17, ir_y_fl2 hN hc hk hf (fun se' hs => hp se' fun t ht => (hs t ht).trans ⟨?_, ?_⟩) 16 0 se (by omega) (fun t ht => absurd ht (by omega))⟩
  · exact ir_Lcongr (fun a z o => ⟨z, fun e => o (congrArg nI e)⟩) (fun a b z o => ⟨z, fun e => o (congrArg nI e)⟩)
  · exact ir_Lcongr (fun a z o => ⟨z, fun e => o (ir_nI_inj (by omega) (by omega) e)⟩) (fun a b z o => ⟨z, fun e => o (ir_nI_inj (by have := z.2.1; omega) (by omega) e)⟩)
theorem ir_y_flood0 (hN : ir_N nd kd xs ys zs nx) (hc : c ≤ 16) (hk : ∀ n, c ≤ n → kd n = 0) (h0 : 0 < c)
    (hp : ∀ se', (∀ t, t < 16 → (¬ se' t = 0 ↔ ir_R (ir_E c kd zs nx) t)) → post (nI nl, nI vl, nI ol, nI c, cl, nd, it, va, st, ou, lk, mk, dY, lY, se')) : wpY_flood post (nI nl, nI vl, nI ol, nI c, cl, nd, it, va, st, ou, lk, mk, dY, lY, se) 0 (-1) := by
  refine ⟨17, ir_y_fl2 (f := 0) hN hc hk h0 (fun se' hs => hp se' fun t ht => (hs t ht).trans ⟨?_, ?_⟩) 16 0 se (by omega) (fun t ht => absurd ht (by omega))⟩
  · exact ir_Lcongr (fun a z o => ⟨z, trivial⟩) (fun a b z o => ⟨z, trivial⟩)
  · exact ir_Lcongr (fun a z o => ⟨z, fun e => ir_m1n (t := a) (by omega) e.symm⟩) (fun a b z o => ⟨z, fun e => ir_m1n (t := b) (by have := z.2.1; omega) e.symm⟩)
end
end
section
/-! the reference's dominators and loops -/
def ir_DI (E : Nat → Nat → Prop) (dY : Nat → Int32) (a b : Nat) : Prop := ∀ a' b', a' < 16 → b' < 16 →
  ((a' < a ∨ (a' = a ∧ b' < b)) → (¬ dY (16 * a' + b') = 0 ↔ ir_D E a' b')) ∧ (¬ (a' < a ∨ (a' = a ∧ b' < b)) → (¬ dY (16 * a' + b') = 0 ↔ (ir_R E a' ∧ ir_R E b')))
def ir_LI (E : Nat → Nat → Prop) (lY : Nat → Int32) (h n : Nat) (P : Prop) : Prop := ∀ h' n', h' < 16 → n' < 16 →
  ((h' < h ∨ (h' = h ∧ n' < n)) → (¬ lY (16 * h' + n') = 0 ↔ ir_Lp E h' n')) ∧ ((h' = h ∧ n' = n) → (¬ lY (16 * h' + n') = 0 ↔ P)) ∧
  (¬ (h' < h ∨ (h' = h ∧ n' < n)) → ¬ (h' = h ∧ n' = n) → lY (16 * h' + n') = 0)
theorem ir_d16 {i : Nat} (hi : i < 2 ^ 31) : nI i / 16 = nI (i / 16) := pk_div (d := 16) hi (by decide) (by decide)
theorem ir_r16 {i : Nat} (hi : i < 2 ^ 31) : nI i - nI i / 16 * 16 = nI (i % 16) := pk_rem (d := 16) hi (by decide) (by decide)
section
variable {nl vl ol c : Nat} {cl rc : Int32} {kd xs ys zs nx su pr dm lo wr sp hm bs fa cr ic it va st ou cd mk nd lk dY lY se : Nat → Int32}
variable {post : Int32 → SY → Prop}
theorem ir_y_sl75 (K : ∀ dY', (∀ j, j < 256 → (¬ dY' j = 0 ↔ (¬ se (j / 16) = 0 ∧ ¬ se (j % 16) = 0))) → ∃ n125, wY_seal_125 post n125 0 (nI nl) (nI vl) (nI ol) (nI c) cl nd it va st ou lk mk dY' lY se) :
    ∀ k i dY, i + k = 256 → (∀ j, j < i → (¬ dY j = 0 ↔ (¬ se (j / 16) = 0 ∧ ¬ se (j % 16) = 0))) → wY_seal_75 post (nI nl) (nI vl) (nI ol) (nI c) cl (k + 1) (nI i) nd it va st ou lk mk dY lY se := by
  intro k
  induction k with
  | zero =>
    intro i dY hi h
    have e : i = 256 := by omega
    subst e
    exact br_t (nI_le (a := 256) (b := 256) (by omega) (by omega)) (K dY h)
  | succ k ih =>
    intro i dY hi h
    have hin : vp_in (nI i) 256 := vp_in_nI (by omega) (by omega)
    have step : ∀ x : Int32, (¬ x = 0 ↔ (¬ se (i / 16) = 0 ∧ ¬ se (i % 16) = 0)) → wY_seal_75 post (nI nl) (nI vl) (nI ol) (nI c) cl (k + 1) (nI (i + 1)) nd it va st ou lk mk (upd dY i x) lY se := by
      intro x hx
      refine ih (i + 1) _ (by omega) fun j hj => ?_
      by_cases q : j = i
      · rw [q, pk_us]
        exact hx
      · rw [pk_un q]
        exact h j (by omega)
    refine br_f (nI_ge (b := 256) (by omega) (by decide)) ?_
    rw [ir_r16 (by omega), ir_d16 (by omega), nI_clamp (show i / 16 < 2 ^ 31 by omega), nI_clamp (show i % 16 < 2 ^ 31 by omega), nI_clamp (show i < 2 ^ 31 by omega), ir_vb0, ir_vb1]
    refine ⟨by decide, vp_in_nI (by omega) (by omega), br_c (fun z => ⟨hin, nm_e (nm_r (nI_1 i) (step 0 ⟨fun q => absurd rfl q, fun q => absurd z q.1⟩))⟩) (fun z => ⟨by decide, vp_in_nI (by omega) (by omega), br_c (fun w => ⟨hin, nm_e (nm_r (nI_1 i) (step 0 ⟨fun q => absurd rfl q, fun q => absurd w q.2⟩))⟩) (fun w => ⟨hin, nm_e (nm_r (nI_1 i) (step 1 ⟨fun _ => ⟨z, w⟩, fun _ => ir_10⟩))⟩)⟩)⟩
theorem ir_y_sl141 {J125 : Int32 → Int32 → Int32 → Int32 → Int32 → Int32 → (Nat → Int32) → (Nat → Int32) → (Nat → Int32) → (Nat → Int32) → (Nat → Int32) → (Nat → Int32) → (Nat → Int32) → (Nat → Int32) → (Nat → Int32) → (Nat → Int32) → Prop} {a : Nat} (hc : c ≤ 16) (h0 : 0 < c) (ha : a < c) (hs : ∀ t, t < 16 → (¬ se t = 0 ↔ ir_F (ir_E c kd zs nx) 0 a t))
    (J : ∀ dY', ir_DI (ir_E c kd zs nx) dY' (a + 1) 0 → J125 (nI (a + 1)) (nI nl) (nI vl) (nI ol) (nI c) cl nd it va st ou lk mk dY' lY se) :
    ∀ k i dY, i + k = c → ir_DI (ir_E c kd zs nx) dY a i → wY_seal_141 post J125 (nI a) (nI nl) (nI vl) (nI ol) (nI c) cl (k + 1) (nI i) nd it va st ou lk mk dY lY se := by
  have hEc : ∀ a b, ir_E c kd zs nx a b → b < c := fun a b e => e.2.1
  intro k
  induction k with
  | zero =>
    intro i dY hi h
    refine br_t (nI_le (by omega) (by omega)) (nm_r (nI_1 a) (J dY fun a' b' ha' hb' => ⟨fun q => ?_, fun q => (h a' b' ha' hb').2 (by omega)⟩))
    by_cases z : a' < a ∨ (a' = a ∧ b' < i)
    · exact (h a' b' ha' hb').1 z
    · rw [(h a' b' ha' hb').2 z]
      refine ⟨fun y => absurd (ir_Rc h0 hEc y.2) (by omega), fun y => ⟨y.1, y.2.1⟩⟩
  | succ k ih =>
    intro i dY hi h
    refine br_f (nI_ge (by omega) (by omega)) ⟨vp_in_nI (by omega) (by omega), ?_⟩
    rw [nI_clamp (show i < 2 ^ 31 by omega), ir_c16 (by omega) (by omega), ir_vb0]
    refine br_c (fun z => nm_r (nI_1 i) (ih (i + 1) dY (by omega) fun a' b' ha' hb' => ⟨fun q => ?_, fun q => (h a' b' ha' hb').2 (by omega)⟩)) (fun z => ⟨ir_v16 (by omega) (by omega), nm_e (nm_r (nI_1 i) (ih (i + 1) _ (by omega) fun a' b' ha' hb' => ?_))⟩)
    · by_cases w : a' = a ∧ b' = i
      · rw [(h a' b' ha' hb').2 (by omega)]
        refine ⟨fun y => ⟨y.1, y.2, fun f => ?_⟩, fun y => ⟨y.1, y.2.1⟩⟩
        rw [w.1, w.2] at f
        exact (hs i (by omega)).mpr f z
      · exact (h a' b' ha' hb').1 (by omega)
    · by_cases w : a' = a ∧ b' = i
      · rw [w.1, w.2, pk_us]
        refine ⟨fun _ => ⟨fun y => absurd rfl y, fun y => absurd ((hs i (by omega)).mp z) y.2.2⟩, fun y => absurd (Or.inr ⟨rfl, Nat.lt_succ_self _⟩) y⟩
      · rw [pk_un (show 16 * a' + b' ≠ 16 * a + i by omega)]
        exact ⟨fun q => (h a' b' ha' hb').1 (by omega), fun q => (h a' b' ha' hb').2 (by omega)⟩
theorem ir_y_sl125 (hN : ir_N nd kd xs ys zs nx) (hc : c ≤ 16) (hk : ∀ n, c ≤ n → kd n = 0) (h0 : 0 < c)
    (K : ∀ se' dY', (∀ a b, a < 16 → b < 16 → (¬ dY' (16 * a + b) = 0 ↔ ir_D (ir_E c kd zs nx) a b)) → ∃ n184, wY_seal_184 post n184 0 (nI nl) (nI vl) (nI ol) (nI c) cl nd it va st ou lk mk dY' lY se') :
    ∀ k i se dY, i + k = c → ir_DI (ir_E c kd zs nx) dY i 0 → wY_seal_125 post (k + 1) (nI i) (nI nl) (nI vl) (nI ol) (nI c) cl nd it va st ou lk mk dY lY se := by
  have hEc : ∀ a b, ir_E c kd zs nx a b → b < c := fun a b e => e.2.1
  intro k
  induction k with
  | zero =>
    intro i se dY hi h
    refine br_t (nI_le (by omega) (by omega)) (K se dY fun a b ha hb => ?_)
    by_cases z : a < i
    · exact (h a b ha hb).1 (Or.inl z)
    · rw [(h a b ha hb).2 (by omega)]
      exact ⟨fun y => absurd (ir_Rc h0 hEc y.1) (by omega), fun y => ⟨y.1, y.2.1⟩⟩
  | succ k ih =>
    intro i se dY hi h
    refine br_f (nI_ge (by omega) (by omega)) (ir_y_flood (f := 0) hN hc hk h0 (by omega) (fun se' hs => ?_))
    exact ⟨c + 1, ir_y_sl141 hc h0 (by omega) hs (fun dY' h' => ih (i + 1) se' dY' (by omega) h') c 0 dY (by omega) h⟩
theorem ir_y_sl278 {J184 J194 : Int32 → Int32 → Int32 → Int32 → Int32 → Int32 → (Nat → Int32) → (Nat → Int32) → (Nat → Int32) → (Nat → Int32) → (Nat → Int32) → (Nat → Int32) → (Nat → Int32) → (Nat → Int32) → (Nat → Int32) → (Nat → Int32) → Prop} {J210 : Int32 → (Nat → Int32) → (Nat → Int32) → (Nat → Int32) → (Nat → Int32) → (Nat → Int32) → (Nat → Int32) → (Nat → Int32) → (Nat → Int32) → (Nat → Int32) → (Nat → Int32) → Prop} {h n u : Nat} (hh : h < 16) (hn : n < 16) (J : J210 (nI (u + 1)) nd it va st ou lk mk dY (upd lY (16 * h + n) 1) se) : wY_seal_278 post J184 J194 J210 (nI h) (nI n) (nI u) (nI nl) (nI vl) (nI ol) (nI c) cl nd it va st ou lk mk dY lY se := by
  unfold wY_seal_278
  rw [ir_c16 hh hn, ir_vb1]
  exact ⟨ir_v16 hh hn, nm_e (nm_r (nI_1 u) J)⟩
theorem ir_y_sl210 {J184 J194 : Int32 → Int32 → Int32 → Int32 → Int32 → Int32 → (Nat → Int32) → (Nat → Int32) → (Nat → Int32) → (Nat → Int32) → (Nat → Int32) → (Nat → Int32) → (Nat → Int32) → (Nat → Int32) → (Nat → Int32) → (Nat → Int32) → Prop} {h n : Nat} (hN : ir_N nd kd xs ys zs nx) (hc : c ≤ 16) (hk : ∀ n, c ≤ n → kd n = 0) (h0 : 0 < c) (hh : h < c) (hn : n < c)
    (hs : ∀ t, t < 16 → (¬ se t = 0 ↔ ir_F (ir_E c kd zs nx) n h t)) (hD : ∀ a b, a < 16 → b < 16 → (¬ dY (16 * a + b) = 0 ↔ ir_D (ir_E c kd zs nx) a b))
    (J : ∀ lY', ir_LI (ir_E c kd zs nx) lY' h (n + 1) False → J194 (nI (n + 1)) (nI nl) (nI vl) (nI ol) (nI c) cl nd it va st ou lk mk dY lY' se) :
    ∀ k i lY, i + k = c → ir_LI (ir_E c kd zs nx) lY h n (∃ u, u < i ∧ ir_D (ir_E c kd zs nx) h u ∧ ir_E c kd zs nx u h ∧ (n = h ∨ (ir_R (ir_E c kd zs nx) n ∧ ir_F (ir_E c kd zs nx) n h u))) → wY_seal_210 post J184 J194 (nI h) (nI n) (nI nl) (nI vl) (nI ol) (nI c) cl (k + 1) (nI i) nd it va st ou lk mk dY lY se := by
  have hEc : ∀ a b, ir_E c kd zs nx a b → b < c := fun a b e => e.2.1
  intro k
  induction k with
  | zero =>
    intro i lY hi H
    refine br_t (nI_le (by omega) (by omega)) (nm_r (nI_1 n) (J lY fun h' n' hh' hn' => ⟨fun q => ?_, fun q => ⟨fun z => ?_, False.elim⟩, fun q w => (H h' n' hh' hn').2.2 (by omega) (by omega)⟩))
    · by_cases w : h' = h ∧ n' = n
      · rw [(H h' n' hh' hn').2.1 w, w.1, w.2]
        constructor
        · rintro ⟨u, _, a, b, d⟩
          exact ⟨u, a, b, d⟩
        · rintro ⟨u, a, b, d⟩
          exact ⟨u, by have := b.1; omega, a, b, d⟩
      · exact (H h' n' hh' hn').1 (by omega)
    · exact z ((H h' n' hh' hn').2.2 (by omega) (by omega))
  | succ k ih =>
    intro i lY hi H
    have keep : ¬ (ir_D (ir_E c kd zs nx) h i ∧ ir_E c kd zs nx i h ∧ (n = h ∨ (ir_R (ir_E c kd zs nx) n ∧ ir_F (ir_E c kd zs nx) n h i))) → wY_seal_210 post J184 J194 (nI h) (nI n) (nI nl) (nI vl) (nI ol) (nI c) cl (k + 1) (nI (i + 1)) nd it va st ou lk mk dY lY se := by
      intro z
      refine ih (i + 1) lY (by omega) fun h' n' hh' hn' => ⟨(H h' n' hh' hn').1, fun q => ((H h' n' hh' hn').2.1 q).trans ?_, (H h' n' hh' hn').2.2⟩
      constructor
      · rintro ⟨u, a, b⟩
        exact ⟨u, by omega, b⟩
      · rintro ⟨u, a, b⟩
        by_cases w : u = i
        · subst w
          exact absurd b z
        · exact ⟨u, by omega, b⟩
    have put : (ir_D (ir_E c kd zs nx) h i ∧ ir_E c kd zs nx i h ∧ (n = h ∨ (ir_R (ir_E c kd zs nx) n ∧ ir_F (ir_E c kd zs nx) n h i))) → wY_seal_210 post J184 J194 (nI h) (nI n) (nI nl) (nI vl) (nI ol) (nI c) cl (k + 1) (nI (i + 1)) nd it va st ou lk mk dY (upd lY (16 * h + n) 1) se := by
      intro z
      refine ih (i + 1) _ (by omega) fun h' n' hh' hn' => ?_
      by_cases w : h' = h ∧ n' = n
      · rw [w.1, w.2, pk_us]
        exact ⟨fun q => absurd q (by omega), fun _ => ⟨fun _ => ⟨i, Nat.lt_succ_self _, z⟩, fun _ => ir_10⟩, fun _ q => absurd ⟨rfl, rfl⟩ q⟩
      · rw [pk_un (show 16 * h' + n' ≠ 16 * h + n by omega)]
        exact ⟨(H h' n' hh' hn').1, fun q => absurd q w, (H h' n' hh' hn').2.2⟩
    refine br_f (nI_ge (by omega) (by omega)) ⟨ir_v16 (by omega) (by omega), ?_⟩
    rw [ir_c16 (by omega) (by omega)]
    refine br_c (fun z => nm_r (nI_1 i) (keep fun q => (hD h i (by omega) (by omega)).mpr q.1 z)) (fun z => ?_)
    have d1 := (hD h i (by omega) (by omega)).mp z
    have j252 : ir_E c kd zs nx i h → wY_seal_252 post J184 J194 (wY_seal_210 post J184 J194 (nI h) (nI n) (nI nl) (nI vl) (nI ol) (nI c) cl (k + 1)) (nI h) (nI n) (nI i) (nI nl) (nI vl) (nI ol) (nI c) cl nd it va st ou lk mk dY lY se := by
      intro e
      unfold wY_seal_252
      rw [ir_c17 (by omega), nI_clamp (show i < 2 ^ 31 by omega)]
      refine br_c (fun q => ir_y_sl278 (by omega) (by omega) (put ⟨d1, e, Or.inl (ir_nI_inj (by omega) (by omega) q)⟩)) (fun q => ⟨ir_v17 (by omega), br_c (fun w => nm_r (nI_1 i) (keep fun y => ?_)) (fun w => ⟨vp_in_nI (by omega) (by omega), br_c (fun s => nm_r (nI_1 i) (keep fun y => ?_)) (fun s => ir_y_sl278 (by omega) (by omega) (put ⟨d1, e, Or.inr ⟨((hD n n (by omega) (by omega)).mp w).1, (hs i (by omega)).mp s⟩⟩))⟩)⟩)
      · rcases y.2.2 with y | y
        · exact q (congrArg nI y)
        · exact (hD n n (by omega) (by omega)).mpr ⟨y.1, y.1, fun f => ir_Lok f rfl⟩ w
      · rcases y.2.2 with y | y
        · exact q (congrArg nI y)
        · exact (hs i (by omega)).mpr y.2 s
    refine ir_y_succ (k := 0) hN (by omega) (by decide) (br_c (fun q => j252 (ir_scE hc hk (by decide) hh q)) (fun q => ir_y_succ (k := 1) hN (by omega) (by decide) (br_c (fun q' => j252 (ir_scE hc hk (by decide) hh q')) (fun q' => nm_r (nI_1 i) (keep fun y => ?_)))))
    obtain ⟨kk, hkk, e⟩ := ir_Esc y.2.1
    rcases (show kk = 0 ∨ kk = 1 by omega) with w | w
    · rw [w] at e
      exact q e
    · rw [w] at e
      exact q' e
theorem ir_y_sl194 {J184 : Int32 → Int32 → Int32 → Int32 → Int32 → Int32 → (Nat → Int32) → (Nat → Int32) → (Nat → Int32) → (Nat → Int32) → (Nat → Int32) → (Nat → Int32) → (Nat → Int32) → (Nat → Int32) → (Nat → Int32) → (Nat → Int32) → Prop} {h : Nat} (hN : ir_N nd kd xs ys zs nx) (hc : c ≤ 16) (hk : ∀ n, c ≤ n → kd n = 0) (h0 : 0 < c) (hh : h < c)
    (hD : ∀ a b, a < 16 → b < 16 → (¬ dY (16 * a + b) = 0 ↔ ir_D (ir_E c kd zs nx) a b))
    (J : ∀ se' lY', ir_LI (ir_E c kd zs nx) lY' (h + 1) 0 False → J184 (nI (h + 1)) (nI nl) (nI vl) (nI ol) (nI c) cl nd it va st ou lk mk dY lY' se') :
    ∀ k i se lY, i + k = c → ir_LI (ir_E c kd zs nx) lY h i False → wY_seal_194 post J184 (nI h) (k + 1) (nI i) (nI nl) (nI vl) (nI ol) (nI c) cl nd it va st ou lk mk dY lY se := by
  have hEc : ∀ a b, ir_E c kd zs nx a b → b < c := fun a b e => e.2.1
  intro k
  induction k with
  | zero =>
    intro i se lY hi H
    refine br_t (nI_le (by omega) (by omega)) (nm_r (nI_1 h) (J se lY fun h' n' hh' hn' => ⟨fun q => ?_, fun q => ⟨fun z => z ((H h' n' hh' hn').2.2 (by omega) (by omega)), False.elim⟩, fun q w => (H h' n' hh' hn').2.2 (by omega) (by omega)⟩))
    by_cases w : h' = h ∧ c ≤ n'
    · refine ⟨fun y => ?_, fun y => absurd (ir_Lpc h0 hEc y).2 (by omega)⟩
      by_cases v : n' = i
      · exact (((H h' n' hh' hn').2.1 ⟨w.1, v⟩).mp y).elim
      · exact absurd ((H h' n' hh' hn').2.2 (by omega) (by omega)) y
    · exact (H h' n' hh' hn').1 (by omega)
  | succ k ih =>
    intro i se lY hi H
    refine br_f (nI_ge (by omega) (by omega)) (ir_y_flood hN hc hk (by omega) hh (fun se' hs => ⟨c + 1, ir_y_sl210 hN hc hk h0 hh (by omega) hs hD (fun lY' H' => ih (i + 1) se' lY' (by omega) H') c 0 lY (by omega) fun h' n' hh' hn' => ⟨(H h' n' hh' hn').1, fun q => ((H h' n' hh' hn').2.1 q).trans ⟨False.elim, ?_⟩, (H h' n' hh' hn').2.2⟩⟩))
    rintro ⟨u, a, _⟩
    omega
theorem ir_y_sl184 (hN : ir_N nd kd xs ys zs nx) (hc : c ≤ 16) (hk : ∀ n, c ≤ n → kd n = 0) (h0 : 0 < c)
    (hD : ∀ a b, a < 16 → b < 16 → (¬ dY (16 * a + b) = 0 ↔ ir_D (ir_E c kd zs nx) a b))
    (K : ∀ se' lY', (∀ h n, h < 16 → n < 16 → (¬ lY' (16 * h + n) = 0 ↔ ir_Lp (ir_E c kd zs nx) h n)) → ∃ n310, wY_seal_310 post (nI nl) (nI vl) (nI ol) (nI c) cl n310 0 nd it va st ou lk mk dY lY' se') :
    ∀ k i se lY, i + k = c → ir_LI (ir_E c kd zs nx) lY i 0 False → wY_seal_184 post (k + 1) (nI i) (nI nl) (nI vl) (nI ol) (nI c) cl nd it va st ou lk mk dY lY se := by
  have hEc : ∀ a b, ir_E c kd zs nx a b → b < c := fun a b e => e.2.1
  intro k
  induction k with
  | zero =>
    intro i se lY hi H
    refine br_t (nI_le (by omega) (by omega)) (K se lY fun h n hh hn => ?_)
    by_cases z : h < i
    · exact (H h n hh hn).1 (Or.inl z)
    · refine ⟨fun y => ?_, fun y => absurd (ir_Lpc h0 hEc y).1 (by omega)⟩
      by_cases v : h = i ∧ n = 0
      · exact (((H h n hh hn).2.1 v).mp y).elim
      · exact absurd ((H h n hh hn).2.2 (by omega) v) y
  | succ k ih =>
    intro i se lY hi H
    exact br_f (nI_ge (by omega) (by omega)) ⟨c + 1, ir_y_sl194 hN hc hk h0 (by omega) hD (fun se' lY' H' => ih (i + 1) se' lY' (by omega) H') c 0 se lY (by omega) H⟩
/-- dominators and loops of the reference -/
theorem ir_y_sealA (hN : ir_N nd kd xs ys zs nx) (hc : c ≤ 16) (hk : ∀ n, c ≤ n → kd n = 0) (h0 : 0 < c) (hl : ∀ j, lY j = 0)
    (K : ∀ se' dY' lY', (∀ a b, a < 16 → b < 16 → (¬ dY' (16 * a + b) = 0 ↔ ir_D (ir_E c kd zs nx) a b)) → (∀ h n, h < 16 → n < 16 → (¬ lY' (16 * h + n) = 0 ↔ ir_Lp (ir_E c kd zs nx) h n)) → ∃ n310, wY_seal_310 post (nI nl) (nI vl) (nI ol) (nI c) cl n310 0 nd it va st ou lk mk dY' lY' se') :
    ∀ se', (∀ t, t < 16 → (¬ se' t = 0 ↔ ir_R (ir_E c kd zs nx) t)) → ∃ n75, wY_seal_75 post (nI nl) (nI vl) (nI ol) (nI c) cl n75 0 nd it va st ou lk mk dY lY se' := by
  intro se1 hs1
  refine ⟨257, ir_y_sl75 (fun dY1 hd1 => ?_) 256 0 dY (by omega) (fun j hj => absurd hj (by omega))⟩
  refine ⟨c + 1, ir_y_sl125 hN hc hk h0 (fun se2 dY2 hd2 => ?_) c 0 se1 dY1 (by omega) (fun a b ha hb => ⟨fun q => absurd q (by omega), fun _ => ?_⟩)⟩
  · refine ⟨c + 1, ir_y_sl184 hN hc hk h0 hd2 (fun se3 lY3 hl3 => K se3 dY2 lY3 hd2 hl3) c 0 se2 lY (by omega) (fun h n hh hn => ⟨fun q => absurd q (by omega), fun _ => ⟨fun z => z (hl _), False.elim⟩, fun _ _ => hl _⟩)⟩
  · rw [hd1 _ (by omega), show (16 * a + b) / 16 = a by omega, show (16 * a + b) % 16 = b by omega, hs1 a ha, hs1 b hb]
end
end
section
/-! the reference's writers, roles, homes, bases -/
def ir_YS (c : Nat) (kd xs ys lo wr sp lY : Nat → Int32) : Prop :=
  (∀ h n, h < 16 → n < 16 → (¬ lY (16 * h + n) = 0 ↔ bt (lo h) n = true)) ∧ (∀ v n, v < 8 → (bt (wr v) n = true ↔ ir_W c kd xs n v)) ∧ (∀ v n, v < 8 → (bt (sp v) n = true ↔ ir_Sp c kd xs ys n v)) ∧
  (∀ h n, bt (lo h) n = true → bt (lo h) h = true ∧ n < c)
theorem ir_ro1 {lo wr sp : Nat → Int32} {h v : Nat} (z : ir_ro lo wr sp h v = 1) : ¬ lo h = 0 ∧ ∀ n, bt (wr v &&& lo h) n = false := by
  unfold ir_ro at z
  by_cases a : lo h = 0
  · rw [if_pos a] at z
    exact absurd z (by decide)
  · rw [if_neg a] at z
    by_cases b : wr v &&& lo h = 0
    · exact ⟨a, ir_z.mp b⟩
    · rw [if_neg b] at z
      by_cases d : (wr v &&& lo h) &&& (sp v ^^^ (-1)) = 0
      · rw [if_pos d] at z
        exact absurd z (by decide)
      · rw [if_neg d] at z
        exact absurd z (by decide)
theorem ir_ro2 {lo wr sp : Nat → Int32} {h v : Nat} (z : ir_ro lo wr sp h v = 2) : ¬ lo h = 0 ∧ (∃ n, bt (wr v &&& lo h) n = true) ∧ ∀ n, bt (wr v &&& lo h) n = true → bt (sp v) n = true := by
  unfold ir_ro at z
  by_cases a : lo h = 0
  · rw [if_pos a] at z
    exact absurd z (by decide)
  · rw [if_neg a] at z
    by_cases b : wr v &&& lo h = 0
    · rw [if_pos b] at z
      exact absurd z (by decide)
    · rw [if_neg b] at z
      by_cases d : (wr v &&& lo h) &&& (sp v ^^^ (-1)) = 0
      · refine ⟨a, ir_nz.mp b, fun n hn => ir_nf fun hs => ?_⟩
        have e := ir_z.mp d n
        rw [b_and, hn, Bool.true_and, ir_bnot _ (ir_b32 hn), hs] at e
        cases e
      · rw [if_neg d] at z
        exact absurd z (by decide)
section
variable {nl vl ol c : Nat} {cl rc : Int32} {kd xs ys zs nx su pr dm lo wr sp hm bs fa cr ic it va st ou cd mk nd lk dY lY se : Nat → Int32}
variable {post : Int32 → Prop}
theorem ir_y_writes {n v : Nat} (hN : ir_N nd kd xs ys zs nx) (hc : c ≤ 16) (hn : n < c) (h1 : ir_W c kd xs n v → post 1) (h0 : ¬ ir_W c kd xs n v → post 0) : wpY_writes post (nI nl, nI vl, nI ol, nI c, cl, nd, it, va, st, ou, lk, mk, dY, lY, se) (nI n) (nI v) := by
  unfold wpY_writes
  dsimp only
  rw [ir_n0 hN (by omega), ir_n1 hN (by omega)]
  have v0 : vp_in ((5 : Int32) * nI n + 0) 80 := ir_v5 (j := 0) (by omega) (by decide)
  have v1 : vp_in ((5 : Int32) * nI n + 1) 80 := ir_v5 (j := 1) (by omega) (by decide)
  exact ⟨v0, br_c (fun a => h0 fun q => q.2.1 a) (fun a => ⟨v0, br_c (fun b => h0 fun q => q.2.2.1 b) (fun b => ⟨v1, br_c (fun d => h1 ⟨hn, a, b, d⟩) (fun d => h0 fun q => d q.2.2.2)⟩)⟩)⟩
theorem ir_WLb {n h v : Nat} (hY : ir_YS c kd xs ys lo wr sp lY) (hv : v < 8) : bt (wr v &&& lo h) n = true ↔ (ir_W c kd xs n v ∧ bt (lo h) n = true) := by
  rw [b_and, Bool.and_eq_true, hY.2.1 v n hv]
theorem ir_y_wr5 {h v : Nat} (hN : ir_N nd kd xs ys zs nx) (hY : ir_YS c kd xs ys lo wr sp lY) (hc : c ≤ 16) (hh : h < c) (hv : v < 8) (hp : post (nI (ir_ct (bt (wr v &&& lo h)) c))) :
    ∀ k i, i + k = c → wY_writers_5 post (nI h) (nI v) (nI nl) (nI vl) (nI ol) (nI c) cl nd it va st ou lk mk dY lY se (k + 1) (nI (ir_ct (bt (wr v &&& lo h)) i)) (nI i) := by
  intro k
  induction k with
  | zero =>
    intro i hi
    have e : i = c := by omega
    subst e
    exact br_t (nI_le (by omega) (by omega)) hp
  | succ k ih =>
    intro i hi
    refine br_f (nI_ge (by omega) (by omega)) ⟨ir_v16 (by omega) (by omega), ?_⟩
    rw [ir_c16 (by omega) (by omega)]
    have skip : ¬ bt (wr v &&& lo h) i = true → wY_writers_5 post (nI h) (nI v) (nI nl) (nI vl) (nI ol) (nI c) cl nd it va st ou lk mk dY lY se (k + 1) (nI (ir_ct (bt (wr v &&& lo h)) i)) (nI (i + 1)) := by
      intro z
      have q := ih (i + 1) (by omega)
      simp only [ir_ct] at q
      rw [if_neg z] at q
      exact q
    refine br_c (fun z => nm_r (nI_1 i) (skip fun q => (hY.1 h i (by omega) (by omega)).mpr ((ir_WLb hY hv).mp q).2 z)) (fun z => ?_)
    refine ir_y_writes hN hc (by omega) (fun w => br_f ir_10 (nm_r (nI_1 _) (nm_r (nI_1 i) ?_))) (fun w => br_t rfl (nm_r (nI_1 i) (skip fun q => w ((ir_WLb hY hv).mp q).1)))
    have q := ih (i + 1) (by omega)
    simp only [ir_ct] at q
    rw [if_pos ((ir_WLb hY hv).mpr ⟨w, (hY.1 h i (by omega) (by omega)).mp z⟩)] at q
    exact q
theorem ir_y_writers {h v : Nat} (hN : ir_N nd kd xs ys zs nx) (hY : ir_YS c kd xs ys lo wr sp lY) (hc : c ≤ 16) (hh : h < c) (hv : v < 8) (hp : post (nI (ir_ct (bt (wr v &&& lo h)) c))) : wpY_writers post (nI nl, nI vl, nI ol, nI c, cl, nd, it, va, st, ou, lk, mk, dY, lY, se) (nI h) (nI v) :=
  ⟨c + 1, ir_y_wr5 hN hY hc hh hv hp c 0 (by omega)⟩
theorem ir_y_ro21 {h v : Nat} (hN : ir_N nd kd xs ys zs nx) (hY : ir_YS c kd xs ys lo wr sp lY) (hc : c ≤ 16) (hh : h < c) (hv : v < 8) (hl : bt (lo h) h = true) (hp : post (ir_ro lo wr sp h v)) :
    ∀ k i, i + k = c → (∀ n, n < i → bt (wr v &&& lo h) n = true → bt (sp v) n = true) → wY_role_21 post (nI h) (nI v) (nI nl) (nI vl) (nI ol) (nI c) cl nd it va st ou lk mk dY lY se (k + 1) (nI i) := by
  have l0 : ¬ lo h = 0 := ir_nz.mpr ⟨h, hl⟩
  unfold ir_ro at hp
  rw [if_neg l0] at hp
  intro k
  induction k with
  | zero =>
    intro i hi H
    refine br_t (nI_le (by omega) (by omega)) (ir_y_writers hN hY hc hh hv ?_)
    have c16 := ir_ct_le (bt (wr v &&& lo h)) c
    have bc : ∀ n, bt (wr v &&& lo h) n = true → n < c := fun n q => ((ir_WLb hY hv).mp q).1.1
    refine br_c (fun z => ?_) (fun z => ?_)
    · have z' : ir_ct (bt (wr v &&& lo h)) c = 0 := ir_nI_inj (b := 0) (by omega) (by omega) z
      have e : wr v &&& lo h = 0 := ir_z.mpr fun n => ir_nt fun q => by
        have := ir_ct0.mp z' n (bc n q)
        rw [q] at this
        cases this
      rw [if_pos e] at hp
      exact hp
    · have e : ¬ wr v &&& lo h = 0 := fun q => z (by
        have : ir_ct (bt (wr v &&& lo h)) c = 0 := ir_ct0.mpr fun n _ => by rw [q, b_0]
        rw [this]
        rfl)
      have d : (wr v &&& lo h) &&& (sp v ^^^ (-1)) = 0 := ir_z.mpr fun n => ir_nt fun q => by
        rw [b_and, Bool.and_eq_true] at q
        have s := H n (by have := bc n q.1; omega) q.1
        rw [ir_bnot _ (ir_b32 q.1), s] at q
        cases q.2
      rw [if_neg e, if_pos d] at hp
      exact hp
  | succ k ih =>
    intro i hi H
    have next : (bt (wr v &&& lo h) i = true → bt (sp v) i = true) → wY_role_21 post (nI h) (nI v) (nI nl) (nI vl) (nI ol) (nI c) cl nd it va st ou lk mk dY lY se (k + 1) (nI (i + 1)) := by
      intro z
      refine ih (i + 1) (by omega) fun n hn q => ?_
      by_cases e : n = i
      · subst e
        exact z q
      · exact H n (by omega) q
    have bad : bt (wr v &&& lo h) i = true → ¬ bt (sp v) i = true → post 3 := by
      intro q s
      have e : ¬ wr v &&& lo h = 0 := ir_nz.mpr ⟨i, q⟩
      have d : ¬ (wr v &&& lo h) &&& (sp v ^^^ (-1)) = 0 := ir_nz.mpr ⟨i, by rw [b_and, q, ir_bnot _ (ir_b32 q), ir_nt s]; rfl⟩
      rw [if_neg e, if_neg d] at hp
      exact hp
    refine br_f (nI_ge (by omega) (by omega)) ⟨ir_v16 (by omega) (by omega), ?_⟩
    rw [ir_c16 (by omega) (by omega)]
    refine br_c (fun z => nm_r (nI_1 i) (next fun q => absurd z ((hY.1 h i (by omega) (by omega)).mpr ((ir_WLb hY hv).mp q).2))) (fun z => ?_)
    refine ir_y_writes hN hc (by omega) (fun w => br_f ir_10 ⟨ir_v5 (j := 0) (by omega) (by decide), ?_⟩) (fun w => br_t rfl (nm_r (nI_1 i) (next fun q => absurd ((ir_WLb hY hv).mp q).1 w)))
    rw [ir_n0 hN (by omega), ir_n2 hN (by omega)]
    have q := (ir_WLb hY hv).mpr ⟨w, (hY.1 h i (by omega) (by omega)).mp z⟩
    refine br_c (fun a => ⟨ir_v5 (j := 2) (by omega) (by decide), br_c (fun b => nm_r (nI_1 i) (next fun _ => (hY.2.2.1 v i hv).mpr ⟨w.1, a, w.2.2.2, b⟩)) (fun b => bad q fun s => b ((hY.2.2.1 v i hv).mp s).2.2.2)⟩) (fun a => bad q fun s => a ((hY.2.2.1 v i hv).mp s).2.1)
theorem ir_y_inl {h n : Nat} (hcl : ¬ cl = 0) (hY : ir_YS c kd xs ys lo wr sp lY) (hc : c ≤ 16) (hh : h < c) (hn : n < c) (h1 : bt (lo h) n = true → post 1) (h0 : bt (lo h) n = false → post 0) : wpY_inLoop post (nI nl, nI vl, nI ol, nI c, cl, nd, it, va, st, ou, lk, mk, dY, lY, se) (nI h) (nI n) := by
  refine br_f hcl (ir_y_ex hh (by omega) (br_f ir_10 (ir_y_ex hn (by omega) (br_f ir_10 ⟨ir_v16 (by omega) (by omega), ?_⟩))))
  rw [ir_c16 (by omega) (by omega)]
  exact br_c (fun z => h0 (ir_nt fun q => (hY.1 h n (by omega) (by omega)).mpr q z)) (fun z => h1 ((hY.1 h n (by omega) (by omega)).mp z))
theorem ir_y_role {h v : Nat} (hcl : ¬ cl = 0) (hN : ir_N nd kd xs ys zs nx) (hY : ir_YS c kd xs ys lo wr sp lY) (hc : c ≤ 16) (hv8 : vl ≤ 8) (hh : h < c) (hv : v < vl) (hp : post (ir_ro lo wr sp h v)) : wpY_role post (nI nl, nI vl, nI ol, nI c, cl, nd, it, va, st, ou, lk, mk, dY, lY, se) (nI h) (nI v) := by
  unfold wpY_role
  dsimp only
  refine ir_y_inl hcl hY hc hh hh (fun l => br_f ir_10 (ir_y_var hv (by omega) (br_f ir_10 ⟨c + 1, ir_y_ro21 hN hY hc hh (by omega) l hp c 0 (by omega) (fun n hn => absurd hn (by omega))⟩))) (fun l => br_t rfl ?_)
  have e : lo h = 0 := ir_z.mpr fun n => ir_nt fun q => by
    rw [(hY.2.2.2 h n q).1] at l
    cases l
  unfold ir_ro at hp
  rw [if_pos e] at hp
  exact hp
/-- the size of a loop, then the choice -/
theorem ir_y_ho58 {J7 : Int32 → Int32 → Int32 → Prop} {m y z i : Nat} (hY : ir_YS c kd xs ys lo wr sp lY) (hc : c ≤ 16) (hm16 : m < c) (hi : i < c)
    (J : J7 (ir_hs lo wr sp m y z (i + 1)).1 (nI (ir_hs lo wr sp m y z (i + 1)).2) (nI (i + 1))) :
    ∀ k j, j + k = c → wY_home_58 post J7 (nI m) (ir_hs lo wr sp m y z i).1 (nI (ir_hs lo wr sp m y z i).2) (nI i) (ir_ro lo wr sp i y) (ir_ro lo wr sp i z) (nI nl) (nI vl) (nI ol) (nI c) cl nd it va st ou lk mk dY lY se (k + 1) (nI (ir_ct (bt (lo i)) j)) (nI j) := by
  have bc : ∀ n, c ≤ n → bt (lo i) n = false := fun n hn => ir_nt fun q => by
    have := (hY.2.2.2 i n q).2
    omega
  have e16 : ir_ct (bt (lo i)) c = ir_ct (bt (lo i)) 16 := by
    have := ir_ct_ext (p := bt (lo i)) (n := c) bc (16 - c)
    rw [show c + (16 - c) = 16 by omega] at this
    exact this.symm
  have hs16 := ir_hs_le lo wr sp m y z i
  have sz16 := ir_ct_le (bt (lo i)) 16
  intro k
  induction k with
  | zero =>
    intro j hj
    have e : j = c := by omega
    subst e
    refine br_t (nI_le (by omega) (by omega)) ?_
    rw [e16]
    have stE : ir_st lo wr sp y z i = true ↔ (ir_ro lo wr sp i y = 2 ∧ ir_ro lo wr sp i z = 1) := by
      unfold ir_st
      rw [Bool.and_eq_true, decide_eq_true_eq, decide_eq_true_eq]
    have cxE : ir_cx lo wr sp y z i = true ↔ (ir_ro lo wr sp i y = 1 ∧ ir_ro lo wr sp i z = 2) := by
      unfold ir_cx
      rw [Bool.and_eq_true, decide_eq_true_eq, decide_eq_true_eq]
    have ftE : ir_fit lo wr sp m y z i = true ↔ (bt (lo i) m = true ∧ (ir_st lo wr sp y z i = true ∨ ir_cx lo wr sp y z i = true)) := by
      unfold ir_fit
      rw [Bool.and_eq_true, Bool.or_eq_true]
    have keep : ¬ (ir_fit lo wr sp m y z i = true ∧ (ir_hs lo wr sp m y z i).2 < ir_ct (bt (lo i)) 16) → J7 (ir_hs lo wr sp m y z i).1 (nI (ir_hs lo wr sp m y z i).2) (nI (i + 1)) := by
      intro w
      have e : ir_hs lo wr sp m y z (i + 1) = ir_hs lo wr sp m y z i := by
        simp only [ir_hs]
        rw [if_neg w]
      rw [e] at J
      exact J
    have j121 : ∀ q : Int32, (q = 0 ↔ ¬ (ir_st lo wr sp y z i = true ∨ ir_cx lo wr sp y z i = true)) → wY_home_121 post J7 (nI m) (ir_hs lo wr sp m y z i).1 (nI (ir_hs lo wr sp m y z i).2) (nI i) (nI (ir_ct (bt (lo i)) 16)) q (nI nl) (nI vl) (nI ol) (nI j) cl nd it va st ou lk mk dY lY se := by
      intro q hq
      unfold wY_home_121
      rw [ir_c16 (by omega) (by omega)]
      refine ⟨ir_v16 (by omega) (by omega), br_c (fun a => nm_r (nI_1 i) (keep fun w => (hY.1 i m (by omega) (by omega)).mpr (ftE.mp w.1).1 a)) (fun a => br_c (fun b => nm_r (nI_1 i) (keep fun w => hq.mp b (ftE.mp w.1).2)) (fun b => br_c (fun d => nm_r (nI_1 i) (keep fun w => ?_)) (fun d => nm_r (nI_1 i) ?_)))⟩
      · rw [nI_leI (by omega) (by omega)] at d
        omega
      · rw [nI_leI (by omega) (by omega)] at d
        have f : ir_fit lo wr sp m y z i = true := ftE.mpr ⟨(hY.1 i m (by omega) (by omega)).mp a, Classical.byContradiction fun n => b (hq.mpr n)⟩
        have e : ir_hs lo wr sp m y z (i + 1) = (nI i, ir_ct (bt (lo i)) 16) := by
          simp only [ir_hs]
          rw [if_pos ⟨f, by omega⟩]
        rw [e] at J
        exact J
    have j104 : ¬ ir_st lo wr sp y z i = true → wY_home_104 post J7 (nI m) (ir_hs lo wr sp m y z i).1 (nI (ir_hs lo wr sp m y z i).2) (nI i) (ir_ro lo wr sp i y) (ir_ro lo wr sp i z) (nI (ir_ct (bt (lo i)) 16)) (nI nl) (nI vl) (nI ol) (nI j) cl nd it va st ou lk mk dY lY se := by
      intro ns
      refine br_c (fun a => br_c (fun b => j121 1 ⟨fun x => absurd x ir_10, fun x => absurd (Or.inr (cxE.mpr ⟨a, b⟩)) x⟩) (fun b => j121 0 ⟨fun _ x => x.elim ns fun w => b (cxE.mp w).2, fun _ => rfl⟩)) (fun a => j121 0 ⟨fun _ x => x.elim ns fun w => a (cxE.mp w).1, fun _ => rfl⟩)
    exact br_c (fun a => br_c (fun b => j121 1 ⟨fun x => absurd x ir_10, fun x => absurd (Or.inl (stE.mpr ⟨a, b⟩)) x⟩) (fun b => j104 fun w => b (stE.mp w).2)) (fun a => j104 fun w => a (stE.mp w).1)
  | succ k ih =>
    intro j hj
    refine br_f (nI_ge (by omega) (by omega)) ⟨ir_v16 (by omega) (by omega), ?_⟩
    rw [ir_c16 (by omega) (by omega)]
    have q := ih (j + 1) (by omega)
    simp only [ir_ct] at q
    refine br_c (fun a => nm_r (nI_1 j) ?_) (fun a => nm_r (nI_1 _) (nm_r (nI_1 j) ?_))
    · rw [if_neg (fun w => (hY.1 i j (by omega) (by omega)).mpr w a)] at q
      exact q
    · rw [if_pos ((hY.1 i j (by omega) (by omega)).mp a)] at q
      exact q
theorem ir_y_ho7 {m y z : Nat} (hcl : ¬ cl = 0) (hN : ir_N nd kd xs ys zs nx) (hY : ir_YS c kd xs ys lo wr sp lY) (hc : c ≤ 16) (hv8 : vl ≤ 8) (hm16 : m < c) (hy : ys m = nI y) (hz : zs m = nI z) (hyv : y < vl) (hzv : z < vl)
    (hp : post (ir_hs lo wr sp m y z c).1) : ∀ k i, i + k = c → wY_home_7 post (nI m) (nI nl) (nI vl) (nI ol) (nI c) cl nd it va st ou lk mk dY lY se (k + 1) (ir_hs lo wr sp m y z i).1 (nI (ir_hs lo wr sp m y z i).2) (nI i) := by
  intro k
  induction k with
  | zero =>
    intro i hi
    have e : i = c := by omega
    subst e
    exact br_t (nI_le (by omega) (by omega)) hp
  | succ k ih =>
    intro i hi
    refine br_f (nI_ge (by omega) (by omega)) ⟨ir_v5 (j := 2) (by omega) (by decide), ?_⟩
    rw [ir_n2 hN (by omega), ir_n3 hN (by omega), hy, hz]
    exact ir_y_role hcl hN hY hc hv8 (by omega) hyv ⟨ir_v5 (j := 3) (by omega) (by decide), ir_y_role hcl hN hY hc hv8 (by omega) hzv ⟨c + 1, ir_y_ho58 hY hc hm16 (by omega) (ih (i + 1) (by omega)) c 0 (by omega)⟩⟩
theorem ir_y_home {m y z : Nat} (hcl : ¬ cl = 0) (hN : ir_N nd kd xs ys zs nx) (hY : ir_YS c kd xs ys lo wr sp lY) (hc : c ≤ 16) (hv8 : vl ≤ 8) (hm16 : m < c) (hy : ys m = nI y) (hz : zs m = nI z) (hyv : y < vl) (hzv : z < vl)
    (hp : post (ir_hs lo wr sp m y z c).1) : wpY_home post (nI nl, nI vl, nI ol, nI c, cl, nd, it, va, st, ou, lk, mk, dY, lY, se) (nI m) :=
  ⟨c + 1, ir_y_ho7 hcl hN hY hc hv8 hm16 hy hz hyv hzv hp c 0 (by omega)⟩
def ir_ba (hm bs : Nat → Int32) (m : Nat) : Int32 := if hm m < 0 then -1 else bs m
theorem ir_y_base {m : Nat} (hcl : ¬ cl = 0) (hN : ir_N nd kd xs ys zs nx) (hY : ir_YS c kd xs ys lo wr sp lY) (hc : c ≤ 16) (hv8 : vl ≤ 8) (hm16 : m < c)
    (hM : ∀ m, m < c → kd m = 4 → ∃ y z, y < vl ∧ z < vl ∧ ys m = nI y ∧ zs m = nI z) (hB : ir_HB lo wr sp kd ys zs hm bs fa c c) (hK : kd m = 4 → lk m = hm m) (hp : post (ir_ba hm bs m)) : wpY_base post (nI nl, nI vl, nI ol, nI c, cl, nd, it, va, st, ou, lk, mk, dY, lY, se) (nI m) := by
  refine br_f hcl (ir_y_ex hm16 (by omega) (br_f ir_10 ⟨ir_v5 (j := 0) (by omega) (by decide), ?_⟩))
  rw [ir_n0 hN (by omega), ir_n2 hN (by omega), ir_n3 hN (by omega), nI_clamp (show m < 2 ^ 31 by omega)]
  unfold ir_ba at hp
  by_cases k4 : kd m = 4
  · obtain ⟨y, z, hyv, hzv, ey, ez⟩ := hM m hm16 k4
    refine br_t k4 ⟨vp_in_nI (by omega) (by omega), ?_⟩
    rw [hK k4]
    have ny : (ys m).toNatClampNeg = y := by rw [ey]; exact nI_clamp (by omega)
    have nz : (zs m).toNatClampNeg = z := by rw [ez]; exact nI_clamp (by omega)
    rcases ((hB m (by omega)).1 ⟨hm16, hm16, k4⟩).2 with e | ⟨H, hH, e, f, b1, b2⟩
    · rw [e, if_pos (by decide)] at hp
      rw [e]
      exact br_f (by decide) hp
    · rw [e, if_neg (nI_pos (by omega)), b1] at hp
      rw [ny, nz] at f hp
      rw [e]
      refine br_t (nI_pos' (by omega)) ⟨vp_in_nI (by omega) (by omega), ir_v5 (j := 2) (by omega) (by decide), ?_⟩
      have stE : ir_st lo wr sp y z H = true ↔ (ir_ro lo wr sp H y = 2 ∧ ir_ro lo wr sp H z = 1) := by
        unfold ir_st
        rw [Bool.and_eq_true, decide_eq_true_eq, decide_eq_true_eq]
      have cxE : ir_cx lo wr sp y z H = true ↔ (ir_ro lo wr sp H y = 1 ∧ ir_ro lo wr sp H z = 2) := by
        unfold ir_cx
        rw [Bool.and_eq_true, decide_eq_true_eq, decide_eq_true_eq]
      unfold ir_fit at f
      rw [Bool.and_eq_true, Bool.or_eq_true] at f
      have key : wpY_role (fun r_25 => (r_25 = 2 → (vp_in ((5 : Int32) * nI m + 2) 80 ∧ post (ys m))) ∧ (¬ r_25 = 2 → (vp_in ((5 : Int32) * nI m + 3) 80 ∧ post (zs m)))) (nI nl, nI vl, nI ol, nI c, cl, nd, it, va, st, ou, lk, mk, dY, lY, se) (nI H) (nI y) := by
        refine ir_y_role hcl hN hY hc hv8 hH hyv (br_c (fun r2 => ⟨ir_v5 (j := 2) (by omega) (by decide), ?_⟩) (fun r2 => ⟨ir_v5 (j := 3) (by omega) (by decide), ?_⟩))
        · have s : ir_st lo wr sp y z H = true := by
            rcases f.2 with g | g
            · exact g
            · have := (cxE.mp g).1
              rw [r2] at this
              exact absurd this (by decide)
          rw [if_pos s] at hp
          exact hp
        · rw [if_neg (fun s => r2 (stE.mp s).1)] at hp
          exact hp
      rw [← ey] at key
      exact key
  · rw [(hB m (by omega)).2 (fun q => k4 q.2.2), if_pos (by decide)] at hp
    exact br_f k4 hp
end
end
section
/-! the reference's carriers and seal -/
def ir_LK (c : Nat) (kd hm cr lk : Nat → Int32) : Prop := ∀ m, m < c → (kd m = 4 → lk m = hm m) ∧ (kd m = 5 → lk m = cr m) ∧ (¬ kd m = 4 → ¬ kd m = 5 → lk m = -1)
theorem ir_LE {c : Nat} {kd zs nx : Nat → Int32} {w t h n : Nat} (hw : w < c) (ht : t < c) (hc : c ≤ 16) (k0 : ¬ kd w = 0) (k5 : ¬ kd w = 5) (e : nx w = nI t) :
    ir_L (fun s => ir_E c kd zs nx w s) (ir_E c kd zs nx) (fun s => s ≠ h) n ↔ ir_F (ir_E c kd zs nx) t h n := by
  constructor
  · refine ir_Lcongr (fun a z o => ⟨?_, o⟩) (fun a b z o => ⟨z, o⟩)
    obtain ⟨_, z2, z3⟩ := z
    rcases z3 with z3 | z3
    · exact ir_nI_inj (by omega) (by omega) (z3.2.symm.trans e)
    · exact absurd z3.1 k5
  · refine ir_Lcongr (fun a z o => ⟨?_, o⟩) (fun a b z o => ⟨z, o⟩)
    subst z
    exact ⟨hw, ht, Or.inl ⟨k0, e⟩⟩
section
variable {nl vl ol c : Nat} {cl rc : Int32} {kd xs ys zs nx su pr dm lo wr sp hm bs fa cr ic it va st ou cd mk nd lk dY lY se : Nat → Int32}
variable {post : Int32 → SY → Prop}
theorem ir_y_ca168 {h x : Nat} (hcl : ¬ cl = 0) (hN : ir_N nd kd xs ys zs nx) (hY : ir_YS c kd xs ys lo wr sp lY) (hc : c ≤ 16) (hv8 : vl ≤ 8) (hh : h < c) (hx : xs h = nI x) (hx8 : x < 8)
    (hM : ∀ m, m < c → kd m = 4 → ∃ y z, y < vl ∧ z < vl ∧ ys m = nI y ∧ zs m = nI z) (hB : ir_HB lo wr sp kd ys zs hm bs fa c c) (hK : ∀ m, m < c → kd m = 4 → lk m = hm m) :
    ∀ k i, i + k = c → post (ir_fi (ir_cp lo hm bs (xs h) h) k i) (nI nl, nI vl, nI ol, nI c, cl, nd, it, va, st, ou, lk, mk, dY, lY, se) → wY_carrier_168 post (nI h) (nI x) (nI nl) (nI vl) (nI ol) (nI c) cl nd it va st ou lk mk dY lY se (k + 1) (nI i) := by
  intro k
  induction k with
  | zero =>
    intro i hi hp
    exact br_t (nI_le (by omega) (by omega)) hp
  | succ k ih =>
    intro i hi hp
    simp only [ir_fi] at hp
    have skip : ¬ ir_cp lo hm bs (xs h) h i = true → wY_carrier_168 post (nI h) (nI x) (nI nl) (nI vl) (nI ol) (nI c) cl nd it va st ou lk mk dY lY se (k + 1) (nI (i + 1)) := by
      intro z
      rw [if_neg z] at hp
      exact ih (i + 1) (by omega) hp
    refine br_f (nI_ge (by omega) (by omega)) (ir_y_base hcl hN hY hc hv8 (by omega) hM hB (hK i (by omega)) ?_)
    rcases ir_HBh hc hB i (by omega) with e | ⟨H, hH, e⟩
    · have b : ir_ba hm bs i = -1 := by
        unfold ir_ba
        rw [e, if_pos (by decide)]
      rw [b]
      refine br_f (ir_m1n (by omega)) (nm_r (nI_1 i) (skip fun z => ?_))
      unfold ir_cp at z
      rw [e] at z
      exact absurd (decide_eq_true_eq.mp (Bool.and_eq_true _ _ |>.mp z).1) (by decide)
    · have n0 : ¬ hm i < 0 := by rw [e]; exact nI_pos (by omega)
      have b : ir_ba hm bs i = bs i := by
        unfold ir_ba
        rw [if_neg n0]
      have cpE : ir_cp lo hm bs (xs h) h i = true ↔ (bs i = xs h ∧ bt (lo H) h = true) := by
        unfold ir_cp
        rw [e, nI_clamp (by omega), Bool.and_eq_true, Bool.and_eq_true, decide_eq_true_eq, decide_eq_true_eq]
        exact ⟨fun q => q.2, fun q => ⟨nI_pos (by omega), q⟩⟩
      have k4 : kd i = 4 := Classical.byContradiction fun z => by
        have := (hB i (by omega)).2 fun q => z q.2.2
        rw [this] at n0
        exact n0 (by decide)
      rw [b, nI_clamp (show i < 2 ^ 31 by omega), hK i (by omega) k4, e, ir_c16 (by omega) (by omega)]
      refine br_c (fun z => ⟨vp_in_nI (by omega) (by omega), ir_v16 (by omega) (by omega), br_c (fun l => nm_r (nI_1 i) (skip fun q => (hY.1 H h (by omega) (by omega)).mpr (cpE.mp q).2 l)) (fun l => ?_)⟩) (fun z => nm_r (nI_1 i) (skip fun q => z ((cpE.mp q).1.trans hx)))
      rw [if_pos (cpE.mpr ⟨z.trans hx.symm, (hY.1 H h (by omega) (by omega)).mp l⟩)] at hp
      exact hp
theorem ir_y_ca82 {h x w t : Nat} (hcl : ¬ cl = 0) (hN : ir_N nd kd xs ys zs nx) (hY : ir_YS c kd xs ys lo wr sp lY) (hc : c ≤ 16) (hv8 : vl ≤ 8) (hk : ∀ n, c ≤ n → kd n = 0) (hh : h < c) (hx : xs h = nI x) (hx8 : x < 8) (hw : w < c) (ht : t < c) (en : nx w = nI t)
    (hM : ∀ m, m < c → kd m = 4 → ∃ y z, y < vl ∧ z < vl ∧ ys m = nI y ∧ zs m = nI z) (hB : ir_HB lo wr sp kd ys zs hm bs fa c c) (hK : ∀ m, m < c → kd m = 4 → lk m = hm m)
    (hu : ∀ n, n < c → (bt (wr x &&& lo h) n = true ↔ n = w))
    (h0 : (zs w < 1 ∨ ir_F (ir_E c kd zs nx) t h w) → ∀ se', post (-1) (nI nl, nI vl, nI ol, nI c, cl, nd, it, va, st, ou, lk, mk, dY, lY, se'))
    (h1 : ¬ zs w < 1 → ¬ ir_F (ir_E c kd zs nx) t h w → ∀ se', post (ir_fi (ir_cp lo hm bs (xs h) h) c 0) (nI nl, nI vl, nI ol, nI c, cl, nd, it, va, st, ou, lk, mk, dY, lY, se')) :
    ∀ k i, i + k = c → wY_carrier_82 post (nI h) (nI x) (nI nl) (nI vl) (nI ol) (nI c) cl nd it va st ou lk mk dY lY se (k + 1) (nI (if w < i then w else 0)) (nI i) := by
  intro k
  induction k with
  | zero =>
    intro i hi
    rw [if_pos (show w < i by omega)]
    refine br_t (nI_le (by omega) (by omega)) ⟨ir_v5 (j := 4) (by omega) (by decide), ?_⟩
    rw [ir_n4 hN (by omega), en]
    refine ir_y_flood hN hc hk ht hh (fun se' hs => ?_)
    refine ⟨ir_v5 (j := 3) (by omega) (by decide), ?_⟩
    rw [ir_n3 hN (by omega), nI_clamp (show w < 2 ^ 31 by omega)]
    refine br_c (fun z => h0 (Or.inl z) se') (fun z => ⟨vp_in_nI (by omega) (by omega), br_c (fun q => ?_) (fun q => h0 (Or.inr ((hs w (by omega)).mp q)) se')⟩)
    exact ⟨c + 1, ir_y_ca168 hcl hN hY hc hv8 hh hx hx8 hM hB hK c 0 (by omega) (h1 z (fun f => (hs w (by omega)).mpr f q) se')⟩
  | succ k ih =>
    intro i hi
    refine br_f (nI_ge (by omega) (by omega)) ⟨ir_v16 (by omega) (by omega), ?_⟩
    rw [ir_c16 (by omega) (by omega)]
    have q := ih (i + 1) (by omega)
    have skip : i ≠ w → wY_carrier_82 post (nI h) (nI x) (nI nl) (nI vl) (nI ol) (nI c) cl nd it va st ou lk mk dY lY se (k + 1) (nI (if w < i then w else 0)) (nI (i + 1)) := by
      intro z
      have e : (if w < i + 1 then w else 0) = (if w < i then w else 0) := by
        by_cases g : w < i
        · rw [if_pos g, if_pos (by omega)]
        · rw [if_neg g, if_neg (by omega)]
      rw [e] at q
      exact q
    refine br_c (fun z => nm_r (nI_1 i) (skip fun e => ?_)) (fun z => ir_y_writes hN hc (by omega) (fun g => br_f ir_10 (nm_r (nI_1 i) ?_)) (fun g => br_t rfl (nm_r (nI_1 i) (skip fun e => ?_))))
    · exact (hY.1 h i (by omega) (by omega)).mpr ((ir_WLb hY hx8).mp ((hu i (by omega)).mpr e)).2 z
    · have e : i = w := (hu i (by omega)).mp ((ir_WLb hY hx8).mpr ⟨g, (hY.1 h i (by omega) (by omega)).mp z⟩)
      rw [if_pos (by omega), ← e] at q
      exact q
    · exact g ((ir_WLb hY hx8).mp ((hu i (by omega)).mpr e)).1
theorem ir_y_carrier {h x y : Nat} {cv iv : Int32} (hcl : ¬ cl = 0) (hN : ir_N nd kd xs ys zs nx) (hY : ir_YS c kd xs ys lo wr sp lY) (hc : c ≤ 16) (hv8 : vl ≤ 8) (hk : ∀ n, c ≤ n → kd n = 0) (hC : ir_Cl c kd zs nx) (hh : h < c) (hx : xs h = nI x) (hy : ys h = nI y) (hxv : x < vl) (hyv : y < vl) (k5 : kd h = 5)
    (hM : ∀ m, m < c → kd m = 4 → ∃ y z, y < vl ∧ z < vl ∧ ys m = nI y ∧ zs m = nI z) (hB : ir_HB lo wr sp kd ys zs hm bs fa c c) (hK : ∀ m, m < c → kd m = 4 → lk m = hm m)
    (hO : ir_CO lo wr sp kd xs ys zs nx hm bs c h cv iv) (hp : ∀ se', post cv (nI nl, nI vl, nI ol, nI c, cl, nd, it, va, st, ou, lk, mk, dY, lY, se')) : wpY_carrier post (nI nl, nI vl, nI ol, nI c, cl, nd, it, va, st, ou, lk, mk, dY, lY, se) (nI h) := by
  have ex : (xs h).toNatClampNeg = x := by rw [hx]; exact nI_clamp (by omega)
  have ey : (ys h).toNatClampNeg = y := by rw [hy]; exact nI_clamp (by omega)
  obtain ⟨z, hz, ez⟩ := (hC h hh).2 k5
  have ezn : (zs h).toNatClampNeg = z := by rw [ez]; exact nI_clamp (by omega)
  have no : (∀ w, ¬ (ir_TI lo wr sp kd xs ys zs h ∧ ir_OS lo wr kd xs zs nx c h w)) → ∀ se', post (-1) (nI nl, nI vl, nI ol, nI c, cl, nd, it, va, st, ou, lk, mk, dY, lY, se') := by
    intro q se'
    rcases hO with ⟨w, a, b, _⟩ | ⟨_, e⟩
    · exact absurd ⟨a, b⟩ (q w)
    · rw [← e]
      exact hp se'
  have yes : ∀ w, ir_TI lo wr sp kd xs ys zs h → ir_OS lo wr kd xs zs nx c h w → ∀ se', post (ir_fi (ir_cp lo hm bs (xs h) h) c 0) (nI nl, nI vl, nI ol, nI c, cl, nd, it, va, st, ou, lk, mk, dY, lY, se') := by
    intro w a b se'
    rcases hO with ⟨w', _, _, _, e⟩ | ⟨q, _⟩
    · rw [← e]
      exact hp se'
    · exact absurd ⟨a, b⟩ (q w)
  have tiE : ir_TI lo wr sp kd xs ys zs h ↔ (ir_ro lo wr sp h x = 2 ∧ ir_ro lo wr sp h y = 1 ∧ bt (lo h) z = false) := by
    unfold ir_TI
    rw [ex, ey, ezn]
    exact ⟨fun q => q.2, fun q => ⟨k5, q⟩⟩
  refine ⟨ir_v5 (j := 1) (by omega) (by decide), ?_⟩
  rw [ir_n1 hN (by omega), ir_n2 hN (by omega), ir_n3 hN (by omega), hx, hy, ez, ir_c16 (by omega) (by omega)]
  refine nm_e (ir_y_role hcl hN hY hc hv8 hh hxv (br_c (fun r2 => ⟨ir_v5 (j := 2) (by omega) (by decide), ir_y_role hcl hN hY hc hv8 hh hyv (br_c (fun r1 => ⟨ir_v5 (j := 3) (by omega) (by decide), ir_v16 (by omega) (by omega), br_c (fun l => ?_) (fun l => no (fun w q => ?_) se)⟩) (fun r1 => no (fun w q => r1 (tiE.mp q.1).2.1) se))⟩) (fun r2 => no (fun w q => r2 (tiE.mp q.1).1) se)))
  · have lz : bt (lo h) z = false := ir_nt fun q => (hY.1 h z (by omega) (by omega)).mpr q l
    have ti := tiE.mpr ⟨r2, r1, lz⟩
    have c16 := ir_ct_le (bt (wr x &&& lo h)) c
    refine ir_y_writers hN hY hc hh (by omega) (br_c (fun n1 => ?_) (fun n1 => no (fun w q => n1 ?_) se))
    · have n1' : ir_ct (bt (wr x &&& lo h)) c = 1 := ir_nI_inj (b := 1) (by omega) (by omega) n1
      obtain ⟨w, hw, pw, uw⟩ := ir_ct1' n1'
      have ws := (hY.2.2.1 x w (by omega)).mp ((ir_ro2 r2).2.2 w pw)
      have k0 : ¬ kd w = 0 := by rw [ws.2.1]; decide
      have k5' : ¬ kd w = 5 := by rw [ws.2.1]; decide
      obtain ⟨t, ht, en⟩ := (hC w hw).1 k0
      have hu : ∀ n, n < c → (bt (wr x &&& lo h) n = true ↔ n = w) := fun n hn => ⟨uw n hn, fun e => by rw [e]; exact pw⟩
      refine ⟨c + 1, ir_y_ca82 (w := w) hcl hN hY hc hv8 hk hh hx (by omega) hw ht en hM hB hK hu (fun f se' => no (fun w' q => ?_) se') (fun f1 f2 se' => yes w ti ⟨hw, ?_, ?_, fun f => f2 ((ir_LE hw ht hc k0 k5' en).mp f)⟩ se') c 0 (by omega)⟩
      · obtain ⟨o1, o2, o3, o4⟩ := q.2
        rw [ex] at o2
        have e : w' = w := uw w' o1 ((o2 w' o1).mpr rfl)
        subst e
        rcases f with f | f
        · rw [Int32.lt_iff_toInt_lt] at f
          rw [Int32.le_iff_toInt_le] at o3
          omega
        · exact o4 ((ir_LE hw ht hc k0 k5' en).mpr f)
      · rw [ex]
        exact hu
      · exact Int32.not_lt.mp f1
    · obtain ⟨o1, o2, _⟩ := q.2
      rw [ex] at o2
      rw [ir_ct1 (w := w) o1 ((o2 w o1).mpr rfl) (fun i hi hb => (o2 i hi).mp hb)]
      rfl
  · have := (tiE.mp q.1).2.2
    rw [(hY.1 h z (by omega) (by omega)).mp l] at this
    cases this
theorem ir_y_sl355 (hcl : ¬ cl = 0) (hN : ir_N nd kd xs ys zs nx) (hY : ir_YS c kd xs ys lo wr sp lY) (hc : c ≤ 16) (hv8 : vl ≤ 8) (hk : ∀ n, c ≤ n → kd n = 0) (hC : ir_Cl c kd zs nx) (hNN : ∀ n, n < c → ∃ x y, x < vl ∧ y < vl ∧ xs n = nI x ∧ ys n = nI y)
    (hM : ∀ m, m < c → kd m = 4 → ∃ y z, y < vl ∧ z < vl ∧ ys m = nI y ∧ zs m = nI z) (hB : ir_HB lo wr sp kd ys zs hm bs fa c c)
    (hO : ∀ h, h < c → ir_CO lo wr sp kd xs ys zs nx hm bs c h (cr h) (ic h)) (hp : ∀ se' lk', ir_LK c kd hm cr lk' → post 0 (nI nl, nI vl, nI ol, nI c, cl, nd, it, va, st, ou, lk', mk, dY, lY, se')) :
    ∀ k i se lk, i + k = c → (∀ m, m < c → (kd m = 4 → lk m = hm m) ∧ (kd m = 5 → m < i → lk m = cr m) ∧ (¬ kd m = 4 → ¬ kd m = 5 → lk m = -1)) → wY_seal_355 post (k + 1) (nI i) (nI nl) (nI vl) (nI ol) (nI c) cl nd it va st ou lk mk dY lY se := by
  intro k
  induction k with
  | zero =>
    intro i se lk hi H
    exact br_t (nI_le (by omega) (by omega)) (hp se lk fun m hm' => ⟨(H m hm').1, fun q => (H m hm').2.1 q (by omega), (H m hm').2.2⟩)
  | succ k ih =>
    intro i se lk hi H
    refine br_f (nI_ge (by omega) (by omega)) ⟨ir_v5 (j := 0) (by omega) (by decide), ?_⟩
    rw [ir_n0 hN (by omega)]
    by_cases k5 : kd i = 5
    · obtain ⟨x, y, hxv, hyv, ex, ey⟩ := hNN i (by omega)
      refine br_t k5 (ir_y_carrier hcl hN hY hc hv8 hk hC (by omega) ex ey hxv hyv k5 hM hB (fun m hm' => (H m hm').1) (hO i (by omega)) (fun se' => ⟨vp_in_nI (by omega) (by omega), ?_⟩))
      rw [nI_clamp (show i < 2 ^ 31 by omega)]
      refine nm_e (nm_r (nI_1 i) (ih (i + 1) se' _ (by omega) fun m hm' => ?_))
      by_cases e : m = i
      · subst e
        rw [pk_us]
        exact ⟨fun q => absurd (q.symm.trans k5) (by decide), fun _ _ => rfl, fun _ q => absurd k5 q⟩
      · rw [pk_un e]
        exact ⟨(H m hm').1, fun q w => (H m hm').2.1 q (by omega), (H m hm').2.2⟩
    · refine br_f k5 (nm_r (nI_1 i) (ih (i + 1) se lk (by omega) fun m hm' => ⟨(H m hm').1, fun q w => (H m hm').2.1 q ?_, (H m hm').2.2⟩))
      by_cases e : m = i
      · subst e
        exact absurd q k5
      · omega
theorem ir_y_sl310 (hcl : ¬ cl = 0) (hN : ir_N nd kd xs ys zs nx) (hY : ir_YS c kd xs ys lo wr sp lY) (hc : c ≤ 16) (hv8 : vl ≤ 8) (hk : ∀ n, c ≤ n → kd n = 0) (hC : ir_Cl c kd zs nx) (hNN : ∀ n, n < c → ∃ x y, x < vl ∧ y < vl ∧ xs n = nI x ∧ ys n = nI y)
    (hM : ∀ m, m < c → kd m = 4 → ∃ y z, y < vl ∧ z < vl ∧ ys m = nI y ∧ zs m = nI z) (hB : ir_HB lo wr sp kd ys zs hm bs fa c c)
    (hO : ∀ h, h < c → ir_CO lo wr sp kd xs ys zs nx hm bs c h (cr h) (ic h)) (hp : ∀ se' lk', ir_LK c kd hm cr lk' → post 0 (nI nl, nI vl, nI ol, nI c, cl, nd, it, va, st, ou, lk', mk, dY, lY, se')) :
    ∀ k i lk, i + k = c → (∀ m, m < i → (kd m = 4 → lk m = hm m) ∧ (¬ kd m = 4 → lk m = -1)) → wY_seal_310 post (nI nl) (nI vl) (nI ol) (nI c) cl (k + 1) (nI i) nd it va st ou lk mk dY lY se := by
  intro k
  induction k with
  | zero =>
    intro i lk hi H
    refine br_t (nI_le (by omega) (by omega)) ⟨c + 1, ir_y_sl355 hcl hN hY hc hv8 hk hC hNN hM hB hO hp c 0 se lk (by omega) fun m hm' => ⟨(H m (by omega)).1, fun _ q => absurd q (by omega), fun q _ => (H m (by omega)).2 q⟩⟩
  | succ k ih =>
    intro i lk hi H
    refine br_f (nI_ge (by omega) (by omega)) ⟨ir_v5 (j := 0) (by omega) (by decide), ?_⟩
    rw [ir_n0 hN (by omega), nI_clamp (show i < 2 ^ 31 by omega)]
    by_cases k4 : kd i = 4
    · obtain ⟨y, z, hyv, hzv, ey, ez⟩ := hM i (by omega) k4
      refine br_t k4 (ir_y_home hcl hN hY hc hv8 (by omega) ey ez hyv hzv ⟨vp_in_nI (by omega) (by omega), nm_e (nm_r (nI_1 i) (ih (i + 1) _ (by omega) fun m hm' => ?_))⟩)
      by_cases e : m = i
      · subst e
        rw [pk_us]
        have q := ((hB m (by omega)).1 ⟨by omega, by omega, k4⟩).1
        rw [ey, ez, nI_clamp (by omega), nI_clamp (by omega)] at q
        exact ⟨fun _ => q.symm, fun w => absurd k4 w⟩
      · rw [pk_un e]
        exact H m (by omega)
    · refine br_f k4 ⟨vp_in_nI (by omega) (by omega), nm_e (nm_r (nI_1 i) (ih (i + 1) _ (by omega) fun m hm' => ?_))⟩
      by_cases e : m = i
      · subst e
        rw [pk_us]
        exact ⟨fun w => absurd w k4, fun _ => rfl⟩
      · rw [pk_un e]
        exact H m (by omega)
/-- the scan for missing successors -/
theorem ir_y_sl18 (hN : ir_N nd kd xs ys zs nx) (hc : c ≤ 16) (hnx : ∀ n, n < c → ∃ t, t ≤ 16 ∧ nx n = nI t) (hzs : ∀ n, n < c → kd n = 5 → ∃ t, t ≤ 16 ∧ zs n = nI t)
    (hbad : ∀ n, n < c → (∀ j, j < n → ir_OK c kd zs nx j) → ¬ ir_OK c kd zs nx n → post (nI (n + 1)) (nI nl, nI vl, nI ol, nI c, cl, nd, it, va, st, ou, lk, mk, dY, lY, se))
    (hok : ir_Cl c kd zs nx → wpY_flood (fun u => match u with | (f_limit_5, f_varCount_6, f_cap_7, f_count_8, f_sealed_9, a_node_10, a_first_11, a_vals_12, a_stat_13, a_printed_14, a_links_15, a_mark_16, a_dom_17, a_loop_18, a_seen_19) => (∃ n75 : Nat, wY_seal_75 post f_limit_5 f_varCount_6 f_cap_7 f_count_8 f_sealed_9 n75 0 a_node_10 a_first_11 a_vals_12 a_stat_13 a_printed_14 a_links_15 a_mark_16 a_dom_17 a_loop_18 a_seen_19)) (nI nl, nI vl, nI ol, nI c, 1, nd, it, va, st, ou, lk, mk, dY, lY, se) 0 (-1)) :
    ∀ k i, i + k = c → (∀ n, n < i → ir_OK c kd zs nx n) → wY_seal_18 post (nI nl) (nI vl) (nI ol) (nI c) cl nd it va st ou lk mk dY lY se (k + 1) (nI i) := by
  intro k
  induction k with
  | zero =>
    intro i hi H
    exact br_t (nI_le (by omega) (by omega)) (hok fun n hn => H n (by omega))
  | succ k ih =>
    intro i hi H
    have icl : i < c := by omega
    obtain ⟨t, ht, et⟩ := hnx i icl
    have bad : ¬ ir_OK c kd zs nx i → post (nI i + 1) (nI nl, nI vl, nI ol, nI c, cl, nd, it, va, st, ou, lk, mk, dY, lY, se) := by
      intro q
      rw [nI_1]
      exact hbad i icl H q
    have s0 : nI c ≤ ir_sc kd zs nx i 0 ↔ (¬ kd i = 0 ∧ c ≤ t) := by
      unfold ir_sc
      rw [if_neg (by decide), et]
      by_cases z : kd i = 0
      · rw [if_pos z]
        refine ⟨fun q => ?_, fun q => absurd z q.1⟩
        rw [Int32.le_iff_toInt_le, nI_toInt (by omega)] at q
        exact absurd q (by have : (-1 : Int32).toInt = -1 := by decide
                           omega)
      · rw [if_neg z, nI_leI (by omega) (by omega)]
        exact ⟨fun q => ⟨z, q⟩, fun q => q.2⟩
    refine br_f (nI_ge (by omega) (by omega)) (ir_y_succ (k := 0) hN (by omega) (by decide) (br_c (fun z => bad fun q => ?_) (fun z => ir_y_succ (k := 1) hN (by omega) (by decide) (br_c (fun w => nm_r (nI_1 i) (ih (i + 1) (by omega) fun n hn => ?_)) (fun w => bad fun q => w ?_)))))
    · have z' := s0.mp z
      obtain ⟨t', ht', e'⟩ := q.1 z'.1
      have := ir_nI_inj (by omega) (by omega) (e'.symm.trans et)
      omega
    · by_cases e : n = i
      · subst e
        refine ⟨fun k0 => ⟨t, ?_, et⟩, fun k5 => ?_⟩
        · rcases Nat.lt_or_ge t c with g | g
          · exact g
          · exact absurd (s0.mpr ⟨k0, g⟩) z
        · obtain ⟨u, hu, eu⟩ := hzs n icl k5
          unfold ir_sc at w
          rw [if_pos rfl, if_pos k5, eu, nI_ltI (by omega) (by omega)] at w
          exact ⟨u, w, eu⟩
      · exact H n (by omega)
    · unfold ir_sc
      rw [if_pos rfl]
      by_cases k5 : kd i = 5
      · obtain ⟨u, hu, eu⟩ := q.2 k5
        rw [if_pos k5, eu, nI_ltI (by omega) (by omega)]
        exact hu
      · rw [if_neg k5, Int32.lt_iff_toInt_lt, nI_toInt (by omega)]
        have : (-1 : Int32).toInt = -1 := by decide
        omega
theorem ir_y_seal_bad {n0 : Nat} (hcl : cl = 0) (hN : ir_N nd kd xs ys zs nx) (hc : c ≤ 16) (hnx : ∀ n, n < c → ∃ t, t ≤ 16 ∧ nx n = nI t) (hzs : ∀ n, n < c → kd n = 5 → ∃ t, t ≤ 16 ∧ zs n = nI t)
    (hn0 : n0 < c) (h1 : ∀ j, j < n0 → ir_OK c kd zs nx j) (h2 : ¬ ir_OK c kd zs nx n0) (hp : post (nI (n0 + 1)) (nI nl, nI vl, nI ol, nI c, cl, nd, it, va, st, ou, lk, mk, dY, lY, se)) : wpY_seal post (nI nl, nI vl, nI ol, nI c, cl, nd, it, va, st, ou, lk, mk, dY, lY, se) := by
  refine br_t hcl (br_f (nI_ne0 (by omega) (by omega)) ⟨c + 1, ir_y_sl18 hN hc hnx hzs (fun n hn a b => ?_) (fun q => absurd (q n0 hn0) h2) c 0 (by omega) (fun n hn => absurd hn (by omega))⟩)
  have e : n = n0 := by
    rcases Nat.lt_trichotomy n n0 with g | g | g
    · exact absurd (h1 n g) b
    · exact g
    · exact absurd (a n0 g) h2
  rw [e]
  exact hp
/-- the reference finds what the component finds -/
def ir_YX (c : Nat) (dm lo dY lY : Nat → Int32) : Prop :=
  (∀ a b, a < 16 → b < 16 → (¬ dY (16 * a + b) = 0 ↔ bt (dm a) b = true)) ∧ (∀ h n, h < 16 → n < 16 → (¬ lY (16 * h + n) = 0 ↔ bt (lo h) n = true))
theorem ir_XSY (h0 : 0 < c) (hX : ir_XS c rc kd xs ys zs nx dm lo wr sp hm bs fa cr ic) (hl : ∀ h n, h < 16 → n < 16 → (¬ lY (16 * h + n) = 0 ↔ bt (lo h) n = true)) : ir_YS c kd xs ys lo wr sp lY :=
  ⟨hl, hX.2.2.2.1, hX.2.2.2.2.1, fun h n q => ⟨(hX.2.2.1 h h).mpr (ir_Lph ((hX.2.2.1 h n).mp q)), (ir_Lpc h0 (fun a b e => e.2.1) ((hX.2.2.1 h n).mp q)).2⟩⟩
theorem ir_y_seal_ok (hcl : cl = 0) (hN : ir_N nd kd xs ys zs nx) (hc : c ≤ 16) (hv8 : vl ≤ 8) (h0 : 0 < c) (hk : ∀ n, c ≤ n → kd n = 0) (hnx : ∀ n, n < c → ∃ t, t ≤ 16 ∧ nx n = nI t) (hzs : ∀ n, n < c → kd n = 5 → ∃ t, t ≤ 16 ∧ zs n = nI t)
    (hNN : ∀ n, n < c → ∃ x y, x < vl ∧ y < vl ∧ xs n = nI x ∧ ys n = nI y) (hM : ∀ m, m < c → kd m = 4 → ∃ y z, y < vl ∧ z < vl ∧ ys m = nI y ∧ zs m = nI z) (hl : ∀ j, lY j = 0)
    (hC : ir_Cl c kd zs nx) (hX : ir_XS c rc kd xs ys zs nx dm lo wr sp hm bs fa cr ic)
    (hp : ∀ se' dY' lY' lk', ir_YX c dm lo dY' lY' → ir_LK c kd hm cr lk' → post 0 (nI nl, nI vl, nI ol, nI c, 1, nd, it, va, st, ou, lk', mk, dY', lY', se')) : wpY_seal post (nI nl, nI vl, nI ol, nI c, cl, nd, it, va, st, ou, lk, mk, dY, lY, se) := by
  refine br_t hcl (br_f (nI_ne0 (by omega) (by omega)) ⟨c + 1, ir_y_sl18 hN hc hnx hzs (fun n hn a b => absurd (hC n hn) b) (fun _ => ?_) c 0 (by omega) (fun n hn => absurd hn (by omega))⟩)
  refine ir_y_flood0 hN hc hk h0 (ir_y_sealA hN hc hk h0 hl (fun se' dY' lY' hd' hl' => ?_))
  have yx : ir_YX c dm lo dY' lY' := ⟨fun a b ha hb => (hd' a b ha hb).trans (hX.2.1 a b).symm, fun h n hh hn => (hl' h n hh hn).trans (hX.2.2.1 h n).symm⟩
  exact ⟨c + 1, ir_y_sl310 ir_10 hN (ir_XSY h0 hX yx.2) hc hv8 hk hC hNN hM hX.2.2.2.2.2.1 hX.2.2.2.2.2.2 (fun se2 lk2 h2 => hp se2 dY' lY' lk2 yx h2) c 0 lk (by omega) (fun m hm' => absurd hm' (by omega))⟩
end
end
section
/-! what the seal gives to the law -/
theorem ir_fi_sp {p : Nat → Bool} : ∀ k i, ir_fi p k i = -1 ∨ ∃ m, i ≤ m ∧ m < i + k ∧ p m = true ∧ ir_fi p k i = nI m
  | 0, _ => Or.inl rfl
  | k + 1, i => by
    simp only [ir_fi]
    by_cases h : p i = true
    · rw [if_pos h]
      exact Or.inr ⟨i, Nat.le_refl _, by omega, h, rfl⟩
    · rw [if_neg h]
      rcases ir_fi_sp (p := p) k (i + 1) with z | ⟨m, a, b, d⟩
      · exact Or.inl z
      · exact Or.inr ⟨m, by omega, by omega, d⟩
/-- a well formed graph -/
def ir_Gd (nl vl ol c : Nat) (kd xs ys zs nx nd : Nat → Int32) : Prop :=
  (4 ≤ nl ∧ nl ≤ 16 ∧ 2 ≤ vl ∧ vl ≤ 8 ∧ 1 ≤ ol ∧ ol ≤ 32 ∧ c ≤ nl) ∧ ir_N nd kd xs ys zs nx ∧ (∀ n, c ≤ n → kd n = 0) ∧
  (∀ n, n < c → ∃ x y, x < vl ∧ y < vl ∧ xs n = nI x ∧ ys n = nI y) ∧ (∀ n, n < c → ∃ t, t ≤ 16 ∧ nx n = nI t) ∧
  (∀ n, n < c → (kd n = 3 ∨ kd n = 4) → ∃ z, z < vl ∧ zs n = nI z) ∧ (∀ n, n < c → kd n = 5 → ∃ z, z ≤ 16 ∧ zs n = nI z) ∧ (∀ n, n < c → ∃ k, k ≤ 6 ∧ kd n = nI k)
section
variable {nl vl ol c : Nat} {rc : Int32} {kd xs ys zs nx nd dm lo wr sp hm bs fa cr ic : Nat → Int32}
theorem ir_GM (g : ir_Gd nl vl ol c kd xs ys zs nx nd) : ∀ m, m < c → kd m = 4 → ∃ y z, y < vl ∧ z < vl ∧ ys m = nI y ∧ zs m = nI z := by
  intro m hm' k4
  obtain ⟨x, y, _, hy, _, ey⟩ := g.2.2.2.1 m hm'
  obtain ⟨z, hz, ez⟩ := g.2.2.2.2.2.1 m hm' (Or.inr k4)
  exact ⟨y, z, hy, hz, ey, ez⟩
/-- a reduced MUL's data -/
theorem ir_HOH (g : ir_Gd nl vl ol c kd xs ys zs nx nd) (hX : ir_XS c rc kd xs ys zs nx dm lo wr sp hm bs fa cr ic) {m : Nat} (hmc : m < c) : hm m = -1 ∨ ∃ H b f, ir_H c vl kd xs ys zs nx hm bs fa m H b f := by
  obtain ⟨x1, x2, x3, x4, x5, x6, x7⟩ := hX
  obtain ⟨g1, g2, g3, g4, g5, g6, g7, g8⟩ := id g
  by_cases k4 : kd m = 4
  · obtain ⟨y, z, hy, hz, ey, ez⟩ := ir_GM g m hmc k4
    have ny : (ys m).toNatClampNeg = y := by rw [ey]; exact nI_clamp (by omega)
    have nz : (zs m).toNatClampNeg = z := by rw [ez]; exact nI_clamp (by omega)
    rcases ((x6 m (by omega)).1 ⟨hmc, hmc, k4⟩).2 with e | ⟨H, hH, e, f, b1, b2⟩
    · exact Or.inl e
    · right
      rw [ny, nz] at f b1 b2
      unfold ir_fit at f
      rw [Bool.and_eq_true] at f
      have lm := (x3 H m).mp f.1
      have key : ∀ b v, b < vl → v < vl → ir_ro lo wr sp H b = 2 → ir_ro lo wr sp H v = 1 →
          (∀ p, ir_Lp (ir_E c kd zs nx) H p → ir_W c kd xs p b → kd p = 2 ∧ ys p = nI b) ∧ (∀ p, ir_Lp (ir_E c kd zs nx) H p → ¬ ir_W c kd xs p v) ∧ b ≠ v := by
        intro b v hb hv r2 r1
        refine ⟨fun p hp w => ?_, fun p hp w => ?_, fun z => ?_⟩
        · have s := (ir_ro2 r2).2.2 p (by rw [b_and, (x4 b p (by omega)).mpr w, (x3 H p).mpr hp]; rfl)
          have s' := (x5 b p (by omega)).mp s
          exact ⟨s'.2.1, s'.2.2.2⟩
        · have s := (ir_ro1 r1).2 p
          rw [b_and, (x4 v p (by omega)).mpr w, (x3 H p).mpr hp] at s
          cases s
        · subst z
          rw [r2] at r1
          exact absurd r1 (by decide)
      by_cases s : ir_st lo wr sp y z H = true
      · rw [if_pos s] at b1 b2
        unfold ir_st at s
        rw [Bool.and_eq_true, decide_eq_true_eq, decide_eq_true_eq] at s
        obtain ⟨q1, q2, q3⟩ := key y z hy hz s.1 s.2
        exact ⟨H, y, z, e, hH, by rw [b1, ey], by rw [b2, ez], hy, hz, lm, k4, Or.inl ⟨ey, ez⟩, q1, q2, q3⟩
      · rw [if_neg s] at b1 b2
        have f2 := f.2
        rw [Bool.or_eq_true] at f2
        have s' := f2.resolve_left s
        unfold ir_cx at s'
        rw [Bool.and_eq_true, decide_eq_true_eq, decide_eq_true_eq] at s'
        obtain ⟨q1, q2, q3⟩ := key z y hz hy s'.2 s'.1
        exact ⟨H, z, y, e, hH, by rw [b1, ez], by rw [b2, ey], hz, hy, lm, k4, Or.inr ⟨ez, ey⟩, q1, q2, q3⟩
  · exact Or.inl ((x6 m (by omega)).2 fun q => k4 q.2.2)
/-- a linear header's data -/
theorem ir_COC (g : ir_Gd nl vl ol c kd xs ys zs nx nd) (hC : ir_Cl c kd zs nx) (hX : ir_XS c rc kd xs ys zs nx dm lo wr sp hm bs fa cr ic) {h : Nat} (hh : h < c) : cr h = -1 ∨ ∃ m w H b f y, ir_C c vl kd xs ys zs nx hm bs fa cr ic h m w H b f y := by
  have hHO := fun m (q : m < c) => ir_HOH g hX (m := m) q
  obtain ⟨x1, x2, x3, x4, x5, x6, x7⟩ := hX
  obtain ⟨g1, g2, g3, g4, g5, g6, g7, g8⟩ := id g
  rcases x7 h hh with ⟨w, ti, os, ei, ec⟩ | ⟨_, e⟩
  · rcases ir_fi_sp (p := ir_cp lo hm bs (xs h) h) c 0 with z | ⟨m, _, hmc, pm, em⟩
    · exact Or.inl (ec.trans z)
    · right
      have hmc' : m < c := by omega
      unfold ir_cp at pm
      rw [Bool.and_eq_true, Bool.and_eq_true, decide_eq_true_eq, decide_eq_true_eq] at pm
      obtain ⟨pm1, pm2, pm3⟩ := pm
      obtain ⟨x, y, hx, hy, ex, ey⟩ := g4 h hh
      have nx' : (xs h).toNatClampNeg = x := by rw [ex]; exact nI_clamp (by omega)
      have ny : (ys h).toNatClampNeg = y := by rw [ey]; exact nI_clamp (by omega)
      rcases hHO m hmc' with z | ⟨H, b, f, hd⟩
      · rw [z] at pm1
        exact absurd (show (-1 : Int32) < 0 by decide) pm1
      · have hd' := hd
        obtain ⟨h1, h2, h3, h4, h5, h6, h7, h8, h9, h10, h11, h12⟩ := hd'
        have eb : b = x := ir_nI_inj (by omega) (by omega) (h3.symm.trans (pm2.trans ex))
        subst eb
        rw [h1, nI_clamp (by omega)] at pm3
        obtain ⟨t1, t2, t3, t4⟩ := ti
        obtain ⟨o1, o2, o3, o4⟩ := os
        rw [nx'] at t2 o2
        rw [ny] at t3
        have pw := (o2 w o1).mpr rfl
        have pw' := pw
        rw [b_and, Bool.and_eq_true, x4 b w (by omega), x3 h w] at pw'
        have ws := (x5 b w (by omega)).mp ((ir_ro2 t2).2.2 w pw)
        have k0 : ¬ kd w = 0 := by rw [ws.2.1]; decide
        have k5' : ¬ kd w = 5 := by rw [ws.2.1]; decide
        refine ⟨m, w, H, b, f, y, ec.trans em, hmc', hd, (x3 H h).mp pm3, t1, ex, ey, hy, ?_, ?_, ?_, pw'.1, pw'.2, ws.2.1, ws.2.2.2, ei.symm, o3, ?_⟩
        · intro t ht et lt
          rw [et, nI_clamp (by omega), (x3 h t).mpr lt] at t4
          cases t4
        · intro p lp w'
          have s := (ir_ro1 t3).2 p
          rw [b_and, (x4 y p (by omega)).mpr w', (x3 h p).mpr lp] at s
          cases s
        · intro p lp w'
          exact (o2 p w'.1).mp (by rw [b_and, (x4 b p (by omega)).mpr w', (x3 h p).mpr lp]; rfl)
        · intro t ht et f
          exact o4 ((ir_LE o1 ht (by omega) k0 k5' et).mpr f)
  · exact Or.inl e
end
end
section
/-! the run's functions and the range test -/
theorem ir_uc {f : Nat → Int32} {i j : Nat} {a b : Int32} (h : i ≠ j) : upd (upd f i a) j b = upd (upd f j b) i a := by
  funext k
  by_cases e : k = j
  · subst e
    rw [pk_us, pk_un (Ne.symm h), pk_us]
  · rw [pk_un e]
    by_cases e2 : k = i
    · subst e2
      rw [pk_us, pk_us]
    · rw [pk_un e2, pk_un e2, pk_un e]
/-- additions to one counter -/
def ir_ea (q : Nat → Bool) (r : Nat → Int32) (j : Nat) : Nat → Nat → (Nat → Int32) → (Nat → Int32)
  | 0, _, st => st
  | k + 1, i, st => ir_ea q r j k (i + 1) (if q i = true then upd st j (st j + r i) else st)
theorem ir_ea_o {q : Nat → Bool} {r : Nat → Int32} {j l : Nat} (h : l ≠ j) : ∀ k i st, ir_ea q r j k i st l = st l
  | 0, _, _ => rfl
  | k + 1, i, st => by
    simp only [ir_ea]
    rw [ir_ea_o h k]
    by_cases z : q i = true
    · rw [if_pos z, pk_un h]
    · rw [if_neg z]
theorem ir_ea_u {q : Nat → Bool} {r : Nat → Int32} {j l : Nat} {v : Int32} (h : l ≠ j) : ∀ k i st, ir_ea q r j k i (upd st l v) = upd (ir_ea q r j k i st) l v
  | 0, _, _ => rfl
  | k + 1, i, st => by
    simp only [ir_ea]
    by_cases z : q i = true
    · rw [if_pos z, if_pos z, pk_un (Ne.symm h), ir_uc h, ir_ea_u h k]
    · rw [if_neg z, if_neg z, ir_ea_u h k]
theorem ir_ea_f {q : Nat → Bool} {r : Nat → Int32} {j : Nat} (h : ∀ i, q i = false) : ∀ k i st, ir_ea q r j k i st = st
  | 0, _, _ => rfl
  | k + 1, i, st => by
    simp only [ir_ea]
    rw [if_neg (ir_ft (h i)), ir_ea_f h k]
/-- products formed or brought along -/
def ir_cc (q : Nat → Bool) (g : Nat → Int32 → Int32) : Nat → Nat → (Nat → Int32) → (Nat → Int32)
  | 0, _, cd => cd
  | k + 1, i, cd => ir_cc q g k (i + 1) (if q i = true then upd cd i (g i (cd i)) else cd)
theorem ir_cc_s {q : Nat → Bool} {g : Nat → Int32 → Int32} : ∀ k i cd m, ir_cc q g k i cd m = (if i ≤ m ∧ m < i + k ∧ q m = true then g m (cd m) else cd m)
  | 0, i, cd, m => by
    rw [if_neg (by omega)]
    rfl
  | k + 1, i, cd, m => by
    simp only [ir_cc]
    rw [ir_cc_s k]
    by_cases e : m = i
    · subst e
      rw [if_neg (by omega)]
      by_cases z : q m = true
      · rw [if_pos z, pk_us, if_pos ⟨Nat.le_refl _, by omega, z⟩]
      · rw [if_neg z, if_neg (fun w => z w.2.2)]
    · have e2 : (if q i = true then upd cd i (g i (cd i)) else cd) m = cd m := by
        by_cases z : q i = true
        · rw [if_pos z, pk_un e]
        · rw [if_neg z]
      rw [e2]
      by_cases z : i + 1 ≤ m ∧ m < i + 1 + k ∧ q m = true
      · rw [if_pos z, if_pos ⟨by omega, by omega, z.2.2⟩]
      · rw [if_neg z, if_neg (fun w => z ⟨by omega, by omega, w.2.2⟩)]
/-- the range test -/
def ir_rv (a b f i : Int) : Int32 := if (1 ≤ f ∧ b - 1 + i ≤ 2147483647 ∧ -2147483648 ≤ (if b ≤ a then b else a) * f ∧ (if a ≤ b - 1 + i then b - 1 + i else a) * f ≤ 2147483647) then 1 else 0
theorem ir_rvC {a b f i : Int} (h : ¬ ir_rv a b f i = 0) : ir_Cd a b f i := by
  unfold ir_rv at h
  by_cases z : (1 ≤ f ∧ b - 1 + i ≤ 2147483647 ∧ -2147483648 ≤ (if b ≤ a then b else a) * f ∧ (if a ≤ b - 1 + i then b - 1 + i else a) * f ≤ 2147483647)
  · exact z
  · rw [if_neg z] at h
    exact absurd rfl h
theorem ir_rv1 {a b f i : Int} (h1 : 1 ≤ f) (h2 : b - 1 + i ≤ 2147483647) (h3 : -2147483648 ≤ (if b ≤ a then b else a) * f) (h4 : (if a ≤ b - 1 + i then b - 1 + i else a) * f ≤ 2147483647) : ir_rv a b f i = 1 := if_pos ⟨h1, h2, h3, h4⟩
theorem ir_rv0 {a b f i : Int} (h : ¬ (1 ≤ f ∧ b - 1 + i ≤ 2147483647 ∧ -2147483648 ≤ (if b ≤ a then b else a) * f ∧ (if a ≤ b - 1 + i then b - 1 + i else a) * f ≤ 2147483647)) : ir_rv a b f i = 0 := if_neg h
theorem ir_rv01 (a b f i : Int) : vp_nar .boolean (ir_rv a b f i) = ir_rv a b f i := by
  by_cases z : (1 ≤ f ∧ b - 1 + i ≤ 2147483647 ∧ -2147483648 ≤ (if b ≤ a then b else a) * f ∧ (if a ≤ b - 1 + i then b - 1 + i else a) * f ≤ 2147483647)
  · rw [show ir_rv a b f i = 1 from if_pos z]
    rfl
  · rw [ir_rv0 z]
    rfl
theorem ir_l1 : (1 : Int64).toInt = 1 := by decide
theorem ir_lM : (2147483647 : Int64).toInt = 2147483647 := by decide
theorem ir_lm : (-2147483648 : Int64).toInt = -2147483648 := by decide
theorem ir_last (b i : Int32) : ((b.toInt64 - 1) + i.toInt64).toInt = b.toInt - 1 + i.toInt := by
  have b1 := b.le_toInt
  have b2 := b.toInt_lt
  have i1 := i.le_toInt
  have i2 := i.toInt_lt
  have e : (b.toInt64 - 1).toInt = b.toInt - 1 := by
    rw [Int64.toInt_sub, Int32.toInt_toInt64, ir_l1]
    exact Int.bmod_eq_of_le (by omega) (by omega)
  rw [Int64.toInt_add, e, Int32.toInt_toInt64]
  exact Int.bmod_eq_of_le (by omega) (by omega)
theorem ir_mulb {x f : Int} (x1 : -2147483648 ≤ x) (x2 : x ≤ 2147483647) (f1 : 1 ≤ f) (f2 : f ≤ 2147483647) : -4611686018427387904 ≤ x * f ∧ x * f ≤ 4611686018427387904 := by
  have a : x * f ≤ 2147483648 * f := Int.mul_le_mul_of_nonneg_right (by omega) (by omega)
  have b : -2147483648 * f ≤ x * f := Int.mul_le_mul_of_nonneg_right (by omega) (by omega)
  omega
theorem ir_lmul {x : Int64} {f : Int32} (x1 : -2147483648 ≤ x.toInt) (x2 : x.toInt ≤ 2147483647) (f1 : 1 ≤ f.toInt) : (x * f.toInt64).toInt = x.toInt * f.toInt := by
  have f2 := f.toInt_lt
  have := ir_mulb x1 x2 f1 (by omega)
  rw [Int64.toInt_mul, Int32.toInt_toInt64]
  generalize x.toInt * f.toInt = z at *
  exact Int.bmod_eq_of_le (by omega) (by omega)
/-- the range test as it is printed for both -/
theorem ir_range {a b f i : Int32} {P : Int32 → Prop} (hp : P (ir_rv a.toInt b.toInt f.toInt i.toInt)) :
    (f.toInt64 < 1 → P 0) ∧ (¬ f.toInt64 < 1 → (¬ (b.toInt64 - 1) + i.toInt64 ≤ 2147483647 → P 0) ∧ ((b.toInt64 - 1) + i.toInt64 ≤ 2147483647 →
      ∀ lw hi : Int64, (b.toInt64 ≤ a.toInt64 → lw = b.toInt64) → (¬ b.toInt64 ≤ a.toInt64 → lw = a.toInt64) → (a.toInt64 ≤ (b.toInt64 - 1) + i.toInt64 → hi = (b.toInt64 - 1) + i.toInt64) → (¬ a.toInt64 ≤ (b.toInt64 - 1) + i.toInt64 → hi = a.toInt64) →
        ((lw * f.toInt64) < (-2147483648) → P 0) ∧ (¬ (lw * f.toInt64) < (-2147483648) → ((2147483647 < (hi * f.toInt64) → P 0) ∧ (¬ 2147483647 < (hi * f.toInt64) → P 1))))) := by
  have a1 := a.le_toInt
  have a2 := a.toInt_lt
  have b1 := b.le_toInt
  have b2 := b.toInt_lt
  have eL := ir_last b i
  have q1 : f.toInt64 < 1 ↔ f.toInt < 1 := by rw [Int64.lt_iff_toInt_lt, Int32.toInt_toInt64, ir_l1]
  have q2 : (b.toInt64 - 1) + i.toInt64 ≤ 2147483647 ↔ b.toInt - 1 + i.toInt ≤ 2147483647 := by rw [Int64.le_iff_toInt_le, eL, ir_lM]
  have q3 : b.toInt64 ≤ a.toInt64 ↔ b.toInt ≤ a.toInt := by rw [Int64.le_iff_toInt_le, Int32.toInt_toInt64, Int32.toInt_toInt64]
  have q4 : a.toInt64 ≤ (b.toInt64 - 1) + i.toInt64 ↔ a.toInt ≤ b.toInt - 1 + i.toInt := by rw [Int64.le_iff_toInt_le, eL, Int32.toInt_toInt64]
  refine ⟨fun z => ?_, fun z => ⟨fun w => ?_, fun w lw hi h1 h2 h3 h4 => ?_⟩⟩
  · rw [ir_rv0 (fun y => by rw [q1] at z; omega)] at hp
    exact hp
  · rw [ir_rv0 (fun y => w (q2.mpr y.2.1))] at hp
    exact hp
  · have f1 : 1 ≤ f.toInt := by
      rw [q1] at z
      omega
    have w' := q2.mp w
    have el : lw.toInt = (if b.toInt ≤ a.toInt then b.toInt else a.toInt) := by
      by_cases g : b.toInt ≤ a.toInt
      · rw [if_pos g, h1 (q3.mpr g), Int32.toInt_toInt64]
      · rw [if_neg g, h2 (fun y => g (q3.mp y)), Int32.toInt_toInt64]
    have eh : hi.toInt = (if a.toInt ≤ b.toInt - 1 + i.toInt then b.toInt - 1 + i.toInt else a.toInt) := by
      by_cases g : a.toInt ≤ b.toInt - 1 + i.toInt
      · rw [if_pos g, h3 (q4.mpr g), eL]
      · rw [if_neg g, h4 (fun y => g (q4.mp y)), Int32.toInt_toInt64]
    have rl : -2147483648 ≤ lw.toInt ∧ lw.toInt ≤ 2147483647 := by
      rw [el]
      split <;> omega
    have rh : -2147483648 ≤ hi.toInt ∧ hi.toInt ≤ 2147483647 := by
      rw [eh]
      split <;> omega
    have ml := ir_lmul rl.1 rl.2 f1
    have mh := ir_lmul rh.1 rh.2 f1
    have q5 : (lw * f.toInt64) < (-2147483648) ↔ ¬ -2147483648 ≤ (if b.toInt ≤ a.toInt then b.toInt else a.toInt) * f.toInt := by
      rw [Int64.lt_iff_toInt_lt, ml, ir_lm, el]
      omega
    have q6 : 2147483647 < (hi * f.toInt64) ↔ ¬ (if a.toInt ≤ b.toInt - 1 + i.toInt then b.toInt - 1 + i.toInt else a.toInt) * f.toInt ≤ 2147483647 := by
      rw [Int64.lt_iff_toInt_lt, mh, ir_lM, eh]
      omega
    refine ⟨fun y => ?_, fun y => ⟨fun x => ?_, fun x => ?_⟩⟩
    · rw [ir_rv0 (fun g => q5.mp y g.2.2.1)] at hp
      exact hp
    · rw [ir_rv0 (fun g => q6.mp x g.2.2.2)] at hp
      exact hp
    · rw [ir_rv1 f1 w' (Classical.byContradiction fun n => y (q5.mpr n)) (Classical.byContradiction fun n => x (q6.mpr n))] at hp
      exact hp
/-! the functions of one step -/
def ir_sL (md : Nat) (mk : Nat → Int32) (p : Nat) (st : Nat → Int32) : Nat → Int32 := if md = 1 ∧ ¬ mk p = 0 then upd st 15 (st 15 + 1) else st
def ir_sM (md : Nat) (kd hm : Nat → Int32) (p : Nat) (st : Nat → Int32) : Nat → Int32 := if kd p = 4 ∧ (md = 0 ∨ hm p < 0) then upd st (8 * md + 4) (st (8 * md + 4) + 1) else st
def ir_vv (md : Nat) (kd ys zs va : Nat → Int32) (p : Nat) : Int32 :=
  if kd p = 1 then zs p else if kd p = 2 then va (8 * md + (ys p).toNatClampNeg) + zs p else if kd p = 3 then va (8 * md + (ys p).toNatClampNeg) + va (8 * md + (zs p).toNatClampNeg) else va (8 * md + (ys p).toNatClampNeg) * va (8 * md + (zs p).toNatClampNeg)
def ir_eS (lo wr hm bs : Nat → Int32) (c h : Nat) (st : Nat → Int32) : Nat → Int32 := ir_ea (fun i => decide (hm i = nI h)) (fun i => 1 + nI (ir_ct (bt (wr (bs i).toNatClampNeg &&& lo h)) 16)) 13 c 0 st
def ir_eC (hm bs fa va : Nat → Int32) (c h : Nat) (cd : Nat → Int32) : Nat → Int32 := ir_cc (fun i => decide (hm i = nI h)) (fun i _ => va (8 + (bs i).toNatClampNeg) * va (8 + (fa i).toNatClampNeg)) c 0 cd
def ir_eM (xs ys fa cr ic va : Nat → Int32) (h : Nat) (mk : Nat → Int32) : Nat → Int32 :=
  if cr h < 0 then mk else upd mk h (ir_rv (va (8 + (xs h).toNatClampNeg)).toInt (va (8 + (ys h).toNatClampNeg)).toInt (va (8 + (fa (cr h).toNatClampNeg).toNatClampNeg)).toInt (ic h).toInt)
def ir_aS (lo hm bs xs : Nat → Int32) (c p : Nat) (st : Nat → Int32) : Nat → Int32 := ir_ea (ir_cp lo hm bs (xs p) p) (fun _ => 1) 14 c 0 st
def ir_aC (lo hm bs fa xs zs va : Nat → Int32) (c p : Nat) (cd : Nat → Int32) : Nat → Int32 := ir_cc (ir_cp lo hm bs (xs p) p) (fun i x => x + zs p * va (8 + (fa i).toNatClampNeg)) c 0 cd
end
section
/-! the component's run -/
theorem ir_m8 (md j : Nat) : nI md * 8 + nI j = nI (8 * md + j) := by
  show nI md * nI 8 + nI j = _
  rw [pk_mul, nI_add, Nat.mul_comm]
theorem ir_m8' (md : Nat) : nI md * 8 = nI (8 * md) := by
  show nI md * nI 8 = _
  rw [pk_mul, Nat.mul_comm]
theorem ir_m32 (md j : Nat) : nI md * 32 + nI j = nI (32 * md + j) := by
  show nI md * nI 32 + nI j = _
  rw [pk_mul, nI_add, Nat.mul_comm]
theorem ir_8p (j : Nat) : (8 : Int32) + nI j = nI (8 + j) := nI_add 8 j
section
variable {nl vl ol c : Nat} {cl rc : Int32} {kd xs ys zs nx su pr dm lo wr sp hm bs fa cr ic it va st ou cd mk nd lk dY lY se : Nat → Int32}
variable {post : SX → Prop}
theorem ir_x_range {post : Int32 → Prop} {h x y m f : Nat} (hc : c ≤ 16) (hh : h < c) (hx : xs h = nI x) (hy : ys h = nI y) (hm' : cr h = nI m) (hmc : m < c) (hf : fa m = nI f) (hx8 : x < 8) (hy8 : y < 8) (hf8 : f < 8)
    (hp : post (ir_rv (va (8 + x)).toInt (va (8 + y)).toInt (va (8 + f)).toInt (ic h).toInt)) : wpX_rangeFits post (nI nl, nI vl, nI ol, nI c, cl, rc, kd, xs, ys, zs, nx, su, pr, dm, lo, wr, sp, hm, bs, fa, cr, ic, it, va, st, ou, cd, mk) (nI h) := by
  have hin : vp_in (nI h) 16 := vp_in_nI (by omega) (by omega)
  have v8 : ∀ j, j < 8 → vp_in (nI (8 + j)) 16 := fun j hj => vp_in_nI (by omega) (by omega)
  refine ⟨hin, ?_⟩
  rw [nI_clamp (show h < 2 ^ 31 by omega), hx, hy, hm', nI_clamp (show m < 2 ^ 31 by omega), hf, ir_8p, ir_8p, ir_8p, nI_clamp (show 8 + x < 2 ^ 31 by omega), nI_clamp (show 8 + y < 2 ^ 31 by omega), nI_clamp (show 8 + f < 2 ^ 31 by omega)]
  refine ⟨v8 x hx8, nm_e ⟨hin, v8 y hy8, nm_e ⟨hin, vp_in_nI (by omega) (by omega), v8 f hf8, nm_e ⟨hin, nm_e ?_⟩⟩⟩⟩
  obtain ⟨r1, r2⟩ := ir_range (P := post) hp
  refine ⟨r1, fun z => ⟨fun w => ?_, (r2 z).1⟩⟩
  have r3 := (r2 z).2 w
  refine br_c (fun g => br_c (fun k => ?_) (fun k => ?_)) (fun g => br_c (fun k => ?_) (fun k => ?_))
  · exact r3 _ _ (fun _ => rfl) (fun n => absurd g n) (fun _ => rfl) (fun n => absurd k n)
  · exact r3 _ _ (fun _ => rfl) (fun n => absurd g n) (fun n => absurd n k) (fun _ => rfl)
  · exact r3 _ _ (fun n => absurd n g) (fun _ => rfl) (fun _ => rfl) (fun n => absurd k n)
  · exact r3 _ _ (fun n => absurd n g) (fun _ => rfl) (fun n => absurd n k) (fun _ => rfl)
theorem ir_x_en2 {h : Nat} (hc : c ≤ 16) (hh : h < c) (hHm : ∀ m, m < c → hm m = nI h → ∃ b f, b < 8 ∧ f < 8 ∧ bs m = nI b ∧ fa m = nI f)
    (K : ∀ st' cd', st' = ir_eS lo wr hm bs c h st → cd' = ir_eC hm bs fa va c h cd → (cr h < 0 → post (nI nl, nI vl, nI ol, nI c, cl, rc, kd, xs, ys, zs, nx, su, pr, dm, lo, wr, sp, hm, bs, fa, cr, ic, it, va, st', ou, cd', mk)) ∧ (¬ cr h < 0 → wpX_rangeFits (fun r_4 => (vp_in (nI h) 16 ∧ ∀ a_marks_34 : Nat → Int32, a_marks_34 = upd mk h (vp_nar .boolean r_4) → post (nI nl, nI vl, nI ol, nI c, cl, rc, kd, xs, ys, zs, nx, su, pr, dm, lo, wr, sp, hm, bs, fa, cr, ic, it, va, st', ou, cd', a_marks_34))) (nI nl, nI vl, nI ol, nI c, cl, rc, kd, xs, ys, zs, nx, su, pr, dm, lo, wr, sp, hm, bs, fa, cr, ic, it, va, st', ou, cd', mk) (nI h))) :
    ∀ k i st' cd', i + k = c → ir_ea (fun i => decide (hm i = nI h)) (fun i => 1 + nI (ir_ct (bt (wr (bs i).toNatClampNeg &&& lo h)) 16)) 13 k i st' = ir_eS lo wr hm bs c h st →
      ir_cc (fun i => decide (hm i = nI h)) (fun i _ => va (8 + (bs i).toNatClampNeg) * va (8 + (fa i).toNatClampNeg)) k i cd' = ir_eC hm bs fa va c h cd → wX_enter_2 post (nI h) (nI nl) (nI vl) (nI ol) (nI c) cl rc (k + 1) (nI i) kd xs ys zs nx su pr dm lo wr sp hm bs fa cr ic it va st' ou cd' mk := by
  intro k
  induction k with
  | zero =>
    intro i st' cd' hi e1 e2
    refine br_t (nI_le (by omega) (by omega)) ⟨vp_in_nI (by omega) (by omega), ?_⟩
    rw [nI_clamp (show h < 2 ^ 31 by omega)]
    exact K st' cd' e1 e2
  | succ k ih =>
    intro i st' cd' hi e1 e2
    have hin : vp_in (nI i) 16 := vp_in_nI (by omega) (by omega)
    simp only [ir_ea] at e1
    simp only [ir_cc] at e2
    refine br_f (nI_ge (by omega) (by omega)) ⟨hin, ?_⟩
    rw [nI_clamp (show i < 2 ^ 31 by omega), nI_clamp (show h < 2 ^ 31 by omega)]
    by_cases z : hm i = nI h
    · obtain ⟨b, f, hb, hf, eb, ef⟩ := hHm i (by omega) z
      rw [decide_eq_true z, if_pos rfl] at e1 e2
      rw [eb, ef, nI_clamp (show b < 2 ^ 31 by omega), ir_8p, ir_8p, nI_clamp (show 8 + b < 2 ^ 31 by omega), nI_clamp (show 8 + f < 2 ^ 31 by omega)]
      refine br_t z ⟨hin, vp_in_nI hb (by omega), vp_in_nI (by omega) (by omega), ir_x_size (nm_e ⟨hin, vp_in_nI (by omega) (by omega), hin, vp_in_nI (by omega) (by omega), hin, nm_e (nm_r (nI_1 i) (ih (i + 1) _ _ (by omega) ?_ ?_))⟩)⟩
      · rw [eb, nI_clamp (show b < 2 ^ 31 by omega)] at e1
        exact e1
      · rw [eb, ef, nI_clamp (show b < 2 ^ 31 by omega), nI_clamp (show f < 2 ^ 31 by omega)] at e2
        exact e2
    · rw [decide_eq_false z, if_neg Bool.false_ne_true] at e1 e2
      exact br_f z (nm_r (nI_1 i) (ih (i + 1) _ _ (by omega) e1 e2))
theorem ir_x_enter {h x y : Nat} (hc : c ≤ 16) (hh : h < c) (hHm : ∀ m, m < c → hm m = nI h → ∃ b f, b < 8 ∧ f < 8 ∧ bs m = nI b ∧ fa m = nI f)
    (hx : xs h = nI x) (hy : ys h = nI y) (hx8 : x < 8) (hy8 : y < 8) (hcr : cr h = -1 ∨ ∃ m f, m < c ∧ f < 8 ∧ cr h = nI m ∧ fa m = nI f)
    (hp : post (nI nl, nI vl, nI ol, nI c, cl, rc, kd, xs, ys, zs, nx, su, pr, dm, lo, wr, sp, hm, bs, fa, cr, ic, it, va, ir_eS lo wr hm bs c h st, ou, ir_eC hm bs fa va c h cd, ir_eM xs ys fa cr ic va h mk)) : wpX_enter post (nI nl, nI vl, nI ol, nI c, cl, rc, kd, xs, ys, zs, nx, su, pr, dm, lo, wr, sp, hm, bs, fa, cr, ic, it, va, st, ou, cd, mk) (nI h) := by
  refine ⟨c + 1, ir_x_en2 hc hh hHm (fun st' cd' e1 e2 => ?_) c 0 st cd (by omega) rfl rfl⟩
  subst e1 e2
  unfold ir_eM at hp
  rcases hcr with e | ⟨m, f, hmc, hf, em, ef⟩
  · have n0 : cr h < 0 := by rw [e]; decide
    rw [if_pos n0] at hp
    exact br_t n0 hp
  · have n0 : ¬ cr h < 0 := by rw [em]; exact nI_pos (by omega)
    rw [if_neg n0, hx, hy, em, nI_clamp (show m < 2 ^ 31 by omega), ef, nI_clamp (show x < 2 ^ 31 by omega), nI_clamp (show y < 2 ^ 31 by omega), nI_clamp (show f < 2 ^ 31 by omega)] at hp
    refine br_f n0 (ir_x_range hc hh hx hy em hmc ef hx8 hy8 hf ⟨vp_in_nI (by omega) (by omega), ?_⟩)
    rw [ir_rv01]
    exact nm_e hp
theorem ir_x_ca2 {p : Nat} (hc : c ≤ 16) (hpc : p < c) (hHm : ∀ m, m < c → hm m = -1 ∨ ∃ H f, H < c ∧ f < 8 ∧ hm m = nI H ∧ fa m = nI f)
    (hp : post (nI nl, nI vl, nI ol, nI c, cl, rc, kd, xs, ys, zs, nx, su, pr, dm, lo, wr, sp, hm, bs, fa, cr, ic, it, va, ir_aS lo hm bs xs c p st, ou, ir_aC lo hm bs fa xs zs va c p cd, mk)) :
    ∀ k i st' cd', i + k = c → ir_ea (ir_cp lo hm bs (xs p) p) (fun _ => 1) 14 k i st' = ir_aS lo hm bs xs c p st →
      ir_cc (ir_cp lo hm bs (xs p) p) (fun i x => x + zs p * va (8 + (fa i).toNatClampNeg)) k i cd' = ir_aC lo hm bs fa xs zs va c p cd → wX_carry_2 post (nI p) (nI nl) (nI vl) (nI ol) (nI c) cl rc (k + 1) (nI i) kd xs ys zs nx su pr dm lo wr sp hm bs fa cr ic it va st' ou cd' mk := by
  intro k
  induction k with
  | zero =>
    intro i st' cd' hi e1 e2
    simp only [ir_ea] at e1
    simp only [ir_cc] at e2
    subst e1 e2
    exact br_t (nI_le (by omega) (by omega)) hp
  | succ k ih =>
    intro i st' cd' hi e1 e2
    have hin : vp_in (nI i) 16 := vp_in_nI (by omega) (by omega)
    have hip : vp_in (nI p) 16 := vp_in_nI (by omega) (by omega)
    simp only [ir_ea] at e1
    simp only [ir_cc] at e2
    refine br_f (nI_ge (by omega) (by omega)) ⟨hin, ?_⟩
    rw [nI_clamp (show i < 2 ^ 31 by omega), nI_clamp (show p < 2 ^ 31 by omega)]
    have skip : ¬ ir_cp lo hm bs (xs p) p i = true → wX_carry_2 post (nI p) (nI nl) (nI vl) (nI ol) (nI c) cl rc (k + 1) (nI (i + 1)) kd xs ys zs nx su pr dm lo wr sp hm bs fa cr ic it va st' ou cd' mk := by
      intro z
      rw [if_neg z] at e1 e2
      exact ih (i + 1) st' cd' (by omega) e1 e2
    rcases hHm i (by omega) with e | ⟨H, f, hH, hf, e, ef⟩
    · refine br_t (by rw [e]; decide) (nm_r (nI_1 i) (skip fun z => ?_))
      unfold ir_cp at z
      rw [e] at z
      exact absurd (decide_eq_true_eq.mp (Bool.and_eq_true _ _ |>.mp z).1) (by decide)
    · have n0 : ¬ hm i < 0 := by rw [e]; exact nI_pos (by omega)
      have cpE : ir_cp lo hm bs (xs p) p i = true ↔ (bs i = xs p ∧ bt (lo H) p = true) := by
        unfold ir_cp
        rw [e, nI_clamp (by omega), Bool.and_eq_true, Bool.and_eq_true, decide_eq_true_eq, decide_eq_true_eq]
        exact ⟨fun q => q.2, fun q => ⟨nI_pos (by omega), q⟩⟩
      refine br_f n0 ⟨hin, hip, br_c (fun z => ?_) (fun z => nm_r (nI_1 i) (skip fun q => z (cpE.mp q).1))⟩
      rw [e, nI_clamp (show H < 2 ^ 31 by omega)]
      refine ⟨hin, vp_in_nI (by omega) (by omega), ir_x_has (by omega) (fun hb => br_f ir_10 ?_) (fun hb => br_t rfl (nm_r (nI_1 i) (skip fun q => ?_)))⟩
      · rw [if_pos (cpE.mpr ⟨z, hb⟩)] at e1 e2
        rw [ef, nI_clamp (show f < 2 ^ 31 by omega)] at e2
        rw [ef, ir_8p, nI_clamp (show 8 + f < 2 ^ 31 by omega)]
        exact ⟨hin, hip, hin, vp_in_nI (by omega) (by omega), hin, nm_e (nm_e (nm_r (nI_1 i) (ih (i + 1) _ _ (by omega) e1 e2)))⟩
      · rw [(cpE.mp q).2] at hb
        cases hb
theorem ir_x_carry {p : Nat} (hc : c ≤ 16) (hpc : p < c) (hHm : ∀ m, m < c → hm m = -1 ∨ ∃ H f, H < c ∧ f < 8 ∧ hm m = nI H ∧ fa m = nI f)
    (hp : post (nI nl, nI vl, nI ol, nI c, cl, rc, kd, xs, ys, zs, nx, su, pr, dm, lo, wr, sp, hm, bs, fa, cr, ic, it, va, ir_aS lo hm bs xs c p st, ou, ir_aC lo hm bs fa xs zs va c p cd, mk)) : wpX_carry post (nI nl, nI vl, nI ol, nI c, cl, rc, kd, xs, ys, zs, nx, su, pr, dm, lo, wr, sp, hm, bs, fa, cr, ic, it, va, st, ou, cd, mk) (nI p) :=
  ⟨c + 1, ir_x_ca2 hc hpc hHm hp c 0 st cd (by omega) rfl rfl⟩
theorem ir_x_app {md q : Nat} {v : Int32} (hmd : md < 2) (hq : st (8 * md + 3) = nI q) (hq32 : q < 32) (hp : post (nI nl, nI vl, nI ol, nI c, cl, rc, kd, xs, ys, zs, nx, su, pr, dm, lo, wr, sp, hm, bs, fa, cr, ic, it, va, upd st (8 * md + 3) (nI q + 1), upd ou (32 * md + q) v, cd, mk)) : wpX_append post (nI nl, nI vl, nI ol, nI c, cl, rc, kd, xs, ys, zs, nx, su, pr, dm, lo, wr, sp, hm, bs, fa, cr, ic, it, va, st, ou, cd, mk) (nI md) v := by
  have i3 : nI md * 8 + 3 = nI (8 * md + 3) := ir_m8 md 3
  refine ⟨by rw [i3]; exact vp_in_nI (by omega) (by omega), ?_⟩
  rw [i3, nI_clamp (show 8 * md + 3 < 2 ^ 31 by omega)]
  refine nm_r hq ?_
  rw [ir_m32, nI_clamp (show 32 * md + q < 2 ^ 31 by omega)]
  exact ⟨vp_in_nI (by omega) (by omega), nm_e ⟨vp_in_nI (by omega) (by omega), nm_e hp⟩⟩
end
section
variable {nl vl ol c : Nat} {cl rc : Int32} {kd xs ys zs nx su pr dm lo wr sp hm bs fa cr ic it va st ou cd mk nd lk dY lY se : Nat → Int32}
variable {post : Int32 → SX → Prop}
theorem ir_x_less {md p x y : Nat} (hmd : md < 2) (hc : c ≤ 16) (hpc : p < c) (hx : xs p = nI x) (hy : ys p = nI y) (hx8 : x < 8) (hy8 : y < 8)
    (hmk : md = 1 → ¬ mk p = 0 → ∃ m f, m < c ∧ f < 8 ∧ cr p = nI m ∧ fa m = nI f ∧ (va (8 + y) * va (8 + f) ≤ cd m ↔ va (8 + y) ≤ va (8 + x)))
    (h0 : va (8 * md + y) ≤ va (8 * md + x) → post 0 (nI nl, nI vl, nI ol, nI c, cl, rc, kd, xs, ys, zs, nx, su, pr, dm, lo, wr, sp, hm, bs, fa, cr, ic, it, va, ir_sL md mk p st, ou, cd, mk)) (h1 : ¬ va (8 * md + y) ≤ va (8 * md + x) → post 1 (nI nl, nI vl, nI ol, nI c, cl, rc, kd, xs, ys, zs, nx, su, pr, dm, lo, wr, sp, hm, bs, fa, cr, ic, it, va, ir_sL md mk p st, ou, cd, mk)) : wpX_isLess post (nI nl, nI vl, nI ol, nI c, cl, rc, kd, xs, ys, zs, nx, su, pr, dm, lo, wr, sp, hm, bs, fa, cr, ic, it, va, st, ou, cd, mk) (nI md) (nI p) := by
  have hip : vp_in (nI p) 16 := vp_in_nI (by omega) (by omega)
  have j80 : ∀ st, (va (8 * md + y) ≤ va (8 * md + x) → post 0 (nI nl, nI vl, nI ol, nI c, cl, rc, kd, xs, ys, zs, nx, su, pr, dm, lo, wr, sp, hm, bs, fa, cr, ic, it, va, st, ou, cd, mk)) → (¬ va (8 * md + y) ≤ va (8 * md + x) → post 1 (nI nl, nI vl, nI ol, nI c, cl, rc, kd, xs, ys, zs, nx, su, pr, dm, lo, wr, sp, hm, bs, fa, cr, ic, it, va, st, ou, cd, mk)) → wX_isLess_80 post (nI md) (nI p) (nI nl) (nI vl) (nI ol) (nI c) cl rc kd xs ys zs nx su pr dm lo wr sp hm bs fa cr ic it va st ou cd mk := by
    intro st a0 a1
    unfold wX_isLess_80
    rw [nI_clamp (show p < 2 ^ 31 by omega), hx, hy, ir_m8, ir_m8, nI_clamp (show 8 * md + x < 2 ^ 31 by omega), nI_clamp (show 8 * md + y < 2 ^ 31 by omega)]
    exact ⟨hip, vp_in_nI (by omega) (by omega), hip, vp_in_nI (by omega) (by omega), a0, a1⟩
  unfold ir_sL at h0 h1
  by_cases m1 : md = 1
  · subst m1
    refine br_t rfl ⟨hip, ?_⟩
    rw [nI_clamp (show p < 2 ^ 31 by omega)]
    by_cases k : mk p = 0
    · rw [if_neg (fun q => q.2 k)] at h0 h1
      exact br_t k (j80 st h0 h1)
    · obtain ⟨m, f, hmc, hf, em, ef, ee⟩ := hmk rfl k
      rw [if_pos ⟨rfl, k⟩] at h0 h1
      have n0 : ¬ cr p < 0 := by rw [em]; exact nI_pos (by omega)
      refine br_f k ⟨hip, nm_e (nm_e (br_f n0 ?_))⟩
      rw [em, nI_clamp (show m < 2 ^ 31 by omega), ef, hy, ir_8p, ir_8p, nI_clamp (show 8 + y < 2 ^ 31 by omega), nI_clamp (show 8 + f < 2 ^ 31 by omega), ee]
      exact ⟨vp_in_nI (by omega) (by omega), hip, vp_in_nI (by omega) (by omega), vp_in_nI (by omega) (by omega), vp_in_nI (by omega) (by omega), h0, h1⟩
  · rw [if_neg (fun q => m1 q.1)] at h0 h1
    have e0 : md = 0 := by omega
    refine br_f (by rw [e0]; decide) (j80 st h0 h1)
theorem ir_x_comp {md p y z : Nat} (hmd : md < 2) (hc : c ≤ 16) (hpc : p < c) (hy : ys p = nI y) (hy8 : y < 8) (hz : (kd p = 3 ∨ kd p = 4) → zs p = nI z ∧ z < 8) (hk : kd p = 1 ∨ kd p = 2 ∨ kd p = 3 ∨ kd p = 4)
    (hcd : md = 1 → kd p = 4 → ¬ hm p < 0 → cd p = va (8 + y) * va (8 + z))
    (hp : post (ir_vv md kd ys zs va p) (nI nl, nI vl, nI ol, nI c, cl, rc, kd, xs, ys, zs, nx, su, pr, dm, lo, wr, sp, hm, bs, fa, cr, ic, it, va, ir_sM md kd hm p st, ou, cd, mk)) : wpX_compute post (nI nl, nI vl, nI ol, nI c, cl, rc, kd, xs, ys, zs, nx, su, pr, dm, lo, wr, sp, hm, bs, fa, cr, ic, it, va, st, ou, cd, mk) (nI md) (nI p) := by
  have hip : vp_in (nI p) 16 := vp_in_nI (by omega) (by omega)
  have ny : (ys p).toNatClampNeg = y := by rw [hy]; exact nI_clamp (by omega)
  refine nm_r (ir_m8' md) ⟨hip, ?_⟩
  rw [nI_clamp (show p < 2 ^ 31 by omega), hy, nI_add, nI_clamp (show 8 * md + y < 2 ^ 31 by omega)]
  have vy : vp_in (nI (8 * md + y)) 16 := vp_in_nI (by omega) (by omega)
  unfold ir_vv ir_sM at hp
  rw [ny] at hp
  by_cases k1 : kd p = 1
  · have k4 : ¬ kd p = 4 := by rw [k1]; decide
    rw [if_pos k1, if_neg (fun q => k4 q.1)] at hp
    exact br_t k1 ⟨hip, hp⟩
  · rw [if_neg k1] at hp
    refine br_f k1 ⟨hip, ?_⟩
    by_cases k2 : kd p = 2
    · have k4 : ¬ kd p = 4 := by rw [k2]; decide
      rw [if_pos k2, if_neg (fun q => k4 q.1)] at hp
      exact br_t k2 ⟨hip, vy, hip, hp⟩
    · rw [if_neg k2] at hp
      refine br_f k2 ⟨hip, ?_⟩
      have k34 : kd p = 3 ∨ kd p = 4 := by
        rcases hk with k | k | k
        · exact absurd k k1
        · exact absurd k k2
        · exact k
      obtain ⟨ez, hz8⟩ := hz k34
      rw [ez, nI_add, nI_clamp (show 8 * md + z < 2 ^ 31 by omega)]
      rw [ez, nI_clamp (show z < 2 ^ 31 by omega)] at hp
      have vz : vp_in (nI (8 * md + z)) 16 := vp_in_nI (by omega) (by omega)
      by_cases k3 : kd p = 3
      · have k4 : ¬ kd p = 4 := by rw [k3]; decide
        rw [if_pos k3, if_neg (fun q => k4 q.1)] at hp
        exact br_t k3 ⟨hip, vy, hip, vz, hp⟩
      · rw [if_neg k3] at hp
        have k4 : kd p = 4 := k34.resolve_left k3
        have i4 : nI (8 * md) + 4 = nI (8 * md + 4) := nI_add (8 * md) 4
        have v4 : vp_in (nI (8 * md + 4)) 16 := vp_in_nI (by omega) (by omega)
        have j112 : (md = 0 ∨ hm p < 0) → wX_compute_112 post (nI p) (nI (8 * md)) (nI nl) (nI vl) (nI ol) (nI c) cl rc kd xs ys zs nx su pr dm lo wr sp hm bs fa cr ic it va st ou cd mk := by
          intro q
          rw [if_pos ⟨k4, q⟩] at hp
          unfold wX_compute_112
          rw [nI_clamp (show p < 2 ^ 31 by omega), hy, ez, nI_add, nI_add, i4, nI_clamp (show 8 * md + 4 < 2 ^ 31 by omega), nI_clamp (show 8 * md + y < 2 ^ 31 by omega), nI_clamp (show 8 * md + z < 2 ^ 31 by omega)]
          exact ⟨v4, v4, nm_e ⟨hip, vy, hip, vz, hp⟩⟩
        refine br_f k3 ?_
        by_cases m1 : md = 1
        · subst m1
          refine br_t rfl ⟨hip, br_c (fun q => j112 (Or.inr q)) (fun q => ⟨hip, ?_⟩)⟩
          rw [if_neg (fun w => w.2.elim (by decide) q)] at hp
          rw [hcd rfl k4 q]
          exact hp
        · have e0 : md = 0 := by omega
          exact br_f (by rw [e0]; decide) (j112 (Or.inl e0))
theorem ir_x_ex_less {md p x y : Nat} (hmd : md < 2) (hc : c ≤ 16) (hpc : p < c) (k5 : kd p = 5) (hx : xs p = nI x) (hy : ys p = nI y) (hx8 : x < 8) (hy8 : y < 8)
    (hmk : md = 1 → ¬ mk p = 0 → ∃ m f, m < c ∧ f < 8 ∧ cr p = nI m ∧ fa m = nI f ∧ (va (8 + y) * va (8 + f) ≤ cd m ↔ va (8 + y) ≤ va (8 + x)))
    (hp : post (if va (8 * md + y) ≤ va (8 * md + x) then zs p else nx p) (nI nl, nI vl, nI ol, nI c, cl, rc, kd, xs, ys, zs, nx, su, pr, dm, lo, wr, sp, hm, bs, fa, cr, ic, it, va, ir_sL md mk p st, ou, cd, mk)) : wpX_execute post (nI nl, nI vl, nI ol, nI c, cl, rc, kd, xs, ys, zs, nx, su, pr, dm, lo, wr, sp, hm, bs, fa, cr, ic, it, va, st, ou, cd, mk) (nI md) (nI p) := by
  have hip : vp_in (nI p) 16 := vp_in_nI (by omega) (by omega)
  refine ⟨hip, ?_⟩
  rw [nI_clamp (show p < 2 ^ 31 by omega)]
  refine br_t k5 (ir_x_less hmd hc hpc hx hy hx8 hy8 hmk (fun z => br_t rfl ⟨hip, ?_⟩) (fun z => br_f ir_10 ⟨hip, ?_⟩))
  · rw [if_pos z] at hp
    exact hp
  · rw [if_neg z] at hp
    exact hp
theorem ir_x_ex_out {md p x q : Nat} (hmd : md < 2) (hc : c ≤ 16) (hpc : p < c) (k6 : kd p = 6) (hx : xs p = nI x) (hx8 : x < 8) (hq : st (8 * md + 3) = nI q) (hq32 : q < 32)
    (hp : post (nx p) (nI nl, nI vl, nI ol, nI c, cl, rc, kd, xs, ys, zs, nx, su, pr, dm, lo, wr, sp, hm, bs, fa, cr, ic, it, va, upd st (8 * md + 3) (nI q + 1), upd ou (32 * md + q) (va (8 * md + x)), cd, mk)) : wpX_execute post (nI nl, nI vl, nI ol, nI c, cl, rc, kd, xs, ys, zs, nx, su, pr, dm, lo, wr, sp, hm, bs, fa, cr, ic, it, va, st, ou, cd, mk) (nI md) (nI p) := by
  have hip : vp_in (nI p) 16 := vp_in_nI (by omega) (by omega)
  refine ⟨hip, ?_⟩
  rw [nI_clamp (show p < 2 ^ 31 by omega), hx, ir_m8, nI_clamp (show 8 * md + x < 2 ^ 31 by omega)]
  exact br_f (by rw [k6]; decide) ⟨hip, br_t k6 ⟨hip, vp_in_nI (by omega) (by omega), ir_x_app hmd hq hq32 ⟨hip, hp⟩⟩⟩
theorem ir_x_ex_wr {md p x y z : Nat} (hmd : md < 2) (hc : c ≤ 16) (hpc : p < c) (hx : xs p = nI x) (hx8 : x < 8) (hy : ys p = nI y) (hy8 : y < 8) (hz : (kd p = 3 ∨ kd p = 4) → zs p = nI z ∧ z < 8) (hk : kd p = 1 ∨ kd p = 2 ∨ kd p = 3 ∨ kd p = 4)
    (hcd : md = 1 → kd p = 4 → ¬ hm p < 0 → cd p = va (8 + y) * va (8 + z)) (hHm : ∀ m, m < c → hm m = -1 ∨ ∃ H f, H < c ∧ f < 8 ∧ hm m = nI H ∧ fa m = nI f)
    (h0 : md = 0 → post (nx p) (nI nl, nI vl, nI ol, nI c, cl, rc, kd, xs, ys, zs, nx, su, pr, dm, lo, wr, sp, hm, bs, fa, cr, ic, it, upd va (8 * md + x) (ir_vv md kd ys zs va p), ir_sM md kd hm p st, ou, cd, mk))
    (h1 : md = 1 → post (nx p) (nI nl, nI vl, nI ol, nI c, cl, rc, kd, xs, ys, zs, nx, su, pr, dm, lo, wr, sp, hm, bs, fa, cr, ic, it, upd va (8 * md + x) (ir_vv md kd ys zs va p), ir_aS lo hm bs xs c p (ir_sM md kd hm p st), ou, ir_aC lo hm bs fa xs zs (upd va (8 * md + x) (ir_vv md kd ys zs va p)) c p cd, mk)) : wpX_execute post (nI nl, nI vl, nI ol, nI c, cl, rc, kd, xs, ys, zs, nx, su, pr, dm, lo, wr, sp, hm, bs, fa, cr, ic, it, va, st, ou, cd, mk) (nI md) (nI p) := by
  have hip : vp_in (nI p) 16 := vp_in_nI (by omega) (by omega)
  have k5 : ¬ kd p = 5 := by rcases hk with k | k | k | k <;> rw [k] <;> decide
  have k6 : ¬ kd p = 6 := by rcases hk with k | k | k | k <;> rw [k] <;> decide
  refine ⟨hip, ?_⟩
  rw [nI_clamp (show p < 2 ^ 31 by omega)]
  refine br_f k5 ⟨hip, br_f k6 (ir_x_comp hmd hc hpc hy hy8 hz hk hcd ⟨hip, ?_⟩)⟩
  rw [hx, ir_m8, nI_clamp (show 8 * md + x < 2 ^ 31 by omega)]
  refine ⟨vp_in_nI (by omega) (by omega), nm_e ?_⟩
  by_cases m1 : md = 1
  · refine br_t (by rw [m1]; rfl) (ir_x_carry hc hpc hHm ⟨hip, h1 m1⟩)
  · have e0 : md = 0 := by omega
    refine br_f (by rw [e0]; decide) ⟨hip, h0 e0⟩
end
end
section
/-! one step of the component; the reference's enter -/
def ir_tS (lo wr hm bs : Nat → Int32) (c md t p : Nat) (st : Nat → Int32) : Nat → Int32 := if md = 1 ∧ ¬ lo t = 0 ∧ bt (lo t) p = false then ir_eS lo wr hm bs c t (upd st (8 * md + 1) (nI t)) else upd st (8 * md + 1) (nI t)
def ir_tC (lo hm bs fa va : Nat → Int32) (c md t p : Nat) (cd : Nat → Int32) : Nat → Int32 := if md = 1 ∧ ¬ lo t = 0 ∧ bt (lo t) p = false then ir_eC hm bs fa va c t cd else cd
def ir_tM (lo xs ys fa cr ic va : Nat → Int32) (md t p : Nat) (mk : Nat → Int32) : Nat → Int32 := if md = 1 ∧ ¬ lo t = 0 ∧ bt (lo t) p = false then ir_eM xs ys fa cr ic va t mk else mk
section
variable {nl vl ol c : Nat} {cl rc : Int32} {kd xs ys zs nx su pr dm lo wr sp hm bs fa cr ic it va st ou cd mk nd lk dY lY se : Nat → Int32}
variable {post : SX → Prop}
theorem ir_x_st81 {md p t : Nat} {va' st' ou' cd' : Nat → Int32} (hmd : md < 2) (hc : c ≤ 16) (hpc : p < c) (htc : t < c) (hHm : ∀ m, m < c → hm m = nI t → ∃ b f, b < 8 ∧ f < 8 ∧ bs m = nI b ∧ fa m = nI f)
    (hxy : ∃ x y, x < 8 ∧ y < 8 ∧ xs t = nI x ∧ ys t = nI y) (hcr : cr t = -1 ∨ ∃ m f, m < c ∧ f < 8 ∧ cr t = nI m ∧ fa m = nI f)
    (hexec : ∀ post' : Int32 → SX → Prop, post' (nI t) (nI nl, nI vl, nI ol, nI c, cl, rc, kd, xs, ys, zs, nx, su, pr, dm, lo, wr, sp, hm, bs, fa, cr, ic, it, va', st', ou', cd', mk) → wpX_execute post' (nI nl, nI vl, nI ol, nI c, cl, rc, kd, xs, ys, zs, nx, su, pr, dm, lo, wr, sp, hm, bs, fa, cr, ic, it, va, st, ou, cd, mk) (nI md) (nI p))
    (hp : post (nI nl, nI vl, nI ol, nI c, cl, rc, kd, xs, ys, zs, nx, su, pr, dm, lo, wr, sp, hm, bs, fa, cr, ic, it, va', ir_tS lo wr hm bs c md t p st', ou', ir_tC lo hm bs fa va' c md t p cd', ir_tM lo xs ys fa cr ic va' md t p mk)) : wX_step_81 post (nI md) (nI (8 * md)) (nI p) (nI nl) (nI vl) (nI ol) (nI c) cl rc kd xs ys zs nx su pr dm lo wr sp hm bs fa cr ic it va st ou cd mk := by
  unfold wX_step_81
  refine hexec _ ?_
  have i1 : nI (8 * md) + 1 = nI (8 * md + 1) := nI_1 (8 * md)
  refine ⟨by rw [i1]; exact vp_in_nI (by omega) (by omega), ?_⟩
  rw [i1, nI_clamp (show 8 * md + 1 < 2 ^ 31 by omega), nI_clamp (show t < 2 ^ 31 by omega)]
  unfold ir_tS ir_tC ir_tM at hp
  have ht : vp_in (nI t) 16 := vp_in_nI (by omega) (by omega)
  refine nm_e ?_
  by_cases m1 : md = 1
  · refine br_t (by rw [m1]; rfl) ⟨ht, br_c (fun z => ?_) (fun z => ⟨ht, ir_x_has (by omega) (fun hb => br_f ir_10 ?_) (fun hb => br_t rfl ?_)⟩)⟩
    · rw [if_neg (fun q => q.2.1 z), if_neg (fun q => q.2.1 z), if_neg (fun q => q.2.1 z)] at hp
      exact hp
    · have n : ¬ (md = 1 ∧ ¬ lo t = 0 ∧ bt (lo t) p = false) := fun q => by
        rw [hb] at q
        exact absurd q.2.2 (by decide)
      rw [if_neg n, if_neg n, if_neg n] at hp
      exact hp
    · rw [if_pos ⟨m1, z, hb⟩, if_pos ⟨m1, z, hb⟩, if_pos ⟨m1, z, hb⟩] at hp
      obtain ⟨x, y, hx, hy, ex, ey⟩ := hxy
      exact ir_x_enter hc htc hHm ex ey hx hy hcr hp
  · have e0 : md = 0 := by omega
    rw [if_neg (fun q => m1 q.1), if_neg (fun q => m1 q.1), if_neg (fun q => m1 q.1)] at hp
    exact br_f (by rw [e0]; decide) hp
theorem ir_x_step {md p q : Nat} (hmd : md < 2) (hc : c ≤ 16) (ho : ol ≤ 32) (hpc : p < c) (hq32 : q ≤ ol) (hpl : st (8 * md + 1) = nI p) (hq : st (8 * md + 3) = nI q)
    (h0 : kd p = 0 → post (nI nl, nI vl, nI ol, nI c, cl, rc, kd, xs, ys, zs, nx, su, pr, dm, lo, wr, sp, hm, bs, fa, cr, ic, it, va, upd (upd st (8 * md + 2) (st (8 * md + 2) + 1)) (8 * md) 2, ou, cd, mk))
    (h6 : kd p = 6 → ol ≤ q → post (nI nl, nI vl, nI ol, nI c, cl, rc, kd, xs, ys, zs, nx, su, pr, dm, lo, wr, sp, hm, bs, fa, cr, ic, it, va, upd (upd st (8 * md + 2) (st (8 * md + 2) + 1)) (8 * md) 3, ou, cd, mk))
    (h81 : ¬ kd p = 0 → (kd p = 6 → q < ol) → wX_step_81 post (nI md) (nI (8 * md)) (nI p) (nI nl) (nI vl) (nI ol) (nI c) cl rc kd xs ys zs nx su pr dm lo wr sp hm bs fa cr ic it va (upd st (8 * md + 2) (st (8 * md + 2) + 1)) ou cd mk) : wpX_step post (nI nl, nI vl, nI ol, nI c, cl, rc, kd, xs, ys, zs, nx, su, pr, dm, lo, wr, sp, hm, bs, fa, cr, ic, it, va, st, ou, cd, mk) (nI md) := by
  have i0 : nI (8 * md) + 0 = nI (8 * md) := nI_add (8 * md) 0
  have i1 : nI (8 * md) + 1 = nI (8 * md + 1) := nI_1 (8 * md)
  have i2 : nI (8 * md) + 2 = nI (8 * md + 2) := nI_add (8 * md) 2
  have i3 : nI (8 * md) + 3 = nI (8 * md + 3) := nI_add (8 * md) 3
  have v : ∀ j, j < 8 → vp_in (nI (8 * md + j)) 16 := fun j hj => vp_in_nI (by omega) (by omega)
  have vp : vp_in (nI p) 16 := vp_in_nI (by omega) (by omega)
  refine nm_r (ir_m8' md) ?_
  rw [i0, i1, i2, i3, nI_clamp (show 8 * md < 2 ^ 31 by omega), nI_clamp (show 8 * md + 1 < 2 ^ 31 by omega), nI_clamp (show 8 * md + 2 < 2 ^ 31 by omega), nI_clamp (show 8 * md + 3 < 2 ^ 31 by omega)]
  refine ⟨v 1 (by decide), nm_r hpl ⟨v 2 (by decide), v 2 (by decide), nm_e ⟨vp, ?_⟩⟩⟩
  rw [nI_clamp (show p < 2 ^ 31 by omega), pk_un (show 8 * md + 3 ≠ 8 * md + 2 by omega), hq]
  refine br_c (fun z => ⟨v 0 (by decide), nm_e (h0 z)⟩) (fun z => ⟨vp, br_c (fun w => ⟨v 3 (by decide), br_c (fun g => h81 z fun _ => ?_) (fun g => ⟨v 0 (by decide), nm_e (h6 w ?_)⟩)⟩) (fun w => h81 z fun w' => absurd w' w)⟩)
  · rw [nI_ltI (by omega) (by omega)] at g
    exact g
  · rw [nI_ltI (by omega) (by omega)] at g
    omega
end
section
variable {nl vl ol c : Nat} {cl rc : Int32} {kd xs ys zs nx su pr dm lo wr sp hm bs fa cr ic it va st ou cd mk nd lk dY lY se : Nat → Int32}
variable {post : SY → Prop}
/-- the mark -/
theorem ir_y_en199 {h x w : Nat} {a b f : Int32} (hN : ir_N nd kd xs ys zs nx) (hY : ir_YS c kd xs ys lo wr sp lY) (hc : c ≤ 16) (hh : h < c) (hx8 : x < 8) (hw : w < c)
    (hu : ∀ n, n < c → (bt (wr x &&& lo h) n = true ↔ n = w)) (hz : zs w = ic h)
    (hp : post (nI nl, nI vl, nI ol, nI c, cl, nd, it, va, st, ou, lk, upd mk h (ir_rv a.toInt b.toInt f.toInt (ic h).toInt), dY, lY, se)) :
    ∀ k i, i + k = c → wY_enter_199 post (nI h) (nI x) a.toInt64 b.toInt64 f.toInt64 (nI nl) (nI vl) (nI ol) (nI c) cl nd it va st ou lk mk dY lY se (k + 1) (if w < i then (b.toInt64 - 1) + (ic h).toInt64 else b.toInt64 - 1) (nI i) := by
  intro k
  induction k with
  | zero =>
    intro i hi
    rw [if_pos (show w < i by omega)]
    refine br_t (nI_le (by omega) (by omega)) ?_
    have hin : vp_in (nI h) 16 := vp_in_nI (by omega) (by omega)
    obtain ⟨r1, r2⟩ := ir_range (P := fun r => post (nI nl, nI vl, nI ol, nI c, cl, nd, it, va, st, ou, lk, upd mk h r, dY, lY, se)) hp
    have m0 : post (nI nl, nI vl, nI ol, nI c, cl, nd, it, va, st, ou, lk, upd mk h 0, dY, lY, se) → vp_in (nI h) 16 ∧ ∀ a_mark : Nat → Int32, a_mark = upd mk (nI h).toNatClampNeg (vp_nar .boolean 0) → post (nI nl, nI vl, nI ol, nI c, cl, nd, it, va, st, ou, lk, a_mark, dY, lY, se) := by
      intro q
      rw [nI_clamp (show h < 2 ^ 31 by omega), ir_vb0]
      exact ⟨hin, nm_e q⟩
    have m1 : post (nI nl, nI vl, nI ol, nI c, cl, nd, it, va, st, ou, lk, upd mk h 1, dY, lY, se) → vp_in (nI h) 16 ∧ ∀ a_mark : Nat → Int32, a_mark = upd mk (nI h).toNatClampNeg (vp_nar .boolean 1) → post (nI nl, nI vl, nI ol, nI c, cl, nd, it, va, st, ou, lk, a_mark, dY, lY, se) := by
      intro q
      rw [nI_clamp (show h < 2 ^ 31 by omega), ir_vb1]
      exact ⟨hin, nm_e q⟩
    have lim : ∀ L : Int64, 2147483647 < L ↔ ¬ L ≤ 2147483647 := fun L => Int64.not_le.symm
    refine ⟨fun z => m0 (r1 z), fun z => ⟨fun g => m0 ((r2 z).1 ((lim _).mp g)), fun g => ?_⟩⟩
    have g' : (b.toInt64 - 1) + (ic h).toInt64 ≤ 2147483647 := Classical.byContradiction fun n => g ((lim _).mpr n)
    have r3 := (r2 z).2 g'
    have fin : ∀ lw : Int64, (b.toInt64 ≤ a.toInt64 → lw = b.toInt64) → (¬ b.toInt64 ≤ a.toInt64 → lw = a.toInt64) → wY_enter_292 post a.toInt64 f.toInt64 ((b.toInt64 - 1) + (ic h).toInt64) lw (nI h) (nI nl) (nI vl) (nI ol) (nI c) cl nd it va st ou lk mk dY lY se := by
      intro lw l1 l2
      refine br_c (fun q => m0 ?_) (fun q => br_c (fun k => br_c (fun t => m0 ?_) (fun t => m1 ?_)) (fun k => br_c (fun t => m0 ?_) (fun t => m1 ?_)))
      · by_cases k : a.toInt64 ≤ (b.toInt64 - 1) + (ic h).toInt64
        · exact (r3 lw ((b.toInt64 - 1) + (ic h).toInt64) l1 l2 (fun _ => rfl) (fun n => absurd k n)).1 q
        · exact (r3 lw a.toInt64 l1 l2 (fun n => absurd n k) (fun _ => rfl)).1 q
      · exact ((r3 lw ((b.toInt64 - 1) + (ic h).toInt64) l1 l2 (fun _ => rfl) (fun n => absurd k n)).2 q).1 t
      · exact ((r3 lw ((b.toInt64 - 1) + (ic h).toInt64) l1 l2 (fun _ => rfl) (fun n => absurd k n)).2 q).2 t
      · exact ((r3 lw a.toInt64 l1 l2 (fun n => absurd n k) (fun _ => rfl)).2 q).1 t
      · exact ((r3 lw a.toInt64 l1 l2 (fun n => absurd n k) (fun _ => rfl)).2 q).2 t
    exact br_c (fun q => fin _ (fun _ => rfl) (fun n => absurd q n)) (fun q => fin _ (fun n => absurd n q) (fun _ => rfl))
  | succ k ih =>
    intro i hi
    refine br_f (nI_ge (by omega) (by omega)) ⟨ir_v16 (by omega) (by omega), ?_⟩
    rw [ir_c16 (by omega) (by omega)]
    have q := ih (i + 1) (by omega)
    have skip : i ≠ w → wY_enter_199 post (nI h) (nI x) a.toInt64 b.toInt64 f.toInt64 (nI nl) (nI vl) (nI ol) (nI c) cl nd it va st ou lk mk dY lY se (k + 1) (if w < i then (b.toInt64 - 1) + (ic h).toInt64 else b.toInt64 - 1) (nI (i + 1)) := by
      intro z
      have e : (if w < i + 1 then (b.toInt64 - 1) + (ic h).toInt64 else b.toInt64 - 1) = (if w < i then (b.toInt64 - 1) + (ic h).toInt64 else b.toInt64 - 1) := by
        by_cases g : w < i
        · rw [if_pos g, if_pos (by omega)]
        · rw [if_neg g, if_neg (by omega)]
      rw [e] at q
      exact q
    refine br_c (fun z => nm_r (nI_1 i) (skip fun e => ?_)) (fun z => ir_y_writes hN hc (by omega) (fun g => br_f ir_10 ⟨ir_v5 (j := 3) (by omega) (by decide), ?_⟩) (fun g => br_t rfl (nm_r (nI_1 i) (skip fun e => ?_))))
    · exact (hY.1 h i (by omega) (by omega)).mpr ((ir_WLb hY hx8).mp ((hu i (by omega)).mpr e)).2 z
    · have e : i = w := (hu i (by omega)).mp ((ir_WLb hY hx8).mpr ⟨g, (hY.1 h i (by omega) (by omega)).mp z⟩)
      rw [ir_n3 hN (by omega), if_neg (show ¬ w < i by omega), e, hz]
      rw [if_pos (by omega), e] at q
      exact nm_e (nm_r (nI_1 w) q)
    · exact g ((ir_WLb hY hx8).mp ((hu i (by omega)).mpr e)).1
end
end
section
/-! the sealed state; the reference's enter and step -/
def ir_SS (nl vl ol c : Nat) (cl rc : Int32) (kd xs ys zs nx nd dm lo wr sp hm bs fa cr ic lk dY lY : Nat → Int32) : Prop :=
  ¬ cl = 0 ∧ 0 < c ∧ ir_Gd nl vl ol c kd xs ys zs nx nd ∧ ir_Cl c kd zs nx ∧ ir_XS c rc kd xs ys zs nx dm lo wr sp hm bs fa cr ic ∧ ir_YX c dm lo dY lY ∧ ir_LK c kd hm cr lk
section
variable {nl vl ol c : Nat} {cl rc : Int32} {kd xs ys zs nx nd dm lo wr sp hm bs fa cr ic lk dY lY : Nat → Int32}
theorem ir_s_c (S : ir_SS nl vl ol c cl rc kd xs ys zs nx nd dm lo wr sp hm bs fa cr ic lk dY lY) : c ≤ 16 := by
  have := S.2.2.1.1
  omega
theorem ir_s_v (S : ir_SS nl vl ol c cl rc kd xs ys zs nx nd dm lo wr sp hm bs fa cr ic lk dY lY) : vl ≤ 8 := by
  have := S.2.2.1.1
  omega
theorem ir_s_o (S : ir_SS nl vl ol c cl rc kd xs ys zs nx nd dm lo wr sp hm bs fa cr ic lk dY lY) : ol ≤ 32 := by
  have := S.2.2.1.1
  omega
theorem ir_s_N (S : ir_SS nl vl ol c cl rc kd xs ys zs nx nd dm lo wr sp hm bs fa cr ic lk dY lY) : ir_N nd kd xs ys zs nx := S.2.2.1.2.1
theorem ir_s_Y (S : ir_SS nl vl ol c cl rc kd xs ys zs nx nd dm lo wr sp hm bs fa cr ic lk dY lY) : ir_YS c kd xs ys lo wr sp lY := ir_XSY S.2.1 S.2.2.2.2.1 S.2.2.2.2.2.1.2
theorem ir_s_B (S : ir_SS nl vl ol c cl rc kd xs ys zs nx nd dm lo wr sp hm bs fa cr ic lk dY lY) : ir_HB lo wr sp kd ys zs hm bs fa c c := S.2.2.2.2.1.2.2.2.2.2.1
theorem ir_s_M (S : ir_SS nl vl ol c cl rc kd xs ys zs nx nd dm lo wr sp hm bs fa cr ic lk dY lY) : ∀ m, m < c → kd m = 4 → ∃ y z, y < vl ∧ z < vl ∧ ys m = nI y ∧ zs m = nI z := ir_GM S.2.2.1
theorem ir_s_K (S : ir_SS nl vl ol c cl rc kd xs ys zs nx nd dm lo wr sp hm bs fa cr ic lk dY lY) : ir_LK c kd hm cr lk := S.2.2.2.2.2.2
theorem ir_s_H (S : ir_SS nl vl ol c cl rc kd xs ys zs nx nd dm lo wr sp hm bs fa cr ic lk dY lY) {m : Nat} (hmc : m < c) : hm m = -1 ∨ ∃ H b f, ir_H c vl kd xs ys zs nx hm bs fa m H b f := ir_HOH S.2.2.1 S.2.2.2.2.1 hmc
theorem ir_s_C (S : ir_SS nl vl ol c cl rc kd xs ys zs nx nd dm lo wr sp hm bs fa cr ic lk dY lY) {h : Nat} (hh : h < c) : cr h = -1 ∨ ∃ m w H b f y, ir_C c vl kd xs ys zs nx hm bs fa cr ic h m w H b f y := ir_COC S.2.2.1 S.2.2.2.1 S.2.2.2.2.1 hh
theorem ir_s_L (S : ir_SS nl vl ol c cl rc kd xs ys zs nx nd dm lo wr sp hm bs fa cr ic lk dY lY) (h n : Nat) : bt (lo h) n = true ↔ ir_Lp (ir_E c kd zs nx) h n := S.2.2.2.2.1.2.2.1 h n
theorem ir_s_xy (S : ir_SS nl vl ol c cl rc kd xs ys zs nx nd dm lo wr sp hm bs fa cr ic lk dY lY) {n : Nat} (hn : n < c) : ∃ x y, x < vl ∧ y < vl ∧ xs n = nI x ∧ ys n = nI y := S.2.2.1.2.2.2.1 n hn
theorem ir_s_h1 (S : ir_SS nl vl ol c cl rc kd xs ys zs nx nd dm lo wr sp hm bs fa cr ic lk dY lY) {h : Nat} (hh : h < c) : ∀ m, m < c → hm m = nI h → ∃ b f, b < 8 ∧ f < 8 ∧ bs m = nI b ∧ fa m = nI f := by
  intro m hmc e
  have v := ir_s_v S
  have c16 := ir_s_c S
  rcases ir_s_H S hmc with z | ⟨H, b, f, d⟩
  · exact absurd (z.symm.trans e) (ir_m1n (by omega))
  · obtain ⟨h1, h2, h3, h4, h5, h6, _⟩ := d
    exact ⟨b, f, by omega, by omega, h3, h4⟩
theorem ir_s_h2 (S : ir_SS nl vl ol c cl rc kd xs ys zs nx nd dm lo wr sp hm bs fa cr ic lk dY lY) : ∀ m, m < c → hm m = -1 ∨ ∃ H f, H < c ∧ f < 8 ∧ hm m = nI H ∧ fa m = nI f := by
  intro m hmc
  have v := ir_s_v S
  rcases ir_s_H S hmc with z | ⟨H, b, f, d⟩
  · exact Or.inl z
  · obtain ⟨h1, h2, h3, h4, h5, h6, _⟩ := d
    exact Or.inr ⟨H, f, h2, by omega, h1, h4⟩
theorem ir_s_cr (S : ir_SS nl vl ol c cl rc kd xs ys zs nx nd dm lo wr sp hm bs fa cr ic lk dY lY) {h : Nat} (hh : h < c) : cr h = -1 ∨ ∃ m f, m < c ∧ f < 8 ∧ cr h = nI m ∧ fa m = nI f := by
  have v := ir_s_v S
  rcases ir_s_C S hh with z | ⟨m, w, H, b, f, y, d⟩
  · exact Or.inl z
  · obtain ⟨c1, c2, c3, _⟩ := d
    obtain ⟨h1, h2, h3, h4, h5, h6, _⟩ := c3
    exact Or.inr ⟨m, f, c2, by omega, c1, h4⟩
theorem ir_s_xy8 (S : ir_SS nl vl ol c cl rc kd xs ys zs nx nd dm lo wr sp hm bs fa cr ic lk dY lY) {n : Nat} (hn : n < c) : ∃ x y, x < 8 ∧ y < 8 ∧ xs n = nI x ∧ ys n = nI y := by
  have v := ir_s_v S
  obtain ⟨x, y, a, b, d⟩ := ir_s_xy S hn
  exact ⟨x, y, by omega, by omega, d⟩
theorem ir_s_l0 (S : ir_SS nl vl ol c cl rc kd xs ys zs nx nd dm lo wr sp hm bs fa cr ic lk dY lY) {h : Nat} : ¬ lo h = 0 ↔ bt (lo h) h = true := by
  constructor
  · intro z
    obtain ⟨n, hn⟩ := ir_nz.mp z
    exact ((ir_s_Y S).2.2.2 h n hn).1
  · exact fun z => ir_nz.mpr ⟨h, z⟩
end
section
variable {nl vl ol c : Nat} {cl rc : Int32} {kd xs ys zs nx su pr dm lo wr sp hm bs fa cr ic it va st ou cd mk nd lk dY lY se : Nat → Int32}
variable {post : SY → Prop}
theorem ir_y_bas {m : Nat} {post : Int32 → Prop} (S : ir_SS nl vl ol c cl rc kd xs ys zs nx nd dm lo wr sp hm bs fa cr ic lk dY lY) (hmc : m < c) (hp : post (ir_ba hm bs m)) : wpY_base post (nI nl, nI vl, nI ol, nI c, cl, nd, it, va, st, ou, lk, mk, dY, lY, se) (nI m) :=
  ir_y_base S.1 (ir_s_N S) (ir_s_Y S) (ir_s_c S) (ir_s_v S) hmc (ir_s_M S) (ir_s_B S) (ir_s_K S m hmc).1 hp
theorem ir_y_en2 {h : Nat} (S : ir_SS nl vl ol c cl rc kd xs ys zs nx nd dm lo wr sp hm bs fa cr ic lk dY lY) (hh : h < c)
    (hp : post (nI nl, nI vl, nI ol, nI c, cl, nd, it, va, ir_eS lo wr hm bs c h st, ou, lk, ir_eM xs ys fa cr ic va h mk, dY, lY, se)) :
    ∀ k i st', i + k = c → ir_ea (fun i => decide (hm i = nI h)) (fun i => 1 + nI (ir_ct (bt (wr (bs i).toNatClampNeg &&& lo h)) 16)) 13 k i st' = ir_eS lo wr hm bs c h st →
      wY_enter_2 post (nI h) (nI nl) (nI vl) (nI ol) (nI c) cl (k + 1) (nI i) nd it va st' ou lk mk dY lY se := by
  have c16 := ir_s_c S
  have v8 := ir_s_v S
  have hN := ir_s_N S
  have hY := ir_s_Y S
  intro k
  induction k with
  | zero =>
    intro i st' hi e1
    simp only [ir_ea] at e1
    subst e1
    refine br_t (nI_le (by omega) (by omega)) ⟨ir_v5 (j := 0) (by omega) (by decide), ?_⟩
    have hin : vp_in (nI h) 16 := vp_in_nI (by omega) (by omega)
    rw [ir_n0 hN (by omega), ir_n1 hN (by omega), ir_n2 hN (by omega), nI_clamp (show h < 2 ^ 31 by omega)]
    unfold ir_eM at hp
    rcases ir_s_C S hh with e | ⟨m, w, H, b, f, y, C⟩
    · rw [if_pos (show cr h < 0 by rw [e]; decide)] at hp
      refine br_c (fun k5 => ⟨hin, br_f ?_ hp⟩) (fun _ => hp)
      rw [(ir_s_K S h hh).2.1 k5, e]
      decide
    · obtain ⟨c1, c2, c3, c4, c5, c6, c7, c8, c9, c10, c11, c12, c13, c14, c15, c16', c17, c18⟩ := C
      obtain ⟨h1, h2, h3, h4, h5, h6, h7, h8, h9, h10, h11, h12⟩ := c3
      rw [if_neg (show ¬ cr h < 0 by rw [c1]; exact nI_pos (by omega)), c1, nI_clamp (show m < 2 ^ 31 by omega), h4, c6, c7, nI_clamp (show b < 2 ^ 31 by omega), nI_clamp (show y < 2 ^ 31 by omega), nI_clamp (show f < 2 ^ 31 by omega)] at hp
      rw [(ir_s_K S h hh).2.1 c5, c1, c6, c7]
      refine br_t c5 ⟨hin, br_t (nI_pos' (by omega)) ⟨hin, nm_e ⟨ir_v5 (j := 1) (by omega) (by decide), nm_e ?_⟩⟩⟩
      rw [ir_8p, ir_8p, nI_clamp (show 8 + b < 2 ^ 31 by omega), nI_clamp (show 8 + y < 2 ^ 31 by omega)]
      refine ⟨vp_in_nI (by omega) (by omega), nm_e ⟨ir_v5 (j := 2) (by omega) (by decide), vp_in_nI (by omega) (by omega), nm_e (ir_y_bas S c2 ⟨ir_v5 (j := 2) (by omega) (by decide), ?_⟩)⟩⟩
      have eba : ir_ba hm bs m = nI b := by
        unfold ir_ba
        rw [if_neg (show ¬ hm m < 0 by rw [h1]; exact nI_pos (by omega)), h3]
      rw [eba, ir_n2 hN (by omega), ir_n3 hN (by omega)]
      have hu : ∀ n, n < c → (bt (wr b &&& lo h) n = true ↔ n = w) := by
        intro n hn
        rw [ir_WLb hY (by omega), ir_s_L S]
        exact ⟨fun q => c11 n q.2 q.1, fun q => by rw [q]; exact ⟨c12, c13⟩⟩
      have K : ∃ n199 : Nat, wY_enter_199 post (nI h) (nI b) (va (8 + b)).toInt64 (va (8 + y)).toInt64 (va (8 + f)).toInt64 (nI nl) (nI vl) (nI ol) (nI c) cl nd it va (ir_eS lo wr hm bs c h st) ou lk mk dY lY se n199 ((va (8 + y)).toInt64 - 1) 0 :=
        ⟨c + 1, ir_y_en199 hN hY (by omega) hh (by omega) c12.1 hu c16' hp c 0 (by omega)⟩
      rcases h9 with q | q
      · rw [q.1, q.2, ir_8p, ir_8p, nI_clamp (show 8 + b < 2 ^ 31 by omega), nI_clamp (show 8 + f < 2 ^ 31 by omega)]
        exact br_t rfl ⟨ir_v5 (j := 3) (by omega) (by decide), vp_in_nI (by omega) (by omega), nm_e (nm_e K)⟩
      · rw [q.1, q.2, ir_8p, ir_8p, nI_clamp (show 8 + b < 2 ^ 31 by omega), nI_clamp (show 8 + f < 2 ^ 31 by omega)]
        exact br_f (fun z => h12 (ir_nI_inj (by omega) (by omega) z)) ⟨ir_v5 (j := 2) (by omega) (by decide), vp_in_nI (by omega) (by omega), nm_e (nm_e K)⟩
  | succ k ih =>
    intro i st' hi e1
    have icl : i < c := by omega
    simp only [ir_ea] at e1
    refine br_f (nI_ge (by omega) (by omega)) (ir_y_bas S icl ?_)
    rw [nI_clamp (show i < 2 ^ 31 by omega)]
    rcases ir_s_H S icl with e | ⟨H, b, f, d⟩
    · have eba : ir_ba hm bs i = -1 := by
        unfold ir_ba
        rw [e, if_pos (by decide)]
      rw [eba]
      have z : ¬ hm i = nI h := by
        rw [e]
        exact ir_m1n (by omega)
      rw [decide_eq_false z, if_neg Bool.false_ne_true] at e1
      exact br_t (by decide) (nm_r (nI_1 i) (ih (i + 1) _ (by omega) e1))
    · obtain ⟨h1, h2, h3, h4, h5, h6, h7, h8, _⟩ := d
      have eba : ir_ba hm bs i = nI b := by
        unfold ir_ba
        rw [if_neg (show ¬ hm i < 0 by rw [h1]; exact nI_pos (by omega)), h3]
      rw [eba, (ir_s_K S i icl).1 h8]
      refine br_f (nI_pos (by omega)) ⟨vp_in_nI (by omega) (by omega), ?_⟩
      by_cases z : hm i = nI h
      · rw [decide_eq_true z, if_pos rfl, h3, nI_clamp (show b < 2 ^ 31 by omega)] at e1
        refine br_t z (ir_y_writers hN hY (by omega) hh (by omega) (nm_e (nm_r (nI_1 i) (ih (i + 1) _ (by omega) ?_))))
        have e16 : ir_ct (bt (wr b &&& lo h)) c = ir_ct (bt (wr b &&& lo h)) 16 := by
          have := ir_ct_ext (p := bt (wr b &&& lo h)) (n := c) (fun n hn => ir_nt fun q => by have := ((ir_WLb hY (show b < 8 by omega)).mp q).1.1; omega) (16 - c)
          rw [show c + (16 - c) = 16 by omega] at this
          exact this.symm
        rw [e16]
        exact e1
      · rw [decide_eq_false z, if_neg Bool.false_ne_true] at e1
        exact br_f z (nm_r (nI_1 i) (ih (i + 1) _ (by omega) e1))
theorem ir_y_enter {h : Nat} (S : ir_SS nl vl ol c cl rc kd xs ys zs nx nd dm lo wr sp hm bs fa cr ic lk dY lY) (hh : h < c) (hp : post (nI nl, nI vl, nI ol, nI c, cl, nd, it, va, ir_eS lo wr hm bs c h st, ou, lk, ir_eM xs ys fa cr ic va h mk, dY, lY, se)) : wpY_enter post (nI nl, nI vl, nI ol, nI c, cl, nd, it, va, st, ou, lk, mk, dY, lY, se) (nI h) :=
  ⟨c + 1, ir_y_en2 S hh hp c 0 st (by omega) rfl⟩
theorem ir_y_469 {p t : Nat} (S : ir_SS nl vl ol c cl rc kd xs ys zs nx nd dm lo wr sp hm bs fa cr ic lk dY lY) (hpc : p < c) (htc : t < c)
    (hp : post (nI nl, nI vl, nI ol, nI c, cl, nd, it, va, (if ¬ lo t = 0 ∧ bt (lo t) p = false then ir_eS lo wr hm bs c t st else st), ou, lk, (if ¬ lo t = 0 ∧ bt (lo t) p = false then ir_eM xs ys fa cr ic va t mk else mk), dY, lY, se)) : wY_step_469 post (nI p) (nI t) (nI nl) (nI vl) (nI ol) (nI c) cl nd it va st ou lk mk dY lY se := by
  have c16 := ir_s_c S
  have hY := ir_s_Y S
  unfold wY_step_469
  rw [ir_c17 (by omega), ir_c16 (by omega) (by omega)]
  refine ⟨ir_v17 (by omega), br_c (fun z => ?_) (fun z => ⟨ir_v16 (by omega) (by omega), br_c (fun w => ?_) (fun w => ?_)⟩)⟩
  · have n : ¬ (¬ lo t = 0 ∧ bt (lo t) p = false) := fun q => (hY.1 t t (by omega) (by omega)).mpr ((ir_s_l0 S).mp q.1) z
    rw [if_neg n, if_neg n] at hp
    exact hp
  · have q : ¬ lo t = 0 ∧ bt (lo t) p = false := ⟨(ir_s_l0 S).mpr ((hY.1 t t (by omega) (by omega)).mp z), ir_nt fun q => (hY.1 t p (by omega) (by omega)).mpr q w⟩
    rw [if_pos q, if_pos q] at hp
    exact ir_y_enter S htc hp
  · have n : ¬ (¬ lo t = 0 ∧ bt (lo t) p = false) := fun q => by
      have := (hY.1 t p (by omega) (by omega)).mp w
      rw [q.2] at this
      cases this
    rw [if_neg n, if_neg n] at hp
    exact hp
/-- the additions are counted, then the moved comparison -/
theorem ir_y_361 {p t : Nat} {stE : Nat → Int32} {q : Nat → Bool} (S : ir_SS nl vl ol c cl rc kd xs ys zs nx nd dm lo wr sp hm bs fa cr ic lk dY lY) (hpc : p < c) (htc : t < c) (hmk : kd p = 5 → ¬ mk p = 0 → ¬ cr p < 0)
    (hq : ∀ m, m < c → (q m = true ↔ ((¬ kd p < 1 ∧ ¬ 4 < kd p) ∧ ir_cp lo hm bs (xs p) p m = true)))
    (hp : ∀ s2, s2 = (if kd p = 5 then ir_sL 1 mk p stE else stE) → post (nI nl, nI vl, nI ol, nI c, cl, nd, it, va, (if ¬ lo t = 0 ∧ bt (lo t) p = false then ir_eS lo wr hm bs c t s2 else s2), ou, lk, (if ¬ lo t = 0 ∧ bt (lo t) p = false then ir_eM xs ys fa cr ic va t mk else mk), dY, lY, se)) :
    ∀ k i st', i + k = c → ir_ea q (fun _ => 1) 14 k i st' = stE → wY_step_361 post 8 (nI p) (kd p) (nI t) (nI nl) (nI vl) (nI ol) (nI c) cl (k + 1) (nI i) nd it va st' ou lk mk dY lY se := by
  have c16 := ir_s_c S
  have v8 := ir_s_v S
  have hN := ir_s_N S
  have hY := ir_s_Y S
  intro k
  induction k with
  | zero =>
    intro i st' hi e1
    simp only [ir_ea] at e1
    subst e1
    have hip : vp_in (nI p) 16 := vp_in_nI (by omega) (by omega)
    have i7 : (8 : Int32) + 7 = nI 15 := by decide
    refine br_t (nI_le (by omega) (by omega)) (br_c (fun k5 => ⟨hip, ?_⟩) (fun k5 => ir_y_469 S hpc htc (hp _ (by rw [if_neg k5]))))
    rw [nI_clamp (show p < 2 ^ 31 by omega), (ir_s_K S p hpc).2.1 k5, i7, nI_clamp (show 15 < 2 ^ 31 by omega)]
    rw [if_pos k5] at hp
    unfold ir_sL at hp
    refine br_c (fun z => ir_y_469 S hpc htc (hp _ ?_)) (fun z => ⟨hip, br_c (fun w => ir_y_469 S hpc htc (hp _ ?_)) (fun w => ⟨vp_in_nI (by omega) (by omega), vp_in_nI (by omega) (by omega), nm_e (ir_y_469 S hpc htc (hp _ ?_))⟩)⟩)
    · rw [if_neg (fun g => hmk k5 g.2 z)]
    · rw [if_neg (fun g => g.2 w)]
    · rw [if_pos ⟨rfl, w⟩]
  | succ k ih =>
    intro i st' hi e1
    have icl : i < c := by omega
    simp only [ir_ea] at e1
    have skip : ¬ q i = true → wY_step_361 post 8 (nI p) (kd p) (nI t) (nI nl) (nI vl) (nI ol) (nI c) cl (k + 1) (nI (i + 1)) nd it va st' ou lk mk dY lY se := by
      intro z
      rw [if_neg z] at e1
      exact ih (i + 1) st' (by omega) e1
    refine br_f (nI_ge (by omega) (by omega)) (ir_y_bas S icl ?_)
    rcases ir_s_H S icl with e | ⟨H, b, f, d⟩
    · have eba : ir_ba hm bs i = -1 := by
        unfold ir_ba
        rw [e, if_pos (by decide)]
      rw [eba]
      refine br_t (by decide) (nm_r (nI_1 i) (skip fun z => ?_))
      have z' := ((hq i icl).mp z).2
      unfold ir_cp at z'
      rw [e] at z'
      exact absurd (decide_eq_true_eq.mp (Bool.and_eq_true _ _ |>.mp z').1) (by decide)
    · obtain ⟨h1, h2, h3, h4, h5, h6, h7, h8, _⟩ := d
      have eba : ir_ba hm bs i = nI b := by
        unfold ir_ba
        rw [if_neg (show ¬ hm i < 0 by rw [h1]; exact nI_pos (by omega)), h3]
      have cpE : ir_cp lo hm bs (xs p) p i = true ↔ (nI b = xs p ∧ bt (lo H) p = true) := by
        unfold ir_cp
        rw [h1, h3, nI_clamp (by omega), Bool.and_eq_true, Bool.and_eq_true, decide_eq_true_eq, decide_eq_true_eq]
        exact ⟨fun q => q.2, fun q => ⟨nI_pos (by omega), q⟩⟩
      rw [eba]
      refine br_f (nI_pos (by omega)) (ir_y_writes hN (by omega) hpc (fun w => br_f ir_10 ⟨vp_in_nI (by omega) (by omega), ?_⟩) (fun w => br_t rfl (nm_r (nI_1 i) (skip fun z => ?_))))
      · rw [nI_clamp (show i < 2 ^ 31 by omega), (ir_s_K S i icl).1 h8, h1, ir_c16 (by omega) (by omega)]
        have i6 : (8 : Int32) + 6 = nI 14 := by decide
        rw [i6, nI_clamp (show 14 < 2 ^ 31 by omega)]
        refine ⟨ir_v16 (by omega) (by omega), br_c (fun l => nm_r (nI_1 i) (skip fun z => (hY.1 H p (by omega) (by omega)).mpr (cpE.mp ((hq i icl).mp z).2).2 l)) (fun l => ⟨vp_in_nI (by omega) (by omega), vp_in_nI (by omega) (by omega), nm_e (nm_r (nI_1 i) (ih (i + 1) _ (by omega) ?_))⟩)⟩
        rw [if_pos ((hq i icl).mpr ⟨⟨w.2.1, w.2.2.1⟩, cpE.mpr ⟨w.2.2.2.symm, (hY.1 H p (by omega) (by omega)).mp l⟩⟩)] at e1
        exact e1
      · have z' := (hq i icl).mp z
        exact w ⟨hpc, z'.1.1, z'.1.2, (cpE.mp z'.2).1.symm⟩
end
end
section
/-! one step of the reference -/
theorem ir_8m (md j : Nat) : (8 : Int32) * nI md + nI j = nI (8 * md + j) := by
  show nI 8 * nI md + nI j = _
  rw [pk_mul, nI_add]
theorem ir_8m' (md : Nat) : (8 : Int32) * nI md = nI (8 * md) := by
  show nI 8 * nI md = _
  rw [pk_mul]
theorem ir_32m (md j : Nat) : (32 : Int32) * nI md + nI j = nI (32 * md + j) := by
  show nI 32 * nI md + nI j = _
  rw [pk_mul, nI_add]
theorem ir_sMu {md : Nat} {kd hm st : Nat → Int32} {p : Nat} {v : Int32} : ir_sM md kd hm p (upd st (8 * md + 1) v) = upd (ir_sM md kd hm p st) (8 * md + 1) v := by
  unfold ir_sM
  by_cases z : kd p = 4 ∧ (md = 0 ∨ hm p < 0)
  · rw [if_pos z, if_pos z, pk_un (show 8 * md + 4 ≠ 8 * md + 1 by omega), ir_uc (show 8 * md + 1 ≠ 8 * md + 4 by omega)]
  · rw [if_neg z, if_neg z]
theorem ir_sLu {md : Nat} {mk st : Nat → Int32} {p : Nat} {v : Int32} : ir_sL md mk p (upd st (8 * md + 1) v) = upd (ir_sL md mk p st) (8 * md + 1) v := by
  unfold ir_sL
  by_cases z : md = 1 ∧ ¬ mk p = 0
  · rw [if_pos z, if_pos z, z.1, pk_un (show 15 ≠ 8 * 1 + 1 by omega), ir_uc (show 8 * 1 + 1 ≠ 15 by omega)]
  · rw [if_neg z, if_neg z]
section
variable {nl vl ol c : Nat} {cl rc : Int32} {kd xs ys zs nx su pr dm lo wr sp hm bs fa cr ic it va st ou cd mk nd lk dY lY se : Nat → Int32}
variable {post : SY → Prop}
theorem ir_y_353 {md p t : Nat} {stx : Nat → Int32} (S : ir_SS nl vl ol c cl rc kd xs ys zs nx nd dm lo wr sp hm bs fa cr ic lk dY lY) (hmd : md < 2) (hpc : p < c) (htc : t < c) (hmk : md = 1 → kd p = 5 → ¬ mk p = 0 → ¬ cr p < 0)
    (h0 : md = 0 → st = upd stx (8 * md + 1) (nI t))
    (h1 : md = 1 → (if kd p = 5 then ir_sL 1 mk p (if ¬ kd p < 1 ∧ ¬ 4 < kd p then ir_aS lo hm bs xs c p st else st) else (if ¬ kd p < 1 ∧ ¬ 4 < kd p then ir_aS lo hm bs xs c p st else st)) = upd stx (8 * md + 1) (nI t))
    (hp : post (nI nl, nI vl, nI ol, nI c, cl, nd, it, va, ir_tS lo wr hm bs c md t p stx, ou, lk, ir_tM lo xs ys fa cr ic va md t p mk, dY, lY, se)) : wY_step_353 post (nI md) (nI (8 * md)) (nI p) (kd p) (nI t) (nI nl) (nI vl) (nI ol) (nI c) cl nd it va st ou lk mk dY lY se := by
  unfold ir_tS ir_tM at hp
  by_cases m1 : md = 1
  · subst m1
    refine br_f (by decide) ⟨c + 1, ir_y_361 (stE := (if ¬ kd p < 1 ∧ ¬ 4 < kd p then ir_aS lo hm bs xs c p st else st)) (q := fun m => decide (¬ kd p < 1 ∧ ¬ 4 < kd p) && ir_cp lo hm bs (xs p) p m) S hpc htc (hmk rfl) (fun m _ => by rw [Bool.and_eq_true, decide_eq_true_eq]) (fun s2 e2 => ?_) c 0 st (by omega) ?_⟩
    · rw [h1 rfl] at e2
      subst e2
      by_cases z : ¬ lo t = 0 ∧ bt (lo t) p = false
      · rw [if_pos ⟨rfl, z⟩, if_pos ⟨rfl, z⟩] at hp
        rw [if_pos z, if_pos z]
        exact hp
      · rw [if_neg (fun q => z q.2), if_neg (fun q => z q.2)] at hp
        rw [if_neg z, if_neg z]
        exact hp
    · by_cases w : ¬ kd p < 1 ∧ ¬ 4 < kd p
      · rw [if_pos w]
        unfold ir_aS
        have e : (fun m => decide (¬ kd p < 1 ∧ ¬ 4 < kd p) && ir_cp lo hm bs (xs p) p m) = ir_cp lo hm bs (xs p) p := by
          funext m
          rw [decide_eq_true w, Bool.true_and]
        rw [e]
      · rw [if_neg w]
        exact ir_ea_f (fun i => by rw [decide_eq_false w, Bool.false_and]) c 0 st
  · have e0 : md = 0 := by omega
    rw [if_neg (fun q => m1 q.1), if_neg (fun q => m1 q.1), ← h0 e0] at hp
    exact br_t (by rw [e0]; rfl) hp
theorem ir_y_312 {md p t : Nat} {stx : Nat → Int32} (S : ir_SS nl vl ol c cl rc kd xs ys zs nx nd dm lo wr sp hm bs fa cr ic lk dY lY) (hmd : md < 2) (hpc : p < c) (htc : t < c) (hmk : md = 1 → kd p = 5 → ¬ mk p = 0 → ¬ cr p < 0)
    (h0 : md = 0 → ir_sM md kd hm p (upd st (8 * md + 1) (nI t)) = upd stx (8 * md + 1) (nI t))
    (h1 : md = 1 → (if kd p = 5 then ir_sL 1 mk p (if ¬ kd p < 1 ∧ ¬ 4 < kd p then ir_aS lo hm bs xs c p (ir_sM md kd hm p (upd st (8 * md + 1) (nI t))) else ir_sM md kd hm p (upd st (8 * md + 1) (nI t))) else (if ¬ kd p < 1 ∧ ¬ 4 < kd p then ir_aS lo hm bs xs c p (ir_sM md kd hm p (upd st (8 * md + 1) (nI t))) else ir_sM md kd hm p (upd st (8 * md + 1) (nI t)))) = upd stx (8 * md + 1) (nI t))
    (hp : post (nI nl, nI vl, nI ol, nI c, cl, nd, it, va, ir_tS lo wr hm bs c md t p stx, ou, lk, ir_tM lo xs ys fa cr ic va md t p mk, dY, lY, se)) : wY_step_312 post (nI md) (nI (8 * md)) (nI p) (kd p) (nI t) (nI nl) (nI vl) (nI ol) (nI c) cl nd it va st ou lk mk dY lY se := by
  have c16 := ir_s_c S
  have i1 : nI (8 * md) + 1 = nI (8 * md + 1) := nI_1 (8 * md)
  have i4 : nI (8 * md) + 4 = nI (8 * md + 4) := nI_add (8 * md) 4
  unfold wY_step_312
  rw [i1, nI_clamp (show 8 * md + 1 < 2 ^ 31 by omega), nI_clamp (show p < 2 ^ 31 by omega)]
  refine ⟨vp_in_nI (by omega) (by omega), nm_e ?_⟩
  have go : ∀ st', st' = ir_sM md kd hm p (upd st (8 * md + 1) (nI t)) → wY_step_353 post (nI md) (nI (8 * md)) (nI p) (kd p) (nI t) (nI nl) (nI vl) (nI ol) (nI c) cl nd it va st' ou lk mk dY lY se := by
    intro st' e
    subst e
    exact ir_y_353 S hmd hpc htc hmk h0 h1 hp
  have j341 : kd p = 4 → (md = 0 ∨ hm p < 0) → wY_step_341 post (nI md) (nI (8 * md)) (nI p) (kd p) (nI t) (nI nl) (nI vl) (nI ol) (nI c) cl nd it va (upd st (8 * md + 1) (nI t)) ou lk mk dY lY se := by
    intro k4 z
    unfold wY_step_341
    rw [i4, nI_clamp (show 8 * md + 4 < 2 ^ 31 by omega)]
    refine ⟨vp_in_nI (by omega) (by omega), vp_in_nI (by omega) (by omega), nm_e (go _ ?_)⟩
    unfold ir_sM
    rw [if_pos ⟨k4, z⟩]
  refine br_c (fun k4 => br_c (fun z => j341 k4 (Or.inl (ir_nI_inj (b := 0) (by omega) (by omega) z))) (fun z => ⟨vp_in_nI (by omega) (by omega), ?_⟩)) (fun k4 => go _ ?_)
  · rw [(ir_s_K S p hpc).1 k4]
    refine br_c (fun w => go _ ?_) (fun w => j341 k4 (Or.inr ?_))
    · unfold ir_sM
      rw [if_neg (fun q => q.2.elim (fun e => z (by rw [e]; rfl)) (fun e => Int32.not_lt.mpr w e))]
    · exact Int32.not_le.mp w
  · unfold ir_sM
    rw [if_neg (fun q => k4 q.1)]
theorem ir_y_136w {md p t x y z : Nat} (S : ir_SS nl vl ol c cl rc kd xs ys zs nx nd dm lo wr sp hm bs fa cr ic lk dY lY) (hmd : md < 2) (hpc : p < c) (htc : t < c) (hx8 : x < 8) (hy : ys p = nI y) (hy8 : y < 8) (hz : (kd p = 3 ∨ kd p = 4) → zs p = nI z ∧ z < 8) (hk : kd p = 1 ∨ kd p = 2 ∨ kd p = 3 ∨ kd p = 4) (ht : nx p = nI t)
    (hp : post (nI nl, nI vl, nI ol, nI c, cl, nd, it, upd va (8 * md + x) (ir_vv md kd ys zs va p), ir_tS lo wr hm bs c md t p (if md = 1 then ir_aS lo hm bs xs c p (ir_sM md kd hm p st) else ir_sM md kd hm p st), ou, lk, ir_tM lo xs ys fa cr ic (upd va (8 * md + x) (ir_vv md kd ys zs va p)) md t p mk, dY, lY, se)) :
    wY_step_136 post (nI md) (nI (8 * md)) (nI p) (kd p) (nI (8 * md + x)) (nI (8 * md + y)) (zs p) (nx p) (nI nl) (nI vl) (nI ol) (nI c) cl nd it va st ou lk mk dY lY se := by
  have k5 : ¬ kd p = 5 := by rcases hk with k | k | k | k <;> rw [k] <;> decide
  have k6 : ¬ kd p = 6 := by rcases hk with k | k | k | k <;> rw [k] <;> decide
  have kw : ¬ kd p < 1 ∧ ¬ 4 < kd p := by rcases hk with k | k | k | k <;> rw [k] <;> decide
  have ny : (ys p).toNatClampNeg = y := by rw [hy]; exact nI_clamp (by omega)
  have vx : vp_in (nI (8 * md + x)) 16 := vp_in_nI (by omega) (by omega)
  have vy : vp_in (nI (8 * md + y)) 16 := vp_in_nI (by omega) (by omega)
  have cx : (nI (8 * md + x)).toNatClampNeg = 8 * md + x := nI_clamp (by omega)
  have cy : (nI (8 * md + y)).toNatClampNeg = 8 * md + y := nI_clamp (by omega)
  have K : wY_step_312 post (nI md) (nI (8 * md)) (nI p) (kd p) (nx p) (nI nl) (nI vl) (nI ol) (nI c) cl nd it (upd va (8 * md + x) (ir_vv md kd ys zs va p)) st ou lk mk dY lY se := by
    rw [ht]
    refine ir_y_312 S hmd hpc htc (fun _ q => absurd q k5) (fun e0 => ?_) (fun e1 => ?_) hp
    · rw [ir_sMu, if_neg (show ¬ md = 1 by omega)]
    · rw [if_neg k5, if_pos kw, ir_sMu, if_pos e1]
      unfold ir_aS
      rw [ir_ea_u (by omega)]
  unfold ir_vv at K
  rw [ny] at K
  by_cases k1 : kd p = 1
  · have k2 : ¬ kd p = 2 := by rw [k1]; decide
    have k3 : ¬ kd p = 3 := by rw [k1]; decide
    have k4 : ¬ kd p = 4 := by rw [k1]; decide
    rw [if_pos k1] at K
    unfold wY_step_136
    rw [cx]
    exact br_t k1 ⟨vx, nm_e (br_f k2 (br_f k3 (br_f k4 (br_f k6 (br_f k6 (br_f k5 K))))))⟩
  · rw [if_neg k1] at K
    by_cases k2 : kd p = 2
    · have k3 : ¬ kd p = 3 := by rw [k2]; decide
      have k4 : ¬ kd p = 4 := by rw [k2]; decide
      rw [if_pos k2] at K
      refine br_f k1 ?_
      unfold wY_step_151
      rw [cx, cy]
      exact br_t k2 ⟨vy, vx, nm_e (br_f k3 (br_f k4 (br_f k6 (br_f k6 (br_f k5 K)))))⟩
    · rw [if_neg k2] at K
      have k34 : kd p = 3 ∨ kd p = 4 := by
        rcases hk with k | k | k
        · exact absurd k k1
        · exact absurd k k2
        · exact k
      obtain ⟨ez, hz8⟩ := hz k34
      have vz : vp_in (nI (8 * md + z)) 16 := vp_in_nI (by omega) (by omega)
      rw [ez, nI_clamp (show z < 2 ^ 31 by omega)] at K
      refine br_f k1 (br_f k2 ?_)
      by_cases k3 : kd p = 3
      · have k4 : ¬ kd p = 4 := by rw [k3]; decide
        rw [if_pos k3] at K
        unfold wY_step_174
        rw [cx, cy, ez, nI_add, nI_clamp (show 8 * md + z < 2 ^ 31 by omega)]
        exact br_t k3 ⟨vy, vz, vx, nm_e (br_f k4 (br_f k6 (br_f k6 (br_f k5 K))))⟩
      · rw [if_neg k3] at K
        have k4 : kd p = 4 := k34.resolve_left k3
        refine br_f k3 ?_
        unfold wY_step_204
        rw [cx, cy, ez, nI_add, nI_clamp (show 8 * md + z < 2 ^ 31 by omega)]
        exact br_t k4 ⟨vy, vz, vx, nm_e (br_f k6 (br_f k6 (br_f k5 K)))⟩
theorem ir_y_136o {md p t x q : Nat} {Y6 : Int32} (S : ir_SS nl vl ol c cl rc kd xs ys zs nx nd dm lo wr sp hm bs fa cr ic lk dY lY) (hmd : md < 2) (hpc : p < c) (htc : t < c) (hx8 : x < 8) (k6 : kd p = 6) (ht : nx p = nI t) (hq : st (8 * md + 3) = nI q) (hq32 : q < 32)
    (hp : post (nI nl, nI vl, nI ol, nI c, cl, nd, it, va, ir_tS lo wr hm bs c md t p (upd st (8 * md + 3) (nI q + 1)), upd ou (32 * md + q) (va (8 * md + x)), lk, ir_tM lo xs ys fa cr ic va md t p mk, dY, lY, se)) :
    wY_step_136 post (nI md) (nI (8 * md)) (nI p) (kd p) (nI (8 * md + x)) Y6 (zs p) (nx p) (nI nl) (nI vl) (nI ol) (nI c) cl nd it va st ou lk mk dY lY se := by
  have k1 : ¬ kd p = 1 := by rw [k6]; decide
  have k2 : ¬ kd p = 2 := by rw [k6]; decide
  have k3 : ¬ kd p = 3 := by rw [k6]; decide
  have k4 : ¬ kd p = 4 := by rw [k6]; decide
  have k5 : ¬ kd p = 5 := by rw [k6]; decide
  have kw : ¬ (¬ kd p < 1 ∧ ¬ 4 < kd p) := by rw [k6]; decide
  have i3 : nI (8 * md) + 3 = nI (8 * md + 3) := nI_add (8 * md) 3
  have v3 : vp_in (nI (8 * md + 3)) 16 := vp_in_nI (by omega) (by omega)
  have K : wY_step_312 post (nI md) (nI (8 * md)) (nI p) (kd p) (nx p) (nI nl) (nI vl) (nI ol) (nI c) cl nd it va (upd st (8 * md + 3) (nI q + 1)) (upd ou (32 * md + q) (va (8 * md + x))) lk mk dY lY se := by
    rw [ht]
    have sm : ∀ f, ir_sM md kd hm p f = f := fun f => by
      unfold ir_sM
      rw [if_neg (fun w => k4 w.1)]
    refine ir_y_312 S hmd hpc htc (fun _ w => absurd w k5) (fun e0 => sm _) (fun e1 => ?_) hp
    rw [if_neg k5, if_neg kw, sm]
  refine br_f k1 (br_f k2 (br_f k3 (br_f k4 ?_)))
  unfold wY_step_234
  rw [i3, nI_clamp (show 8 * md + 3 < 2 ^ 31 by omega), nI_clamp (show 8 * md + x < 2 ^ 31 by omega), hq, ir_32m, nI_clamp (show 32 * md + q < 2 ^ 31 by omega)]
  refine br_t k6 ⟨v3, vp_in_nI (by omega) (by omega), vp_in_nI (by omega) (by omega), nm_e ?_⟩
  unfold wY_step_266
  rw [i3, nI_clamp (show 8 * md + 3 < 2 ^ 31 by omega), hq]
  exact br_t k6 ⟨v3, v3, nm_e (br_f k5 K)⟩
theorem ir_y_136l {md p t x y : Nat} (S : ir_SS nl vl ol c cl rc kd xs ys zs nx nd dm lo wr sp hm bs fa cr ic lk dY lY) (hmd : md < 2) (hpc : p < c) (htc : t < c) (hx8 : x < 8) (hy8 : y < 8) (k5 : kd p = 5) (hmk : md = 1 → ¬ mk p = 0 → ¬ cr p < 0)
    (ht : (if va (8 * md + y) ≤ va (8 * md + x) then zs p else nx p) = nI t)
    (hp : post (nI nl, nI vl, nI ol, nI c, cl, nd, it, va, ir_tS lo wr hm bs c md t p (ir_sL md mk p st), ou, lk, ir_tM lo xs ys fa cr ic va md t p mk, dY, lY, se)) :
    wY_step_136 post (nI md) (nI (8 * md)) (nI p) (kd p) (nI (8 * md + x)) (nI (8 * md + y)) (zs p) (nx p) (nI nl) (nI vl) (nI ol) (nI c) cl nd it va st ou lk mk dY lY se := by
  have k1 : ¬ kd p = 1 := by rw [k5]; decide
  have k2 : ¬ kd p = 2 := by rw [k5]; decide
  have k3 : ¬ kd p = 3 := by rw [k5]; decide
  have k4 : ¬ kd p = 4 := by rw [k5]; decide
  have k6 : ¬ kd p = 6 := by rw [k5]; decide
  have kw : ¬ (¬ kd p < 1 ∧ ¬ 4 < kd p) := by rw [k5]; decide
  have K : wY_step_312 post (nI md) (nI (8 * md)) (nI p) (kd p) (nI t) (nI nl) (nI vl) (nI ol) (nI c) cl nd it va st ou lk mk dY lY se := by
    have sm : ∀ f, ir_sM md kd hm p f = f := fun f => by
      unfold ir_sM
      rw [if_neg (fun w => k4 w.1)]
    refine ir_y_312 S hmd hpc htc (fun e _ => hmk e) (fun e0 => ?_) (fun e1 => ?_) hp
    · rw [sm, ← ir_sLu]
      unfold ir_sL
      rw [if_neg (fun w => absurd w.1 (by omega))]
    · rw [if_pos k5, if_neg kw, sm, ← ir_sLu, e1]
  refine br_f k1 (br_f k2 (br_f k3 (br_f k4 (br_f k6 (br_f k6 ?_)))))
  unfold wY_step_285
  rw [nI_clamp (show 8 * md + x < 2 ^ 31 by omega), nI_clamp (show 8 * md + y < 2 ^ 31 by omega)]
  refine br_t k5 ⟨vp_in_nI (by omega) (by omega), vp_in_nI (by omega) (by omega), br_c (fun z => ?_) (fun z => ?_)⟩
  · rw [if_neg (Int32.not_le.mpr z)] at ht
    rw [ht]
    exact K
  · rw [if_pos (Int32.not_lt.mp z)] at ht
    rw [ht]
    exact K
theorem ir_y_step {md p q x y : Nat} (S : ir_SS nl vl ol c cl rc kd xs ys zs nx nd dm lo wr sp hm bs fa cr ic lk dY lY) (hmd : md < 2) (hpc : p < c) (hq32 : q ≤ ol) (hpl : st (8 * md + 1) = nI p) (hq : st (8 * md + 3) = nI q) (hx : xs p = nI x) (hy : ys p = nI y)
    (h0 : kd p = 0 → post (nI nl, nI vl, nI ol, nI c, cl, nd, it, va, upd (upd st (8 * md + 2) (st (8 * md + 2) + 1)) (8 * md) 2, ou, lk, mk, dY, lY, se))
    (h6 : kd p = 6 → ol ≤ q → post (nI nl, nI vl, nI ol, nI c, cl, nd, it, va, upd (upd st (8 * md + 2) (st (8 * md + 2) + 1)) (8 * md) 3, ou, lk, mk, dY, lY, se))
    (h136 : ¬ kd p = 0 → (kd p = 6 → q < ol) → wY_step_136 post (nI md) (nI (8 * md)) (nI p) (kd p) (nI (8 * md + x)) (nI (8 * md + y)) (zs p) (nx p) (nI nl) (nI vl) (nI ol) (nI c) cl nd it va (upd st (8 * md + 2) (st (8 * md + 2) + 1)) ou lk mk dY lY se) : wpY_step post (nI nl, nI vl, nI ol, nI c, cl, nd, it, va, st, ou, lk, mk, dY, lY, se) (nI md) := by
  have c16 := ir_s_c S
  have o32 := ir_s_o S
  have hN := ir_s_N S
  have i0 : nI (8 * md) + 0 = nI (8 * md) := nI_add (8 * md) 0
  have i1 : nI (8 * md) + 1 = nI (8 * md + 1) := nI_1 (8 * md)
  have i2 : nI (8 * md) + 2 = nI (8 * md + 2) := nI_add (8 * md) 2
  have i3 : nI (8 * md) + 3 = nI (8 * md + 3) := nI_add (8 * md) 3
  have v : ∀ j, j < 8 → vp_in (nI (8 * md + j)) 16 := fun j hj => vp_in_nI (by omega) (by omega)
  have j117 : ∀ s, s = upd st (8 * md + 2) (st (8 * md + 2) + 1) → (kd p = 0 ∨ (kd p = 6 ∧ ol ≤ q)) → wY_step_117 post (nI (8 * md)) (kd p) (nI nl) (nI vl) (nI ol) (nI c) cl nd it va s ou lk mk dY lY se := by
    intro s es z
    subst es
    unfold wY_step_117
    rw [i0, nI_clamp (show 8 * md < 2 ^ 31 by omega)]
    refine br_c (fun k0 => ⟨v 0 (by decide), nm_e (h0 k0)⟩) (fun k0 => ⟨v 0 (by decide), nm_e ?_⟩)
    have w := z.resolve_left k0
    exact h6 w.1 w.2
  refine nm_r (ir_8m' md) ?_
  rw [i1, i2, i3, nI_clamp (show 8 * md + 1 < 2 ^ 31 by omega), nI_clamp (show 8 * md + 2 < 2 ^ 31 by omega), nI_clamp (show 8 * md + 3 < 2 ^ 31 by omega)]
  refine ⟨v 1 (by decide), nm_r hpl ?_⟩
  rw [ir_n0 hN (by omega), ir_n1 hN (by omega), ir_n2 hN (by omega), ir_n3 hN (by omega), ir_n4 hN (by omega), hx, hy, nI_add, nI_add]
  refine ⟨ir_v5 (j := 0) (by omega) (by decide), nm_e ⟨ir_v5 (j := 1) (by omega) (by decide), nm_e ⟨ir_v5 (j := 2) (by omega) (by decide), nm_e ⟨ir_v5 (j := 3) (by omega) (by decide), nm_e ⟨ir_v5 (j := 4) (by omega) (by decide), nm_e ⟨v 2 (by decide), v 2 (by decide), nm_e ?_⟩⟩⟩⟩⟩⟩
  rw [pk_un (show 8 * md + 3 ≠ 8 * md + 2 by omega), hq]
  refine br_c (fun z => j117 _ rfl (Or.inl z)) (fun z => br_c (fun w => ⟨v 3 (by decide), br_c (fun g => h136 z fun _ => ?_) (fun g => j117 _ rfl (Or.inr ⟨w, ?_⟩))⟩) (fun w => h136 z fun w' => absurd w' w))
  · rw [nI_ltI (by omega) (by omega)] at g
    exact g
  · rw [nI_ltI (by omega) (by omega)] at g
    omega
end
end
section
/-! one step, side by side -/
def ir_DV (c vl ol : Nat) (kd xs ys zs nx hm bs fa cr ic va st cd mk : Nat → Int32) : Prop :=
  (∀ md, md < 2 → ∃ p q, p < c ∧ ir_R (ir_E c kd zs nx) p ∧ st (8 * md + 1) = nI p ∧ q ≤ ol ∧ st (8 * md + 3) = nI q) ∧
  (¬ st 8 = 0 → ∀ p, p < c → st 9 = nI p → ir_J1 c vl kd xs ys zs nx hm bs fa (fun _ => True) p va cd ∧ ir_J2 c vl kd xs ys zs nx hm bs fa cr ic (fun _ => True) p va mk)
section
variable {nl vl ol c : Nat} {cl rc : Int32} {kd xs ys zs nx nd dm lo wr sp hm bs fa cr ic lk dY lY va va' st cd mk : Nat → Int32} {Q : Nat → Prop} {p t md : Nat}
theorem ir_J1c (h : ∀ j, va' (8 + j) = va (8 + j)) (I : ir_J1 c vl kd xs ys zs nx hm bs fa Q p va cd) : ir_J1 c vl kd xs ys zs nx hm bs fa Q p va' cd := by
  intro m H b f a1 a2 a3 a4
  rw [h b, h f]
  exact I m H b f a1 a2 a3 a4
theorem ir_J2c (h : ∀ j, va' (8 + j) = va (8 + j)) (I : ir_J2 c vl kd xs ys zs nx hm bs fa cr ic Q p va mk) : ir_J2 c vl kd xs ys zs nx hm bs fa cr ic Q p va' mk := by
  intro k a1 a2
  refine ⟨(I k a1 a2).1, fun a3 a4 m w H b f y C => ?_⟩
  rw [h b, h f, h y]
  exact (I k a1 a2).2 a3 a4 m w H b f y C
theorem ir_tS_o {j : Nat} (h1 : j ≠ 8 * md + 1) (h2 : j ≠ 13) : ir_tS lo wr hm bs c md t p st j = st j := by
  unfold ir_tS ir_eS
  by_cases z : md = 1 ∧ ¬ lo t = 0 ∧ bt (lo t) p = false
  · rw [if_pos z, ir_ea_o h2, pk_un h1]
  · rw [if_neg z, pk_un h1]
theorem ir_tS_p (hmd : md < 2) : ir_tS lo wr hm bs c md t p st (8 * md + 1) = nI t := by
  unfold ir_tS ir_eS
  by_cases z : md = 1 ∧ ¬ lo t = 0 ∧ bt (lo t) p = false
  · rw [if_pos z, ir_ea_o (by omega), pk_us]
  · rw [if_neg z, pk_us]
theorem ir_aS_o {j : Nat} (h : j ≠ 14) : ir_aS lo hm bs xs c p st j = st j := ir_ea_o h _ _ _
theorem ir_sM_o {j : Nat} (h : j ≠ 8 * md + 4) : ir_sM md kd hm p st j = st j := by
  unfold ir_sM
  split
  · exact pk_un h
  · rfl
theorem ir_sL_o {j : Nat} (h : j ≠ 15) : ir_sL md mk p st j = st j := by
  unfold ir_sL
  split
  · exact pk_un h
  · rfl
/-- the loop t may be entered from p -/
theorem ir_finish (S : ir_SS nl vl ol c cl rc kd xs ys zs nx nd dm lo wr sp hm bs fa cr ic lk dY lY) (e : ir_E c kd zs nx p t) (r : ir_R (ir_E c kd zs nx) p) (I : ir_J1 c vl kd xs ys zs nx hm bs fa (fun H => ir_Lp (ir_E c kd zs nx) H p) t va cd) (J : ir_J2 c vl kd xs ys zs nx hm bs fa cr ic (fun H => ir_Lp (ir_E c kd zs nx) H p) t va mk) :
    ir_J1 c vl kd xs ys zs nx hm bs fa (fun _ => True) t va (ir_tC lo hm bs fa va c 1 t p cd) ∧ ir_J2 c vl kd xs ys zs nx hm bs fa cr ic (fun _ => True) t va (ir_tM lo xs ys fa cr ic va 1 t p mk) := by
  have c16 := ir_s_c S
  have v8 := ir_s_v S
  have htc : t < c := e.2.1
  unfold ir_tC ir_tM
  by_cases z : (1 = 1 ∧ ¬ lo t = 0 ∧ bt (lo t) p = false)
  · rw [if_pos z, if_pos z]
    have hQ : ∀ H, ir_Lp (ir_E c kd zs nx) H t → H = t ∨ ir_Lp (ir_E c kd zs nx) H p := by
      intro H l
      rcases Classical.em (ir_Lp (ir_E c kd zs nx) H p) with g | g
      · exact Or.inr g
      · exact Or.inl (ir_Lpe e r l g).symm
    refine ⟨ir_ent1 (by omega) hQ htc (fun m b f hmc h1 h2 h3 hb hf => ?_) (fun m hmc h1 => ?_) I, ir_ent2 hQ (fun h1 => ?_) (fun h h1 => ?_) J⟩
    · unfold ir_eC
      rw [ir_cc_s, if_pos ⟨Nat.zero_le _, by omega, decide_eq_true h1⟩, h2, h3, nI_clamp (by omega), nI_clamp (by omega)]
    · unfold ir_eC
      rw [ir_cc_s, if_neg (fun g => h1 (decide_eq_true_eq.mp g.2.2))]
    · unfold ir_eM at h1
      rcases ir_s_C S htc with q | ⟨m, w, H, b, f, y, C⟩
      · rw [if_pos (show cr t < 0 by rw [q]; decide)] at h1
        exact absurd q (J t htc h1).1
      · have n0 : ¬ cr t < 0 := by rw [C.1]; exact nI_pos (by have := C.2.1; omega)
        rw [if_neg n0, pk_us] at h1
        have cdn := ir_rvC h1
        refine ⟨by rw [C.1]; exact fun g => ir_m1n (by have := C.2.1; omega) g.symm, fun m' w' H' b' f' y' C' => ?_⟩
        obtain ⟨c1, c2, c3, c4, c5, c6, c7, c8, _⟩ := C'
        obtain ⟨h1', h2', h3', h4', h5', h6', _⟩ := c3
        rw [c1, nI_clamp (show m' < 2 ^ 31 by omega), h4', c6, c7, nI_clamp (show b' < 2 ^ 31 by omega), nI_clamp (show y' < 2 ^ 31 by omega), nI_clamp (show f' < 2 ^ 31 by omega)] at cdn
        exact cdn
    · unfold ir_eM
      split
      · rfl
      · exact pk_un h1
  · rw [if_neg z, if_neg z]
    have hQ : ∀ H, ir_Lp (ir_E c kd zs nx) H t → ir_Lp (ir_E c kd zs nx) H p := by
      intro H l
      refine Classical.byContradiction fun g => z ?_
      have q := ir_Lpe e r l g
      subst q
      exact ⟨rfl, (ir_s_l0 S).mpr ((ir_s_L S t t).mpr l), ir_nt fun w => g ((ir_s_L S t p).mp w)⟩
    exact ⟨ir_fin1 hQ I, ir_fin2 hQ J⟩
/-- the invariant behind a step that goes on -/
theorem ir_DVs {stx cdx : Nat → Int32} {q : Nat} (S : ir_SS nl vl ol c cl rc kd xs ys zs nx nd dm lo wr sp hm bs fa cr ic lk dY lY) (hmd : md < 2) (D : ir_DV c vl ol kd xs ys zs nx hm bs fa cr ic va st cd mk) (e : ir_E c kd zs nx p t) (r : ir_R (ir_E c kd zs nx) p) (hq : q ≤ ol)
    (s1 : ∀ j, j ≠ 8 * md + 2 → j ≠ 8 * md + 3 → j ≠ 8 * md + 4 → j ≠ 14 → j ≠ 15 → stx j = st j) (s3 : stx (8 * md + 3) = nI q)
    (h0 : md = 0 → (∀ j, va' (8 + j) = va (8 + j)) ∧ cdx = cd)
    (h1 : md = 1 → ir_J1 c vl kd xs ys zs nx hm bs fa (fun H => ir_Lp (ir_E c kd zs nx) H p) t va' cdx ∧ ir_J2 c vl kd xs ys zs nx hm bs fa cr ic (fun H => ir_Lp (ir_E c kd zs nx) H p) t va' mk) :
    ir_DV c vl ol kd xs ys zs nx hm bs fa cr ic va' (ir_tS lo wr hm bs c md t p stx) (ir_tC lo hm bs fa va' c md t p cdx) (ir_tM lo xs ys fa cr ic va' md t p mk) := by
  refine ⟨fun md' hmd' => ?_, fun ne p' hp' ep' => ?_⟩
  · by_cases z : md' = md
    · subst z
      refine ⟨t, q, e.2.1, ir_R1 r e, ir_tS_p hmd', hq, ?_⟩
      rw [ir_tS_o (by omega) (by omega)]
      exact s3
    · obtain ⟨p0, q0, a1, a2, a3, a4, a5⟩ := D.1 md' hmd'
      refine ⟨p0, q0, a1, a2, ?_, a4, ?_⟩
      · rw [ir_tS_o (by omega) (by omega), s1 _ (by omega) (by omega) (by omega) (by omega) (by omega)]
        exact a3
      · rw [ir_tS_o (by omega) (by omega), s1 _ (by omega) (by omega) (by omega) (by omega) (by omega)]
        exact a5
  · have c16 := ir_s_c S
    rw [ir_tS_o (by omega) (by omega), s1 8 (by omega) (by omega) (by omega) (by omega) (by omega)] at ne
    by_cases z : md = 1
    · subst z
      have e2 : ir_tS lo wr hm bs c 1 t p stx 9 = nI t := ir_tS_p (md := 1) (by decide)
      have et : p' = t := ir_nI_inj (by omega) (by have := e.2.1; omega) (ep'.symm.trans e2)
      subst et
      exact ir_finish S e r (h1 rfl).1 (h1 rfl).2
    · have z0 : md = 0 := by omega
      subst z0
      rw [ir_tS_o (by omega) (by omega), s1 9 (by omega) (by omega) (by omega) (by omega) (by omega)] at ep'
      have I := D.2 ne p' hp' ep'
      have q := h0 rfl
      unfold ir_tC ir_tM
      rw [if_neg (fun g => absurd g.1 (by decide)), if_neg (fun g => absurd g.1 (by decide)), q.2]
      exact ⟨ir_J1c q.1 I.1, ir_J2c q.1 I.2⟩
/-- the invariant behind a step that ends the run -/
theorem ir_DVe {x : Int32} (hmd : md < 2) (D : ir_DV c vl ol kd xs ys zs nx hm bs fa cr ic va st cd mk) (hx : md = 1 → ¬ st 8 = 0) : ir_DV c vl ol kd xs ys zs nx hm bs fa cr ic va (upd (upd st (8 * md + 2) (st (8 * md + 2) + 1)) (8 * md) x) cd mk := by
  refine ⟨fun md' hmd' => ?_, fun ne p' hp' ep' => ?_⟩
  · obtain ⟨p0, q0, a1, a2, a3, a4, a5⟩ := D.1 md' hmd'
    refine ⟨p0, q0, a1, a2, ?_, a4, ?_⟩
    · rw [pk_un (by omega), pk_un (by omega)]
      exact a3
    · rw [pk_un (by omega), pk_un (by omega)]
      exact a5
  · rw [pk_un (by omega), pk_un (by omega)] at ep'
    refine D.2 ?_ p' hp' ep'
    by_cases z : md = 1
    · exact hx z
    · rw [pk_un (by omega), pk_un (by omega)] at ne
      exact ne
end
section
variable {nl vl ol c : Nat} {cl rc : Int32} {kd xs ys zs nx su pr dm lo wr sp hm bs fa cr ic it va st ou cd mk nd lk dY lY se : Nat → Int32}
theorem ir_step {md : Nat} (S : ir_SS nl vl ol c cl rc kd xs ys zs nx nd dm lo wr sp hm bs fa cr ic lk dY lY) (hmd : md < 2) (D : ir_DV c vl ol kd xs ys zs nx hm bs fa cr ic va st cd mk) (hrun : st (8 * md) = 1) :
    ∃ va' st' ou' cd' mk', ir_DV c vl ol kd xs ys zs nx hm bs fa cr ic va' st' cd' mk' ∧ (∀ post : SX → Prop, post (nI nl, nI vl, nI ol, nI c, cl, rc, kd, xs, ys, zs, nx, su, pr, dm, lo, wr, sp, hm, bs, fa, cr, ic, it, va', st', ou', cd', mk') → wpX_step post (nI nl, nI vl, nI ol, nI c, cl, rc, kd, xs, ys, zs, nx, su, pr, dm, lo, wr, sp, hm, bs, fa, cr, ic, it, va, st, ou, cd, mk) (nI md)) ∧ (∀ post : SY → Prop, post (nI nl, nI vl, nI ol, nI c, cl, nd, it, va', st', ou', lk, mk', dY, lY, se) → wpY_step post (nI nl, nI vl, nI ol, nI c, cl, nd, it, va, st, ou, lk, mk, dY, lY, se) (nI md)) := by
  have c16 := ir_s_c S
  have v8 := ir_s_v S
  have o32 := ir_s_o S
  obtain ⟨p, q, hpc, rp, epl, hq, eq⟩ := D.1 md hmd
  obtain ⟨x, y, hxv, hyv, ex, ey⟩ := ir_s_xy S hpc
  have hne : md = 1 → ¬ st 8 = 0 := by
    intro e
    subst e
    rw [show (8 : Nat) = 8 * 1 by rfl, hrun]
    decide
  have hJ : md = 1 → ir_J1 c vl kd xs ys zs nx hm bs fa (fun _ => True) p va cd ∧ ir_J2 c vl kd xs ys zs nx hm bs fa cr ic (fun _ => True) p va mk := by
    intro e
    refine D.2 (hne e) p hpc ?_
    subst e
    exact epl
  have nz : ∀ {a : Nat}, a < c → ¬ nI a = -1 := fun h e => ir_m1n (by omega) e.symm
  -- the successor along NEXT
  by_cases k0 : kd p = 0
  · exact ⟨va, _, ou, cd, mk, ir_DVe hmd D hne, fun post hp => ir_x_step hmd c16 o32 hpc hq epl eq (fun _ => hp) (fun k6 => absurd (k0.symm.trans k6) (by decide)) (fun n => absurd k0 n),
      fun post hp => ir_y_step S hmd hpc hq epl eq ex ey (fun _ => hp) (fun k6 => absurd (k0.symm.trans k6) (by decide)) (fun n => absurd k0 n)⟩
  obtain ⟨tn, htn, etn⟩ := (S.2.2.2.1 p hpc).1 k0
  have En : ir_E c kd zs nx p tn := ⟨hpc, htn, Or.inl ⟨k0, etn⟩⟩
  by_cases k6 : kd p = 6
  · by_cases full : ol ≤ q
    · exact ⟨va, _, ou, cd, mk, ir_DVe hmd D hne, fun post hp => ir_x_step hmd c16 o32 hpc hq epl eq (fun z => absurd z k0) (fun _ _ => hp) (fun _ n => absurd (n k6) (by omega)),
        fun post hp => ir_y_step S hmd hpc hq epl eq ex ey (fun z => absurd z k0) (fun _ _ => hp) (fun _ n => absurd (n k6) (by omega))⟩
    · have eq1 : upd st (8 * md + 2) (st (8 * md + 2) + 1) (8 * md + 3) = nI q := by rw [pk_un (by omega)]; exact eq
      refine ⟨va, ir_tS lo wr hm bs c md tn p (upd (upd st (8 * md + 2) (st (8 * md + 2) + 1)) (8 * md + 3) (nI q + 1)), upd ou (32 * md + q) (va (8 * md + x)), ir_tC lo hm bs fa va c md tn p cd, ir_tM lo xs ys fa cr ic va md tn p mk, ?_, fun post hp => ?_, fun post hp => ?_⟩
      · refine ir_DVs (q := q + 1) S hmd D En rp (by omega) (fun j j2 j3 j4 j5 j6 => ?_) ?_ (fun _ => ⟨fun _ => rfl, rfl⟩) (fun e => ⟨ir_law1n (hJ e).1, ir_law2n En (fun k5 => absurd (k5.symm.trans k6) (by decide)) (hJ e).2⟩)
        · rw [pk_un j3, pk_un j2]
        · rw [pk_us, nI_1]
      · refine ir_x_step hmd c16 o32 hpc hq epl eq (fun z => absurd z k0) (fun _ g => absurd g full) (fun _ _ => ?_)
        exact ir_x_st81 hmd c16 hpc htn (ir_s_h1 S htn) (ir_s_xy8 S htn) (ir_s_cr S htn) (fun post' hp' => ir_x_ex_out hmd c16 hpc k6 ex (by omega) eq1 (by omega) (by rw [etn]; exact hp')) hp
      · refine ir_y_step S hmd hpc hq epl eq ex ey (fun z => absurd z k0) (fun _ g => absurd g full) (fun _ _ => ?_)
        exact ir_y_136o S hmd hpc htn (by omega) k6 etn eq1 (by omega) hp
  by_cases k5 : kd p = 5
  · -- the comparison
    obtain ⟨tz, htz, etz⟩ := (S.2.2.2.1 p hpc).2 k5
    have hmk : md = 1 → ¬ mk p = 0 → ¬ cr p < 0 := by
      intro e z
      rcases ir_s_C S hpc with w | ⟨m, w, H, b, f, y, C⟩
      · exact absurd w ((hJ e).2 p hpc z).1
      · rw [C.1]
        exact nI_pos (by have := C.2.1; omega)
    have hmk2 : md = 1 → ¬ mk p = 0 → ∃ m f, m < c ∧ f < 8 ∧ cr p = nI m ∧ fa m = nI f ∧ (va (8 + y) * va (8 + f) ≤ cd m ↔ va (8 + y) ≤ va (8 + x)) := by
      intro e z
      rcases ir_s_C S hpc with w | ⟨m, w, H, b, f, y', C⟩
      · exact absurd w ((hJ e).2 p hpc z).1
      · have mv := ir_moved hpc C (ir_Lph C.2.2.2.2.2.2.2.2.2.2.2.2.1) z (hJ e).1 (hJ e).2
        obtain ⟨c1, c2, c3, c4, c5, c6, c7, c8, _⟩ := C
        obtain ⟨h1, h2, h3, h4, h5, h6, _⟩ := c3
        have eb : b = x := ir_nI_inj (by omega) (by omega) (c6.symm.trans ex)
        have ey' : y' = y := ir_nI_inj (by omega) (by omega) (c7.symm.trans ey)
        subst eb ey'
        exact ⟨m, f, c2, by omega, c1, h4, mv⟩
    have Et : ∃ t, t < c ∧ (if va (8 * md + y) ≤ va (8 * md + x) then zs p else nx p) = nI t ∧ ir_E c kd zs nx p t ∧ (va (8 * md + x) < va (8 * md + y) ∨ zs p = nI t) := by
      by_cases g : va (8 * md + y) ≤ va (8 * md + x)
      · rw [if_pos g]
        exact ⟨tz, htz, etz, ⟨hpc, htz, Or.inr ⟨k5, etz⟩⟩, Or.inr etz⟩
      · rw [if_neg g]
        exact ⟨tn, htn, etn, En, Or.inl (Int32.not_le.mp g)⟩
    obtain ⟨t, htc, et, Ee, hl⟩ := Et
    refine ⟨va, ir_tS lo wr hm bs c md t p (ir_sL md mk p (upd st (8 * md + 2) (st (8 * md + 2) + 1))), ou, ir_tC lo hm bs fa va c md t p cd, ir_tM lo xs ys fa cr ic va md t p mk, ?_, fun post hp => ?_, fun post hp => ?_⟩
    · refine ir_DVs (q := q) S hmd D Ee rp hq (fun j j2 j3 j4 j5 j6 => ?_) ?_ (fun _ => ⟨fun _ => rfl, rfl⟩) (fun e => ⟨ir_law1n (hJ e).1, ir_law2n Ee (fun _ x' y' hx' hy' ex' ey' => ?_) (hJ e).2⟩)
      · rw [ir_sL_o j6, pk_un j2]
      · rw [ir_sL_o (by omega), pk_un (by omega)]
        exact eq
      · have e1 : x' = x := ir_nI_inj (by omega) (by omega) (ex'.symm.trans ex)
        have e2 : y' = y := ir_nI_inj (by omega) (by omega) (ey'.symm.trans ey)
        subst e1 e2 e
        exact hl
    · refine ir_x_step hmd c16 o32 hpc hq epl eq (fun z => absurd z k0) (fun g => absurd g k6) (fun _ _ => ?_)
      exact ir_x_st81 hmd c16 hpc htc (ir_s_h1 S htc) (ir_s_xy8 S htc) (ir_s_cr S htc) (fun post' hp' => ir_x_ex_less hmd c16 hpc k5 ex ey (by omega) (by omega) hmk2 (by rw [et]; exact hp')) hp
    · refine ir_y_step S hmd hpc hq epl eq ex ey (fun z => absurd z k0) (fun g => absurd g k6) (fun _ _ => ?_)
      exact ir_y_136l S hmd hpc htc (by omega) (by omega) k5 hmk et hp
  -- a writer
  have hk : kd p = 1 ∨ kd p = 2 ∨ kd p = 3 ∨ kd p = 4 := by
    obtain ⟨k, hk6, ek⟩ := S.2.2.1.2.2.2.2.2.2.2 p hpc
    have : k = 0 ∨ k = 1 ∨ k = 2 ∨ k = 3 ∨ k = 4 ∨ k = 5 ∨ k = 6 := by omega
    rcases this with g | g | g | g | g | g | g <;> subst g
    · exact absurd ek k0
    · exact Or.inl ek
    · exact Or.inr (Or.inl ek)
    · exact Or.inr (Or.inr (Or.inl ek))
    · exact Or.inr (Or.inr (Or.inr ek))
    · exact absurd ek k5
    · exact absurd ek k6
  have kw : ¬ kd p < 1 ∧ ¬ 4 < kd p := by rcases hk with k | k | k | k <;> rw [k] <;> decide
  have W : ir_W c kd xs p x := ⟨hpc, kw.1, kw.2, ex⟩
  obtain ⟨z, hz⟩ : ∃ z, (kd p = 3 ∨ kd p = 4) → zs p = nI z ∧ z < vl := by
    by_cases g : kd p = 3 ∨ kd p = 4
    · obtain ⟨z, a, b⟩ := S.2.2.1.2.2.2.2.2.1 p hpc g
      exact ⟨z, fun _ => ⟨b, a⟩⟩
    · exact ⟨0, fun h => absurd h g⟩
  have hz8 : (kd p = 3 ∨ kd p = 4) → zs p = nI z ∧ z < 8 := fun g => ⟨(hz g).1, by have := (hz g).2; omega⟩
  have hcd : md = 1 → kd p = 4 → ¬ hm p < 0 → cd p = va (8 + y) * va (8 + z) := by
    intro e k4 g
    rcases ir_s_H S hpc with w | ⟨H, b, f, d⟩
    · rw [w] at g
      exact absurd (by decide) g
    · exact ir_prod v8 hpc d ey (hz (Or.inr k4)).1 hyv (hz (Or.inr k4)).2 d.2.2.2.2.2.2.1 (hJ e).1
  have hr : md = 1 → kd p = 2 → ∀ b, b < vl → ys p = nI b → ir_vv md kd ys zs va p = va (8 + b) + zs p := by
    intro e k2 b hb eb
    subst e
    unfold ir_vv
    rw [if_neg (show ¬ kd p = 1 by rw [k2]; decide), if_pos k2, eb, nI_clamp (by omega)]
  refine ⟨upd va (8 * md + x) (ir_vv md kd ys zs va p), ir_tS lo wr hm bs c md tn p (if md = 1 then ir_aS lo hm bs xs c p (ir_sM md kd hm p (upd st (8 * md + 2) (st (8 * md + 2) + 1))) else ir_sM md kd hm p (upd st (8 * md + 2) (st (8 * md + 2) + 1))), ou,
    ir_tC lo hm bs fa (upd va (8 * md + x) (ir_vv md kd ys zs va p)) c md tn p (if md = 1 then ir_aC lo hm bs fa xs zs (upd va (8 * md + x) (ir_vv md kd ys zs va p)) c p cd else cd), ir_tM lo xs ys fa cr ic (upd va (8 * md + x) (ir_vv md kd ys zs va p)) md tn p mk, ?_, fun post hp => ?_, fun post hp => ?_⟩
  · refine ir_DVs (q := q) S hmd D En rp hq (fun j j2 j3 j4 j5 j6 => ?_) ?_ (fun e => ⟨fun j => ?_, ?_⟩) (fun e => ?_)
    · by_cases g : md = 1
      · rw [if_pos g, ir_aS_o j5, ir_sM_o j4, pk_un j2]
      · rw [if_neg g, ir_sM_o j4, pk_un j2]
    · by_cases g : md = 1
      · rw [if_pos g, ir_aS_o (by omega), ir_sM_o (by omega), pk_un (by omega)]
        exact eq
      · rw [if_neg g, ir_sM_o (by omega), pk_un (by omega)]
        exact eq
    · exact pk_un (by omega)
    · rw [if_neg (by omega)]
    · have hr' := hr e
      rw [if_pos e]
      subst e
      refine ⟨ir_law1 v8 W hxv rfl hr' (fun m H b f hmc d l => ?_) (hJ rfl).1, ir_law2 v8 (by omega) W hxv En rfl hr' (hJ rfl).2⟩
      obtain ⟨h1, h2, h3, h4, h5, h6, _⟩ := d
      have cpE : ir_cp lo hm bs (xs p) p m = true ↔ b = x := by
        unfold ir_cp
        rw [h1, nI_clamp (by omega), h3, ex, (ir_s_L S H p).mpr l, Bool.and_true, Bool.and_eq_true, decide_eq_true_eq, decide_eq_true_eq]
        exact ⟨fun g => ir_nI_inj (by omega) (by omega) g.2, fun g => ⟨nI_pos (by omega), by rw [g]⟩⟩
      unfold ir_aC
      rw [ir_cc_s]
      by_cases g : b = x
      · rw [if_pos ⟨Nat.zero_le _, by omega, cpE.mpr g⟩, if_pos g, h4, nI_clamp (by omega)]
      · rw [if_neg (fun w => g (cpE.mp w.2.2)), if_neg g]
  · refine ir_x_step hmd c16 o32 hpc hq epl eq (fun z => absurd z k0) (fun g => absurd g k6) (fun _ _ => ?_)
    refine ir_x_st81 hmd c16 hpc htn (ir_s_h1 S htn) (ir_s_xy8 S htn) (ir_s_cr S htn) (fun post' hp' => ir_x_ex_wr hmd c16 hpc ex (by omega) ey (by omega) hz8 hk hcd (ir_s_h2 S) (fun e => ?_) (fun e => ?_)) hp
    · rw [if_neg (by omega), if_neg (by omega)] at hp'
      rw [etn]
      exact hp'
    · rw [if_pos e, if_pos e] at hp'
      rw [etn]
      exact hp'
  · refine ir_y_step S hmd hpc hq epl eq ex ey (fun z => absurd z k0) (fun g => absurd g k6) (fun _ _ => ?_)
    exact ir_y_136w S hmd hpc htn (by omega) ey (by omega) hz8 hk etn hp
end
end
section
/-! runs and starts, side by side -/
section
variable {nl vl ol c : Nat} {cl rc : Int32} {kd xs ys zs nx su pr dm lo wr sp hm bs fa cr ic it va st ou cd mk nd lk dY lY se : Nat → Int32}
theorem ir_x_mode {post : Int32 → Prop} {x : Int32} (h1 : (x = nI 0 ∨ x = nI 1) → post 1) (h0 : ¬ (x = nI 0 ∨ x = nI 1) → post 0) : wpX_isMode post (nI nl, nI vl, nI ol, nI c, cl, rc, kd, xs, ys, zs, nx, su, pr, dm, lo, wr, sp, hm, bs, fa, cr, ic, it, va, st, ou, cd, mk) x :=
  br_c (fun z => h1 (Or.inl z)) (fun z => br_c (fun w => h1 (Or.inr w)) (fun w => h0 fun q => q.elim z w))
theorem ir_runl {md l : Nat} {n : Int32} (S : ir_SS nl vl ol c cl rc kd xs ys zs nx nd dm lo wr sp hm bs fa cr ic lk dY lY) (hmd : md < 2) (hl : l ≤ 400) (h1 : ∀ i, i < l → ¬ n ≤ nI i) (h2 : l = 400 ∨ n ≤ nI l) :
    ∀ d i va st ou cd mk, i + d = l → ir_DV c vl ol kd xs ys zs nx hm bs fa cr ic va st cd mk → ∃ k va' st' ou' cd' mk', ir_DV c vl ol kd xs ys zs nx hm bs fa cr ic va' st' cd' mk' ∧
      (∀ post : Int32 → SX → Prop, post (nI k) (nI nl, nI vl, nI ol, nI c, cl, rc, kd, xs, ys, zs, nx, su, pr, dm, lo, wr, sp, hm, bs, fa, cr, ic, it, va', st', ou', cd', mk') → wX_run_26 post (nI md) (nI l) (d + 1) (nI i) (nI i) (nI nl) (nI vl) (nI ol) (nI c) cl rc kd xs ys zs nx su pr dm lo wr sp hm bs fa cr ic it va st ou cd mk) ∧
      (∀ post : Int32 → SY → Prop, post (nI k) (nI nl, nI vl, nI ol, nI c, cl, nd, it, va', st', ou', lk, mk', dY, lY, se) → wY_run_13 post (nI md) n (d + 1) (nI i) (nI nl) (nI vl) (nI ol) (nI c) cl nd it va st ou lk mk dY lY se) := by
  intro d
  induction d with
  | zero =>
    intro i va st ou cd mk hi D
    have e : i = l := by omega
    subst e
    refine ⟨i, va, st, ou, cd, mk, D, fun post hp => br_t (nI_le (by omega) (by omega)) hp, fun post hp => ?_⟩
    by_cases z : i = 400
    · subst z
      exact br_t (nI_le (a := 400) (b := 400) (by omega) (by omega)) hp
    · exact br_f (nI_ge (b := 400) (by omega) (by decide)) (br_t (h2.resolve_left z) hp)
  | succ d ih =>
    intro i va st ou cd mk hi D
    have i0 : nI md * 8 + 0 = nI (8 * md) := ir_m8 md 0
    have j0 : (8 : Int32) * nI md + 0 = nI (8 * md) := ir_8m md 0
    have v0 : vp_in (nI (8 * md)) 16 := vp_in_nI (by omega) (by omega)
    by_cases run : st (8 * md) = 1
    · obtain ⟨va1, st1, ou1, cd1, mk1, D1, X1, Y1⟩ := ir_step (su := su) (pr := pr) (it := it) (ou := ou) (se := se) S hmd D run
      obtain ⟨k, va', st', ou', cd', mk', D', X', Y'⟩ := ih (i + 1) va1 st1 ou1 cd1 mk1 (by omega) D1
      refine ⟨k, va', st', ou', cd', mk', D', fun post hp => ?_, fun post hp => ?_⟩
      · refine br_f (nI_ge (by omega) (by omega)) ?_
        rw [i0, nI_clamp (show 8 * md < 2 ^ 31 by omega)]
        exact ⟨v0, br_t run (X1 _ (nm_r (nI_1 i) (nm_r (nI_1 i) (X' post hp))))⟩
      · refine br_f (nI_ge (b := 400) (by omega) (by decide)) (br_f (h1 i (by omega)) ?_)
        rw [j0, nI_clamp (show 8 * md < 2 ^ 31 by omega)]
        exact ⟨v0, br_t run (Y1 _ (nm_r (nI_1 i) (Y' post hp)))⟩
    · refine ⟨i, va, st, ou, cd, mk, D, fun post hp => ?_, fun post hp => ?_⟩
      · refine br_f (nI_ge (by omega) (by omega)) ?_
        rw [i0, nI_clamp (show 8 * md < 2 ^ 31 by omega)]
        exact ⟨v0, br_f run hp⟩
      · refine br_f (nI_ge (b := 400) (by omega) (by decide)) (br_f (h1 i (by omega)) ?_)
        rw [j0, nI_clamp (show 8 * md < 2 ^ 31 by omega)]
        exact ⟨v0, br_f run hp⟩
theorem ir_clampl (n : Int32) : ∃ l, l ≤ 400 ∧ (∀ i, i < l → ¬ n ≤ nI i) ∧ (l = 400 ∨ n ≤ nI l) ∧ ((0 : Int32) ≤ n → (n ≤ 400 → n = nI l) ∧ (¬ n ≤ 400 → l = 400)) ∧ (¬ (0 : Int32) ≤ n → l = 0) := by
  by_cases z : (0 : Int32) ≤ n
  · obtain ⟨j, hj, e⟩ := nI_of (Int32.not_lt.mpr z)
    subst e
    by_cases w : j ≤ 400
    · have w' : nI j ≤ 400 := nI_le (b := 400) w (by decide)
      exact ⟨j, w, fun i hi => nI_ge hi hj, Or.inr (nI_le (Nat.le_refl _) hj), fun _ => ⟨fun _ => rfl, fun q => absurd w' q⟩, fun q => absurd z q⟩
    · have w' : ¬ nI j ≤ 400 := nI_ge (a := 400) (by omega) hj
      exact ⟨400, Nat.le_refl _, fun i hi => nI_ge (by omega) hj, Or.inl rfl, fun _ => ⟨fun q => absurd q w', fun _ => rfl⟩, fun q => absurd z q⟩
  · exact ⟨0, by omega, fun i hi => absurd hi (by omega), Or.inr (Int32.le_of_lt (Int32.not_le.mp z)), fun q => absurd q z, fun _ => rfl⟩
theorem ir_run {md : Nat} {n : Int32} (S : ir_SS nl vl ol c cl rc kd xs ys zs nx nd dm lo wr sp hm bs fa cr ic lk dY lY) (hmd : md < 2) (D : ir_DV c vl ol kd xs ys zs nx hm bs fa cr ic va st cd mk) : ∃ k va' st' ou' cd' mk', ir_DV c vl ol kd xs ys zs nx hm bs fa cr ic va' st' cd' mk' ∧
      (∀ post : Int32 → SX → Prop, post k (nI nl, nI vl, nI ol, nI c, cl, rc, kd, xs, ys, zs, nx, su, pr, dm, lo, wr, sp, hm, bs, fa, cr, ic, it, va', st', ou', cd', mk') → wpX_run post (nI nl, nI vl, nI ol, nI c, cl, rc, kd, xs, ys, zs, nx, su, pr, dm, lo, wr, sp, hm, bs, fa, cr, ic, it, va, st, ou, cd, mk) (nI md) n) ∧
      (∀ post : Int32 → SY → Prop, post k (nI nl, nI vl, nI ol, nI c, cl, nd, it, va', st', ou', lk, mk', dY, lY, se) → wpY_run post (nI nl, nI vl, nI ol, nI c, cl, nd, it, va, st, ou, lk, mk, dY, lY, se) (nI md) n) := by
  obtain ⟨l, hl, h1, h2, h3, h4⟩ := ir_clampl n
  obtain ⟨k, va', st', ou', cd', mk', D', X', Y'⟩ := ir_runl (su := su) (pr := pr) (it := it) (se := se) S hmd hl h1 h2 l 0 va st ou cd mk (by omega) D
  have md01 : nI md = nI 0 ∨ nI md = nI 1 := by
    rcases (show md = 0 ∨ md = 1 by omega) with e | e
    · exact Or.inl (by rw [e])
    · exact Or.inr (by rw [e])
  refine ⟨nI k, va', st', ou', cd', mk', D', fun post hp => ?_, fun post hp => ?_⟩
  · unfold wpX_run
    refine ir_x_mode (fun _ => br_f ir_10 ?_) (fun q => absurd md01 q)
    refine br_c (fun z => br_c (fun w => ?_) (fun w => ?_)) (fun z => ?_)
    · rw [(h3 z).1 w]
      exact ⟨l + 1, X' post hp⟩
    · have e := (h3 z).2 w
      subst e
      exact ⟨401, X' post hp⟩
    · have e := h4 z
      subst e
      exact ⟨1, X' post hp⟩
  · have q : ∃ n13 : Nat, wY_run_13 post (nI md) n n13 0 (nI nl) (nI vl) (nI ol) (nI c) cl nd it va st ou lk mk dY lY se := ⟨l + 1, Y' post hp⟩
    exact br_c (fun _ => q) (fun z => br_t (md01.resolve_left z) q)
/-! start -/
def ir_z0 (f : Nat → Int32) (i : Nat) : Nat → Int32 := fun j => if j < i then 0 else f j
theorem ir_z0s {f : Nat → Int32} {i : Nat} : upd (ir_z0 f i) i 0 = ir_z0 f (i + 1) := by
  funext j
  unfold ir_z0
  by_cases e : j = i
  · rw [e, pk_us, if_pos (by omega)]
  · rw [pk_un e]
    by_cases g : j < i
    · rw [if_pos g, if_pos (by omega)]
    · rw [if_neg g, if_neg (by omega)]
theorem ir_z00 {f : Nat → Int32} : ir_z0 f 0 = f := by
  funext j
  unfold ir_z0
  rw [if_neg (by omega)]
def ir_vX (it va : Nat → Int32) (i : Nat) : Nat → Int32 := fun j => if j < i then it j else if 8 ≤ j ∧ j < 8 + i then it (j - 8) else va j
def ir_vY (it va : Nat → Int32) (i : Nat) : Nat → Int32 := fun j => if j < i then it (j % 8) else va j
def ir_sY (st : Nat → Int32) (i : Nat) : Nat → Int32 := fun j => if j < i then (if j % 8 = 0 then 1 else 0) else st j
theorem ir_vXs {it va : Nat → Int32} {i : Nat} (hi : i < 8) : upd (upd (ir_vX it va i) i (it i)) (8 + i) (it i) = ir_vX it va (i + 1) := by
  funext j
  unfold ir_vX
  by_cases e : j = 8 + i
  · rw [e, pk_us, if_neg (by omega), if_pos (by omega), Nat.add_sub_cancel_left]
  · rw [pk_un e]
    by_cases e2 : j = i
    · rw [e2, pk_us, if_pos (by omega)]
    · rw [pk_un e2]
      by_cases g : j < i
      · rw [if_pos g, if_pos (by omega)]
      · rw [if_neg g, if_neg (show ¬ j < i + 1 by omega)]
        by_cases g2 : 8 ≤ j ∧ j < 8 + i
        · rw [if_pos g2, if_pos (by omega)]
        · rw [if_neg g2, if_neg (by omega)]
theorem ir_vYs {it va : Nat → Int32} {i : Nat} : upd (ir_vY it va i) i (it (i % 8)) = ir_vY it va (i + 1) := by
  funext j
  unfold ir_vY
  by_cases e : j = i
  · rw [e, pk_us, if_pos (by omega)]
  · rw [pk_un e]
    by_cases g : j < i
    · rw [if_pos g, if_pos (by omega)]
    · rw [if_neg g, if_neg (by omega)]
theorem ir_sYs {st : Nat → Int32} {i : Nat} : upd (ir_sY st i) i (if i % 8 = 0 then 1 else 0) = ir_sY st (i + 1) := by
  funext j
  unfold ir_sY
  by_cases e : j = i
  · rw [e, pk_us, if_pos (show i < i + 1 by omega)]
  · rw [pk_un e]
    by_cases g : j < i
    · rw [if_pos g, if_pos (show j < i + 1 by omega)]
    · rw [if_neg g, if_neg (show ¬ j < i + 1 by omega)]
theorem ir_vXY {it va : Nat → Int32} : ir_vX it va 8 = ir_vY it va 16 := by
  funext j
  unfold ir_vX ir_vY
  by_cases g : j < 8
  · rw [if_pos g, if_pos (by omega), Nat.mod_eq_of_lt g]
  · rw [if_neg g]
    by_cases g2 : 8 ≤ j ∧ j < 8 + 8
    · rw [if_pos g2, if_pos (by omega), show j % 8 = j - 8 by omega]
    · rw [if_neg g2, if_neg (by omega)]
theorem ir_sXY {st : Nat → Int32} : upd (upd (ir_z0 st 16) 0 1) 8 1 = ir_sY st 16 := by
  funext j
  unfold ir_z0 ir_sY
  by_cases e : j = 8
  · rw [e, pk_us, if_pos (by omega), if_pos (by omega)]
  · rw [pk_un e]
    by_cases e2 : j = 0
    · rw [e2, pk_us, if_pos (by omega), if_pos (by omega)]
    · rw [pk_un e2]
      by_cases g : j < 16
      · rw [if_pos g, if_pos g, if_neg (by omega)]
      · rw [if_neg g, if_neg g]
theorem ir_x_st46 {post : Int32 → SX → Prop} {va0 : Nat → Int32}
    (K : ((lo 0 = 0 → post 0 (nI nl, nI vl, nI ol, nI c, cl, rc, kd, xs, ys, zs, nx, su, pr, dm, lo, wr, sp, hm, bs, fa, cr, ic, it, ir_vY it va0 16, upd (upd st 0 1) 8 1, ou, cd, mk)) ∧ (¬ lo 0 = 0 → wpX_enter (fun u => post 0 u) (nI nl, nI vl, nI ol, nI c, cl, rc, kd, xs, ys, zs, nx, su, pr, dm, lo, wr, sp, hm, bs, fa, cr, ic, it, ir_vY it va0 16, upd (upd st 0 1) 8 1, ou, cd, mk) (nI 0)))) :
    ∀ k i, i + k = 8 → wX_start_46 post (nI nl) (nI vl) (nI ol) (nI c) cl rc (k + 1) (nI i) kd xs ys zs nx su pr dm lo wr sp hm bs fa cr ic it (ir_vX it va0 i) st ou cd mk := by
  intro k
  induction k with
  | zero =>
    intro i hi
    have e : i = 8 := by omega
    subst e
    rw [ir_vXY]
    exact br_t (nI_le (a := 8) (b := 8) (by omega) (by omega)) (nm_e (nm_e K))
  | succ k ih =>
    intro i hi
    refine br_f (nI_ge (b := 8) (by omega) (by decide)) ⟨vp_in_nI (by omega) (by omega), ?_⟩
    rw [ir_8p, nI_clamp (show i < 2 ^ 31 by omega), nI_clamp (show 8 + i < 2 ^ 31 by omega)]
    refine ⟨vp_in_nI (by omega) (by omega), nm_e ⟨vp_in_nI (by omega) (by omega), vp_in_nI (by omega) (by omega), nm_r (ir_vXs (by omega)) (nm_r (nI_1 i) (ih (i + 1) (by omega)))⟩⟩
theorem ir_x_st11 {post : Int32 → SX → Prop} {st0 cd0 mk0 : Nat → Int32}
    (K : ((lo 0 = 0 → post 0 (nI nl, nI vl, nI ol, nI c, cl, rc, kd, xs, ys, zs, nx, su, pr, dm, lo, wr, sp, hm, bs, fa, cr, ic, it, ir_vY it va 16, ir_sY st0 16, ou, ir_z0 cd0 16, ir_z0 mk0 16)) ∧ (¬ lo 0 = 0 → wpX_enter (fun u => post 0 u) (nI nl, nI vl, nI ol, nI c, cl, rc, kd, xs, ys, zs, nx, su, pr, dm, lo, wr, sp, hm, bs, fa, cr, ic, it, ir_vY it va 16, ir_sY st0 16, ou, ir_z0 cd0 16, ir_z0 mk0 16) (nI 0)))) :
    ∀ k i, i + k = 16 → wX_start_11 post (nI nl) (nI vl) (nI ol) (nI c) cl rc (k + 1) (nI i) kd xs ys zs nx su pr dm lo wr sp hm bs fa cr ic it va (ir_z0 st0 i) ou (ir_z0 cd0 i) (ir_z0 mk0 i) := by
  intro k
  induction k with
  | zero =>
    intro i hi
    have e : i = 16 := by omega
    subst e
    rw [← ir_sXY] at K
    have q := ir_x_st46 (post := post) (va0 := va) K 8 0 (by omega)
    have e0 : ir_vX it va 0 = va := by
      funext j
      unfold ir_vX
      rw [if_neg (by omega), if_neg (by omega)]
    rw [e0] at q
    exact br_t (nI_le (a := 16) (b := 16) (by omega) (by omega)) ⟨9, q⟩
  | succ k ih =>
    intro i hi
    have hin : vp_in (nI i) 16 := vp_in_nI (by omega) (by omega)
    refine br_f (nI_ge (b := 16) (by omega) (by decide)) ?_
    rw [nI_clamp (show i < 2 ^ 31 by omega), ir_vb0]
    exact ⟨hin, nm_r ir_z0s ⟨hin, nm_r ir_z0s ⟨hin, nm_r ir_z0s (nm_r (nI_1 i) (ih (i + 1) (by omega)))⟩⟩⟩
theorem ir_y_st11 {post : Int32 → SY → Prop} {st0 va0 mk0 : Nat → Int32}
    (K : ((lY 0 = 0 → post 0 (nI nl, nI vl, nI ol, nI c, cl, nd, it, ir_vY it va0 16, ir_sY st0 16, ou, lk, ir_z0 mk0 16, dY, lY, se)) ∧ (¬ lY 0 = 0 → wpY_enter (fun u => post 0 u) (nI nl, nI vl, nI ol, nI c, cl, nd, it, ir_vY it va0 16, ir_sY st0 16, ou, lk, ir_z0 mk0 16, dY, lY, se) (nI 0)))) :
    ∀ k i, i + k = 16 → wY_start_11 post (nI nl) (nI vl) (nI ol) (nI c) cl (k + 1) (nI i) nd it (ir_vY it va0 i) (ir_sY st0 i) ou lk (ir_z0 mk0 i) dY lY se := by
  intro k
  induction k with
  | zero =>
    intro i hi
    have e : i = 16 := by omega
    subst e
    exact br_t (nI_le (a := 16) (b := 16) (by omega) (by omega)) K
  | succ k ih =>
    intro i hi
    have hin : vp_in (nI i) 16 := vp_in_nI (by omega) (by omega)
    have r8 : nI i - nI i / 8 * 8 = nI (i % 8) := pk_rem (d := 8) (by omega) (by decide) (by decide)
    have j34 : ∀ x : Int32, x = (if i % 8 = 0 then 1 else 0) → wY_start_34 post (wY_start_11 post (nI nl) (nI vl) (nI ol) (nI c) cl (k + 1)) (nI i) x (nI i) (nI nl) (nI vl) (nI ol) (nI c) cl nd it (ir_vY it va0 i) (ir_sY st0 i) ou lk (ir_z0 mk0 i) dY lY se := by
      intro x ex
      subst ex
      unfold wY_start_34
      rw [r8, nI_clamp (show i < 2 ^ 31 by omega), nI_clamp (show i % 8 < 2 ^ 31 by omega), ir_vb0]
      exact ⟨hin, nm_r ir_sYs ⟨by decide, vp_in_nI (by omega) (by omega), hin, nm_r ir_vYs ⟨hin, nm_r ir_z0s (nm_r (nI_1 i) (ih (i + 1) (by omega)))⟩⟩⟩
    refine br_f (nI_ge (b := 16) (by omega) (by decide)) ⟨by decide, ?_⟩
    rw [r8]
    refine br_c (fun z => j34 1 ?_) (fun z => j34 0 ?_)
    · rw [if_pos (ir_nI_inj (b := 0) (by omega) (by omega) z)]
    · rw [if_neg (fun w => z (by rw [w]; rfl))]
end
end
section
/-! start, side by side -/
section
variable {nl vl ol c : Nat} {cl rc : Int32} {kd xs ys zs nx su pr dm lo wr sp hm bs fa cr ic it va st ou cd mk nd lk dY lY se : Nat → Int32}
theorem ir_entJ {Q : Nat → Prop} {t : Nat} (S : ir_SS nl vl ol c cl rc kd xs ys zs nx nd dm lo wr sp hm bs fa cr ic lk dY lY) (htc : t < c) (hQ : ∀ H, ir_Lp (ir_E c kd zs nx) H t → H = t ∨ Q H) (I : ir_J1 c vl kd xs ys zs nx hm bs fa Q t va cd) (J : ir_J2 c vl kd xs ys zs nx hm bs fa cr ic Q t va mk) :
    ir_J1 c vl kd xs ys zs nx hm bs fa (fun _ => True) t va (ir_eC hm bs fa va c t cd) ∧ ir_J2 c vl kd xs ys zs nx hm bs fa cr ic (fun _ => True) t va (ir_eM xs ys fa cr ic va t mk) := by
  have c16 := ir_s_c S
  have v8 := ir_s_v S
  refine ⟨ir_ent1 (by omega) hQ htc (fun m b f hmc h1 h2 h3 hb hf => ?_) (fun m hmc h1 => ?_) I, ir_ent2 hQ (fun h1 => ?_) (fun h h1 => ?_) J⟩
  · unfold ir_eC
    rw [ir_cc_s, if_pos ⟨Nat.zero_le _, by omega, decide_eq_true h1⟩, h2, h3, nI_clamp (by omega), nI_clamp (by omega)]
  · unfold ir_eC
    rw [ir_cc_s, if_neg (fun g => h1 (decide_eq_true_eq.mp g.2.2))]
  · unfold ir_eM at h1
    rcases ir_s_C S htc with q | ⟨m, w, H, b, f, y, C⟩
    · rw [if_pos (show cr t < 0 by rw [q]; decide)] at h1
      exact absurd q (J t htc h1).1
    · have n0 : ¬ cr t < 0 := by rw [C.1]; exact nI_pos (by have := C.2.1; omega)
      rw [if_neg n0, pk_us] at h1
      have cdn := ir_rvC h1
      refine ⟨by rw [C.1]; exact fun g => ir_m1n (by have := C.2.1; omega) g.symm, fun m' w' H' b' f' y' C' => ?_⟩
      obtain ⟨c1, c2, c3, c4, c5, c6, c7, c8, _⟩ := C'
      obtain ⟨h1', h2', h3', h4', h5', h6', _⟩ := c3
      rw [c1, nI_clamp (show m' < 2 ^ 31 by omega), h4', c6, c7, nI_clamp (show b' < 2 ^ 31 by omega), nI_clamp (show y' < 2 ^ 31 by omega), nI_clamp (show f' < 2 ^ 31 by omega)] at cdn
      exact cdn
  · unfold ir_eM
    split
    · rfl
    · exact pk_un h1
theorem ir_DV0 {st0 : Nat → Int32} (S : ir_SS nl vl ol c cl rc kd xs ys zs nx nd dm lo wr sp hm bs fa cr ic lk dY lY) (s1 : st0 1 = 0) (s3 : st0 3 = 0) (s9 : st0 9 = 0) (s11 : st0 11 = 0)
    (hJ : ir_J1 c vl kd xs ys zs nx hm bs fa (fun _ => True) 0 va cd ∧ ir_J2 c vl kd xs ys zs nx hm bs fa cr ic (fun _ => True) 0 va mk) : ir_DV c vl ol kd xs ys zs nx hm bs fa cr ic va st0 cd mk := by
  refine ⟨fun md hmd => ⟨0, 0, S.2.1, ir_R0, ?_, Nat.zero_le _, ?_⟩, fun _ p hp ep => ?_⟩
  · rcases (show md = 0 ∨ md = 1 by omega) with e | e <;> subst e
    · exact s1
    · exact s9
  · rcases (show md = 0 ∨ md = 1 by omega) with e | e <;> subst e
    · exact s3
    · exact s11
  · have c16 := ir_s_c S
    have e : p = 0 := ir_nI_inj (by omega) (by omega) (ep.symm.trans s9)
    subst e
    exact hJ
theorem ir_start (S : ir_SS nl vl ol c cl rc kd xs ys zs nx nd dm lo wr sp hm bs fa cr ic lk dY lY) : ∃ va' st' cd' mk', ir_DV c vl ol kd xs ys zs nx hm bs fa cr ic va' st' cd' mk' ∧
      (∀ post : Int32 → SX → Prop, post 0 (nI nl, nI vl, nI ol, nI c, cl, rc, kd, xs, ys, zs, nx, su, pr, dm, lo, wr, sp, hm, bs, fa, cr, ic, it, va', st', ou, cd', mk') → wpX_start post (nI nl, nI vl, nI ol, nI c, cl, rc, kd, xs, ys, zs, nx, su, pr, dm, lo, wr, sp, hm, bs, fa, cr, ic, it, va, st, ou, cd, mk)) ∧
      (∀ post : Int32 → SY → Prop, post 0 (nI nl, nI vl, nI ol, nI c, cl, nd, it, va', st', ou, lk, mk', dY, lY, se) → wpY_start post (nI nl, nI vl, nI ol, nI c, cl, nd, it, va, st, ou, lk, mk, dY, lY, se)) := by
  have c16 := ir_s_c S
  have hY := ir_s_Y S
  have z16 : ∀ f : Nat → Int32, ∀ h, h < c → ir_z0 f 16 h = 0 := fun f h hh => if_pos (by omega)
  have I0 : ir_J1 c vl kd xs ys zs nx hm bs fa (fun _ => False) 0 (ir_vY it va 16) (ir_z0 cd 16) := fun m H b f _ _ q _ => q.elim
  have J0 : ir_J2 c vl kd xs ys zs nx hm bs fa cr ic (fun _ => False) 0 (ir_vY it va 16) (ir_z0 mk 16) := fun h hh q => absurd (z16 mk h hh) q
  have sv : ∀ j, j < 16 → j % 8 ≠ 0 → ir_sY st 16 j = 0 := by
    intro j hj h8
    unfold ir_sY
    rw [if_pos hj, if_neg h8]
  have l0 : lY 0 = 0 ↔ lo 0 = 0 := by
    have q : (¬ lY 0 = 0 ↔ bt (lo 0) 0 = true) := hY.1 0 0 (by omega) (by omega)
    constructor
    · intro z
      exact Classical.byContradiction fun g => q.mpr ((ir_s_l0 S).mp g) z
    · intro z
      exact Classical.byContradiction fun g => (ir_s_l0 S).mpr (q.mp g) z
  have xw : ∀ {post : Int32 → SX → Prop} {st0 cd0 mk0 : Nat → Int32}, wX_start_11 post (nI nl) (nI vl) (nI ol) (nI c) cl rc 17 (nI 0) kd xs ys zs nx su pr dm lo wr sp hm bs fa cr ic it va (ir_z0 st 0) ou (ir_z0 cd 0) (ir_z0 mk 0) → wpX_start post (nI nl, nI vl, nI ol, nI c, cl, rc, kd, xs, ys, zs, nx, su, pr, dm, lo, wr, sp, hm, bs, fa, cr, ic, it, va, st, ou, cd, mk) := by
    intro post _ _ _ q
    rw [ir_z00, ir_z00, ir_z00] at q
    exact br_f S.1 ⟨17, q⟩
  have yw : ∀ {post : Int32 → SY → Prop}, wY_start_11 post (nI nl) (nI vl) (nI ol) (nI c) cl 17 (nI 0) nd it (ir_vY it va 0) (ir_sY st 0) ou lk (ir_z0 mk 0) dY lY se → wpY_start post (nI nl, nI vl, nI ol, nI c, cl, nd, it, va, st, ou, lk, mk, dY, lY, se) := by
    intro post q
    have e1 : ir_sY st 0 = st := by
      funext j
      unfold ir_sY
      rw [if_neg (by omega)]
    have e2 : ir_vY it va 0 = va := by
      funext j
      unfold ir_vY
      rw [if_neg (by omega)]
    rw [ir_z00, e1, e2] at q
    exact br_f S.1 ⟨17, q⟩
  by_cases z : lo 0 = 0
  · refine ⟨ir_vY it va 16, ir_sY st 16, ir_z0 cd 16, ir_z0 mk 16, ir_DV0 S (sv 1 (by decide) (by decide)) (sv 3 (by decide) (by decide)) (sv 9 (by decide) (by decide)) (sv 11 (by decide) (by decide)) ?_, fun post hp => ?_, fun post hp => ?_⟩
    · have hQ : ∀ H, ir_Lp (ir_E c kd zs nx) H 0 → False := by
        intro H l
        have e := ir_Lp0 l
        subst e
        exact (ir_s_l0 S).mpr ((ir_s_L S 0 0).mpr l) z
      exact ⟨ir_fin1 hQ I0, ir_fin2 hQ J0⟩
    · exact xw (st0 := st) (cd0 := cd) (mk0 := mk) (ir_x_st11 (br_t z hp) 16 0 (by omega))
    · exact yw (ir_y_st11 (br_t (l0.mpr z) hp) 16 0 (by omega))
  · refine ⟨ir_vY it va 16, ir_eS lo wr hm bs c 0 (ir_sY st 16), ir_eC hm bs fa (ir_vY it va 16) c 0 (ir_z0 cd 16), ir_eM xs ys fa cr ic (ir_vY it va 16) 0 (ir_z0 mk 16), ?_, fun post hp => ?_, fun post hp => ?_⟩
    · have eo : ∀ j, j ≠ 13 → ir_eS lo wr hm bs c 0 (ir_sY st 16) j = ir_sY st 16 j := fun j hj => ir_ea_o hj _ _ _
      refine ir_DV0 S ((eo 1 (by decide)).trans (sv 1 (by decide) (by decide))) ((eo 3 (by decide)).trans (sv 3 (by decide) (by decide))) ((eo 9 (by decide)).trans (sv 9 (by decide) (by decide))) ((eo 11 (by decide)).trans (sv 11 (by decide) (by decide))) ?_
      exact ir_entJ S S.2.1 (fun H l => Or.inl (ir_Lp0 l)) I0 J0
    · obtain ⟨x, y, hx, hy, ex, ey⟩ := ir_s_xy8 S S.2.1
      exact xw (st0 := st) (cd0 := cd) (mk0 := mk) (ir_x_st11 (br_f z (ir_x_enter c16 S.2.1 (ir_s_h1 S S.2.1) ex ey hx hy (ir_s_cr S S.2.1) hp)) 16 0 (by omega))
    · exact yw (ir_y_st11 (br_f (fun q => z (l0.mp q)) (ir_y_enter S S.2.1 hp)) 16 0 (by omega))
end
end
section
/-! the relation -/
def ir_Op (su pr dm lo wr sp hm cr lY st : Nat → Int32) : Prop :=
  su = (fun _ => 0) ∧ pr = (fun _ => 0) ∧ dm = (fun _ => 0) ∧ lo = (fun _ => 0) ∧ wr = (fun _ => 0) ∧ sp = (fun _ => 0) ∧ (∀ m, m < 16 → hm m = -1) ∧ (∀ m, m < 16 → cr m = -1) ∧ (∀ j, lY j = 0) ∧ (∀ j, st j = 0)
def ir_RF (nl vl ol c : Nat) (cl rc : Int32) (kd xs ys zs nx su pr dm lo wr sp hm bs fa cr ic it va st ou cd mk nd lk dY lY : Nat → Int32) : Prop :=
  ir_Gd nl vl ol c kd xs ys zs nx nd ∧ ((cl = 0 ∧ ir_Op su pr dm lo wr sp hm cr lY st) ∨ (ir_SS nl vl ol c cl rc kd xs ys zs nx nd dm lo wr sp hm bs fa cr ic lk dY lY ∧ ir_DV c vl ol kd xs ys zs nx hm bs fa cr ic va st cd mk))
def i_Rel (k : Nat) (u : SX) (v : SY) : Prop := match u, v with
  | (f1, f2, f3, f4, cl, rc, kd, xs, ys, zs, nx, su, pr, dm, lo, wr, sp, hm, bs, fa, cr, ic, it, va, st, ou, cd, mk1), (g1, g2, g3, g4, g5, nd, it2, va2, st2, ou2, lk, mk2, dY, lY, se) =>
    ∃ nl vl ol c : Nat, f1 = nI nl ∧ f2 = nI vl ∧ f3 = nI ol ∧ f4 = nI c ∧ g1 = nI nl ∧ g2 = nI vl ∧ g3 = nI ol ∧ g4 = nI c ∧ g5 = cl ∧ it2 = it ∧ va2 = va ∧ st2 = st ∧ ou2 = ou ∧ mk2 = mk1 ∧ se = se ∧ k = k ∧ ir_RF nl vl ol c cl rc kd xs ys zs nx su pr dm lo wr sp hm bs fa cr ic it va st ou cd mk1 nd lk dY lY
theorem i_up {k : Nat} {u : SX} {v : SY} (h : i_Rel k u v) : i_Rel (k + 5) u v := by
  obtain ⟨nl, vl, ol, c, h1, h2, h3, h4, h5, h6, h7, h8, h9, h10, h11, h12, h13, h14, h15, h16, h17⟩ := h
  exact ⟨nl, vl, ol, c, h1, h2, h3, h4, h5, h6, h7, h8, h9, h10, h11, h12, h13, h14, h15, rfl, h17⟩
section
variable {nl vl ol c : Nat} {cl rc : Int32} {kd xs ys zs nx su pr dm lo wr sp hm bs fa cr ic it va st ou cd mk nd lk dY lY se : Nat → Int32}
theorem ir_in {k : Nat} (h : ir_RF nl vl ol c cl rc kd xs ys zs nx su pr dm lo wr sp hm bs fa cr ic it va st ou cd mk nd lk dY lY) : i_Rel k (nI nl, nI vl, nI ol, nI c, cl, rc, kd, xs, ys, zs, nx, su, pr, dm, lo, wr, sp, hm, bs, fa, cr, ic, it, va, st, ou, cd, mk) (nI nl, nI vl, nI ol, nI c, cl, nd, it, va, st, ou, lk, mk, dY, lY, se) :=
  ⟨nl, vl, ol, c, rfl, rfl, rfl, rfl, rfl, rfl, rfl, rfl, rfl, rfl, rfl, rfl, rfl, rfl, rfl, rfl, h⟩
end
theorem ir_el {P : SX → SY → Prop} {k : Nat} {u : SX} {v : SY}
    (h : ∀ (nl vl ol c : Nat) (cl rc : Int32) (kd xs ys zs nx su pr dm lo wr sp hm bs fa cr ic it va st ou cd mk nd lk dY lY se : Nat → Int32), ir_RF nl vl ol c cl rc kd xs ys zs nx su pr dm lo wr sp hm bs fa cr ic it va st ou cd mk nd lk dY lY → P (nI nl, nI vl, nI ol, nI c, cl, rc, kd, xs, ys, zs, nx, su, pr, dm, lo, wr, sp, hm, bs, fa, cr, ic, it, va, st, ou, cd, mk) (nI nl, nI vl, nI ol, nI c, cl, nd, it, va, st, ou, lk, mk, dY, lY, se)) (I : i_Rel k u v) : P u v := by
  obtain ⟨f1, f2, f3, f4, cl, rc, kd, xs, ys, zs, nx, su, pr, dm, lo, wr, sp, hm, bs, fa, cr, ic, it, va, st, ou, cd, mk⟩ := u
  obtain ⟨g1, g2, g3, g4, g5, nd, it2, va2, st2, ou2, lk, mk2, dY, lY, se⟩ := v
  obtain ⟨nl, vl, ol, c, h1, h2, h3, h4, h5, h6, h7, h8, h9, h10, h11, h12, h13, h14, h15, h16, h17⟩ := I
  subst h1 h2 h3 h4 h5 h6 h7 h8 h9 h10 h11 h12 h13 h14
  exact h _ _ _ _ _ _ _ _ _ _ _ _ _ _ _ _ _ _ _ _ _ _ _ _ _ _ _ _ _ _ _ _ _ h17
/-! the constructors -/
theorem ir_cl {a b : Nat} (x : Int32) (hab : a ≤ b) (hb : b < 2 ^ 31) : ∃ n, a ≤ n ∧ n ≤ b ∧ ∀ A : Int32 → Prop, A (nI n) → ((nI a ≤ x → ((x ≤ nI b → A x) ∧ (¬ x ≤ nI b → A (nI b)))) ∧ (¬ nI a ≤ x → A (nI a))) := by
  by_cases z : nI a ≤ x
  · by_cases w : x ≤ nI b
    · have n0 : ¬ x < 0 := by
        intro q
        have := Int32.lt_of_le_of_lt z q
        exact nI_pos (by omega) this
      obtain ⟨j, hj, e⟩ := nI_of n0
      subst e
      rw [nI_leI (by omega) hj] at z
      rw [nI_leI hj hb] at w
      exact ⟨j, z, w, fun A hA => br_t (nI_le z hj) (br_t (nI_le w hb) hA)⟩
    · exact ⟨b, hab, Nat.le_refl _, fun A hA => br_t z (br_f w hA)⟩
  · exact ⟨a, Nat.le_refl _, hab, fun A hA => br_f z hA⟩
section
variable {nl vl ol c : Nat} {cl rc : Int32} {kd xs ys zs nx su pr dm lo wr sp hm bs fa cr ic it va st ou cd mk nd lk dY lY se : Nat → Int32}
theorem ir_x_ini {post : SX → Prop} (K : ∀ hm cr, (∀ m, m < 16 → hm m = -1 ∧ cr m = -1) → post (nI nl, nI vl, nI ol, nI c, cl, rc, kd, xs, ys, zs, nx, su, pr, dm, lo, wr, sp, hm, bs, fa, cr, ic, it, va, st, ou, cd, mk)) :
    ∀ k i hm cr, i + k = 16 → (∀ m, m < i → hm m = -1 ∧ cr m = -1) → wX_init_219 post (nI nl) (nI vl) (nI ol) (nI c) cl rc (k + 1) (nI i) kd xs ys zs nx su pr dm lo wr sp hm bs fa cr ic it va st ou cd mk := by
  intro k
  induction k with
  | zero =>
    intro i hm cr hi h
    have e : i = 16 := by omega
    subst e
    exact br_t (nI_le (a := 16) (b := 16) (by omega) (by omega)) (K hm cr h)
  | succ k ih =>
    intro i hm cr hi h
    have hin : vp_in (nI i) 16 := vp_in_nI (by omega) (by omega)
    refine br_f (nI_ge (b := 16) (by omega) (by decide)) ?_
    rw [nI_clamp (show i < 2 ^ 31 by omega)]
    refine ⟨hin, nm_e ⟨hin, nm_e (nm_r (nI_1 i) (ih (i + 1) _ _ (by omega) fun m hm' => ?_))⟩⟩
    by_cases e : m = i
    · rw [e, pk_us, pk_us]
      exact ⟨rfl, rfl⟩
    · rw [pk_un e, pk_un e]
      exact h m (by omega)
end
theorem ir_x_clamp {post : Int32 → Prop} {u : SX} {x : Int32} {a b n : Nat} (h : ∀ A : Int32 → Prop, A (nI n) → ((nI a ≤ x → ((x ≤ nI b → A x) ∧ (¬ x ≤ nI b → A (nI b)))) ∧ (¬ nI a ≤ x → A (nI a)))) (hp : post (nI n)) : wpX_clamp post u x (nI a) (nI b) := by
  obtain ⟨f1, f2, f3, f4, cl, rc, kd, xs, ys, zs, nx, su, pr, dm, lo, wr, sp, hm, bs, fa, cr, ic, it, va, st, ou, cd, mk1⟩ := u
  exact h post hp
theorem i_vc0 (k0 : Int32) (k1 : Int32) (k2 : Int32) : wpX_init (fun u => wpY_init (fun v => i_Rel 3 u v) k0 k1 k2) k0 k1 k2 := by
  obtain ⟨nl, n1, n2, n3⟩ := ir_cl (a := 4) (b := 16) k0 (by decide) (by decide)
  obtain ⟨vl, v1, v2, v3⟩ := ir_cl (a := 2) (b := 8) k1 (by decide) (by decide)
  obtain ⟨ol, o1, o2, o3⟩ := ir_cl (a := 1) (b := 32) k2 (by decide) (by decide)
  unfold wpX_init
  refine ir_x_clamp n3 (ir_x_clamp v3 (ir_x_clamp o3 ⟨17, ir_x_ini (nl := nl) (vl := vl) (ol := ol) (c := 0) (fun hm cr h => ?_) 16 0 _ _ (by omega) (fun m hm' => absurd hm' (by omega))⟩))
  refine n3 (fun r => wY_init_108 _ k1 k2 r 0 0 0 0 0 _ _ _ _ _ _ _ _ _ _) (v3 (fun r => wY_init_133 _ k2 r _ _ _ _ _ _ _ _ _ _ _ _ _ _ _) ?_)
  unfold wY_init_133
  refine o3 (fun r => i_Rel 3 _ (nI nl, nI vl, r, 0, 0, _, _, _, _, _, _, _, _, _, _)) ?_
  refine ir_in (nl := nl) (vl := vl) (ol := ol) (c := 0) (cl := 0) ⟨⟨⟨n1, n2, v1, v2, o1, o2, by omega⟩, fun n => ⟨rfl, rfl, rfl, rfl, rfl⟩, fun n _ => rfl, fun n hn => absurd hn (by omega), fun n hn => absurd hn (by omega), fun n hn => absurd hn (by omega), fun n hn => absurd hn (by omega), fun n hn => absurd hn (by omega)⟩,
    Or.inl ⟨rfl, rfl, rfl, rfl, rfl, rfl, rfl, fun m hm' => (h m hm').1, fun m hm' => (h m hm').2, fun _ => rfl, fun _ => rfl⟩⟩
end
section
/-! the questions -/
theorem ir_md {x : Int32} {m : Nat} (hm : m < 2 ^ 31) (h0 : ¬ x < 0) (h1 : ¬ nI m < x) : ∃ j, j ≤ m ∧ x = nI j := by
  obtain ⟨j, hj, e⟩ := nI_of h0
  subst e
  rw [nI_ltI hm hj] at h1
  exact ⟨j, by omega, rfl⟩
theorem ir_no3 {x : Int32} {m j : Nat} (hm : m < 2 ^ 31) (hj : j ≤ m) (e : x = nI j) : ¬ x < 0 ∧ ¬ nI m < x := by
  subst e
  exact ⟨nI_pos (by omega), nI_nlt hj hm⟩
theorem ir_ex3 (x : Int32) {c : Nat} (hc : c < 2 ^ 31) : (x < 0 ∨ nI c ≤ x) ∨ ∃ j, j < c ∧ x = nI j := by
  rcases pk_ix x (n := c) hc with z | z | z
  · exact Or.inl (Or.inl z)
  · exact Or.inl (Or.inr z)
  · exact Or.inr z
section
variable {nl vl ol c : Nat} {cl rc : Int32} {kd xs ys zs nx su pr dm lo wr sp hm bs fa cr ic it va st ou cd mk nd lk dY lY se : Nat → Int32}
variable {R : Prop} {v1 v2 : Int32}
theorem ir_q_read (hR : R) : wpX_read (fun r => wpY_read (fun r' => r' = r ∧ R) (nI nl, nI vl, nI ol, nI c, cl, nd, it, va, st, ou, lk, mk, dY, lY, se) v1 v2) (nI nl, nI vl, nI ol, nI c, cl, rc, kd, xs, ys, zs, nx, su, pr, dm, lo, wr, sp, hm, bs, fa, cr, ic, it, va, st, ou, cd, mk) v1 v2 := by
  unfold wpX_read
  have yn : ∀ r : Int32, (v1 = nI 0 ∨ v1 = nI 1) → (v2 < 0 ∨ ¬ v2 ≤ 7) → r = -1 → wpY_read (fun r' => r' = r ∧ R) (nI nl, nI vl, nI ol, nI c, cl, nd, it, va, st, ou, lk, mk, dY, lY, se) v1 v2 := by
    intro r m h e
    subst e
    have n : ¬ v1 < 0 ∧ ¬ nI 1 < v1 := m.elim (fun q => ir_no3 (j := 0) (by decide) (by decide) q) (fun q => ir_no3 (j := 1) (by decide) (by decide) q)
    exact br_f n.1 (br_f n.2 (br_c (fun _ => ⟨rfl, hR⟩) (fun z => br_f (h.resolve_left z) ⟨rfl, hR⟩)))
  refine ir_x_mode (fun m => br_f ir_10 (br_c (fun z => yn _ m (Or.inl z) rfl) (fun z => br_c (fun w => ?_) (fun w => yn _ m (Or.inr w) rfl)))) (fun m => br_t rfl ?_)
  · obtain ⟨md, hmd, e⟩ : ∃ md, md < 2 ∧ v1 = nI md := m.elim (fun q => ⟨0, by decide, q⟩) (fun q => ⟨1, by decide, q⟩)
    have n : ¬ v1 < 0 ∧ ¬ nI 1 < v1 := m.elim (fun q => ir_no3 (j := 0) (by decide) (by decide) q) (fun q => ir_no3 (j := 1) (by decide) (by decide) q)
    obtain ⟨j, hj, ej⟩ := ir_md (m := 7) (by decide) z (Int32.not_lt.mpr w)
    have z' := z
    have w' := w
    subst e ej
    have vi : vp_in (nI (8 * md + j)) 16 := vp_in_nI (by omega) (by omega)
    rw [ir_m8]
    refine ⟨vi, br_f n.1 (br_f n.2 (br_f z' (br_t w' ?_)))⟩
    rw [ir_8m]
    exact ⟨vi, rfl, hR⟩
  · refine br_c (fun _ => ⟨rfl, hR⟩) (fun z => br_c (fun _ => ⟨rfl, hR⟩) (fun w => absurd ?_ m))
    obtain ⟨j, hj, e⟩ := ir_md (m := 1) (by decide) z w
    rcases (show j = 0 ∨ j = 1 by omega) with q | q
    · exact Or.inl (by rw [e, q])
    · exact Or.inr (by rw [e, q])
theorem ir_q_value (g : ir_Gd nl vl ol c kd xs ys zs nx nd) (hR : R) : wpX_value (fun r => wpY_value (fun r' => r' = r ∧ R) (nI nl, nI vl, nI ol, nI c, cl, nd, it, va, st, ou, lk, mk, dY, lY, se) v1 v2) (nI nl, nI vl, nI ol, nI c, cl, rc, kd, xs, ys, zs, nx, su, pr, dm, lo, wr, sp, hm, bs, fa, cr, ic, it, va, st, ou, cd, mk) v1 v2 := by
  have v8 : vl ≤ 8 := by
    have := g.1
    omega
  unfold wpX_value
  have y0 : ∀ r : Int32, r = 0 → (v1 < 0 ∨ nI 2 < v1 ∨ (v2 < 0 ∨ nI vl ≤ v2)) → wpY_value (fun r' => r' = r ∧ R) (nI nl, nI vl, nI ol, nI c, cl, nd, it, va, st, ou, lk, mk, dY, lY, se) v1 v2 := by
    intro r e h
    subst e
    refine br_c (fun _ => ⟨rfl, hR⟩) (fun z => br_c (fun _ => ⟨rfl, hR⟩) (fun w => ir_y_varn ((h.resolve_left z).resolve_left w) (br_t rfl ⟨rfl, hR⟩)))
  rcases ir_ex3 v2 (c := vl) (by omega) with z | ⟨j, hj, e⟩
  · exact ir_x_varn z (br_t rfl (y0 _ rfl (Or.inr (Or.inr z))))
  · subst e
    have vj : vp_in (nI j) 8 := vp_in_nI (by omega) (by omega)
    refine ir_x_var hj (by omega) (br_f ir_10 (br_c (fun z => ⟨vj, ?_⟩) (fun z => ir_x_mode (fun m => br_f ir_10 ?_) (fun m => br_t rfl (y0 _ rfl ?_)))))
    · have n := ir_no3 (m := 2) (j := 2) (by decide) (Nat.le_refl _) z
      exact br_f n.1 (br_f n.2 (ir_y_var hj (by omega) (br_f ir_10 (br_t z ⟨vj, rfl, hR⟩))))
    · obtain ⟨md, hmd, e⟩ : ∃ md, md < 2 ∧ v1 = nI md := m.elim (fun q => ⟨0, by decide, q⟩) (fun q => ⟨1, by decide, q⟩)
      have n := ir_no3 (m := 2) (j := md) (by decide) (by omega) e
      have z' := z
      subst e
      have vi : vp_in (nI (8 * md + j)) 16 := vp_in_nI (by omega) (by omega)
      rw [ir_m8]
      refine ⟨vi, br_f n.1 (br_f n.2 (ir_y_var hj (by omega) (br_f ir_10 (br_f z' ?_))))⟩
      rw [ir_8m]
      exact ⟨vi, rfl, hR⟩
    · by_cases a : v1 < 0
      · exact Or.inl a
      · by_cases b : nI 2 < v1
        · exact Or.inr (Or.inl b)
        · obtain ⟨i, hi, e⟩ := ir_md (m := 2) (by decide) a b
          exfalso
          rcases (show i = 0 ∨ i = 1 ∨ i = 2 by omega) with q | q | q
          · exact m (Or.inl (by rw [e, q]))
          · exact m (Or.inr (by rw [e, q]))
          · exact z (by rw [e, q]; rfl)
theorem ir_q_output (hq : ∀ md, md < 2 → ∃ q, q ≤ 32 ∧ st (8 * md + 3) = nI q) (hR : R) : wpX_output (fun r => wpY_output (fun r' => r' = r ∧ R) (nI nl, nI vl, nI ol, nI c, cl, nd, it, va, st, ou, lk, mk, dY, lY, se) v1 v2) (nI nl, nI vl, nI ol, nI c, cl, rc, kd, xs, ys, zs, nx, su, pr, dm, lo, wr, sp, hm, bs, fa, cr, ic, it, va, st, ou, cd, mk) v1 v2 := by
  unfold wpX_output
  refine ir_x_mode (fun m => br_f ir_10 ?_) (fun m => br_t rfl ?_)
  · obtain ⟨md, hmd, e⟩ : ∃ md, md < 2 ∧ v1 = nI md := m.elim (fun q => ⟨0, by decide, q⟩) (fun q => ⟨1, by decide, q⟩)
    have n := ir_no3 (m := 1) (j := md) (by decide) (by omega) e
    subst e
    obtain ⟨q, hq32, eq⟩ := hq md hmd
    have i3 : nI md * 8 + 3 = nI (8 * md + 3) := ir_m8 md 3
    have j3 : (8 : Int32) * nI md + 3 = nI (8 * md + 3) := ir_8m md 3
    have v3 : vp_in (nI (8 * md + 3)) 16 := vp_in_nI (by omega) (by omega)
    rw [i3, nI_clamp (show 8 * md + 3 < 2 ^ 31 by omega), eq]
    have yy : ∀ r, ((0 ≤ v2 → (nI q ≤ v2 → r = 0) ∧ (¬ nI q ≤ v2 → vp_in (32 * nI md + v2) 64 ∧ r = ou (32 * nI md + v2).toNatClampNeg)) ∧ (¬ 0 ≤ v2 → r = 0)) → wpY_output (fun r' => r' = r ∧ R) (nI nl, nI vl, nI ol, nI c, cl, nd, it, va, st, ou, lk, mk, dY, lY, se) (nI md) v2 := by
      intro r h
      refine br_f n.1 (br_f n.2 (br_c (fun z => ?_) (fun z => ⟨(h.2 z).symm, hR⟩)))
      rw [j3, nI_clamp (show 8 * md + 3 < 2 ^ 31 by omega), eq]
      exact ⟨v3, br_c (fun w => ⟨((h.1 z).1 w).symm, hR⟩) (fun w => ⟨((h.1 z).2 w).1, ((h.1 z).2 w).2.symm, hR⟩)⟩
    refine br_c (fun z => ⟨v3, br_c (fun w => yy _ ⟨fun _ => ⟨fun _ => rfl, fun w' => absurd w w'⟩, fun z' => absurd z z'⟩) (fun w => ?_)⟩) (fun z => yy _ ⟨fun z' => absurd z' z, fun _ => rfl⟩)
    obtain ⟨j, hj, e⟩ := nI_of (Int32.not_lt.mpr z)
    have w2 := w
    subst e
    rw [nI_leI (by omega) hj] at w2
    have vi : vp_in (nI (32 * md + j)) 64 := vp_in_nI (by omega) (by omega)
    have eo : (32 : Int32) * nI md + nI j = nI (32 * md + j) := ir_32m md j
    rw [ir_m32]
    refine ⟨vi, yy _ ⟨fun _ => ⟨fun w' => absurd w' w, fun _ => ?_⟩, fun z' => absurd z z'⟩⟩
    rw [eo]
    exact ⟨vi, rfl⟩
  · refine br_c (fun _ => ⟨rfl, hR⟩) (fun z => br_c (fun _ => ⟨rfl, hR⟩) (fun w => absurd ?_ m))
    obtain ⟨j, hj, e⟩ := ir_md (m := 1) (by decide) z w
    rcases (show j = 0 ∨ j = 1 by omega) with q | q
    · exact Or.inl (by rw [e, q])
    · exact Or.inr (by rw [e, q])
theorem ir_q_cell (g : ir_Gd nl vl ol c kd xs ys zs nx nd) (hR : R) : wpX_cell (fun r => wpY_cell (fun r' => r' = r ∧ R) (nI nl, nI vl, nI ol, nI c, cl, nd, it, va, st, ou, lk, mk, dY, lY, se) v1 v2) (nI nl, nI vl, nI ol, nI c, cl, rc, kd, xs, ys, zs, nx, su, pr, dm, lo, wr, sp, hm, bs, fa, cr, ic, it, va, st, ou, cd, mk) v1 v2 := by
  have c16 : c ≤ 16 := by
    have := g.1
    omega
  have hN := g.2.1
  unfold wpX_cell
  rcases ir_ex3 v1 (c := c) (by omega) with z | ⟨n, hn, e⟩
  · refine ir_x_exn z (br_t rfl ?_)
    unfold wpY_cell
    exact ir_y_exn z (br_t rfl ⟨rfl, hR⟩)
  · subst e
    have vn : vp_in (nI n) 16 := vp_in_nI (by omega) (by omega)
    have yy : ∀ (r : Int32) (j : Nat), j < 5 → v2 = nI j → nd (5 * n + j) = r → wpY_cell (fun r' => r' = r ∧ R) (nI nl, nI vl, nI ol, nI c, cl, nd, it, va, st, ou, lk, mk, dY, lY, se) (nI n) v2 := by
      intro r j hj e er
      have m := ir_no3 (m := 4) (j := j) (by decide) (by omega) e
      subst e
      unfold wpY_cell
      refine ir_y_ex hn (by omega) (br_f ir_10 (br_f m.1 (br_f m.2 ?_)))
      rw [ir_c5 (by omega) hj]
      exact ⟨ir_v5 (by omega) hj, er, hR⟩
    refine ir_x_ex hn (by omega) (br_f ir_10 ?_)
    rw [nI_clamp (show n < 2 ^ 31 by omega)]
    refine br_c (fun e0 => ⟨vn, yy _ 0 (by decide) e0 (hN n).1⟩) (fun n0 => br_c (fun e1 => ⟨vn, yy _ 1 (by decide) e1 (hN n).2.1⟩) (fun n1 => br_c (fun e2 => ⟨vn, yy _ 2 (by decide) e2 (hN n).2.2.1⟩) (fun n2 => br_c (fun e3 => ⟨vn, yy _ 3 (by decide) e3 (hN n).2.2.2.1⟩) (fun n3 => br_c (fun e4 => ⟨vn, yy _ 4 (by decide) e4 (hN n).2.2.2.2⟩) (fun n4 => ?_)))))
    unfold wpY_cell
    refine ir_y_ex hn (by omega) (br_f ir_10 (br_c (fun _ => ⟨rfl, hR⟩) (fun a => br_c (fun _ => ⟨rfl, hR⟩) (fun b => ?_))))
    obtain ⟨j, hj, e⟩ := ir_md (m := 4) (by decide) a b
    exfalso
    rcases (show j = 0 ∨ j = 1 ∨ j = 2 ∨ j = 3 ∨ j = 4 by omega) with q | q | q | q | q <;> rw [q] at e
    · exact n0 e
    · exact n1 e
    · exact n2 e
    · exact n3 e
    · exact n4 e
theorem ir_q_dom (hS : cl = 0 ∨ ir_SS nl vl ol c cl rc kd xs ys zs nx nd dm lo wr sp hm bs fa cr ic lk dY lY) (hc : c ≤ 16) (hR : R) : wpX_dominates (fun r => wpY_dominates (fun r' => r' = r ∧ R) (nI nl, nI vl, nI ol, nI c, cl, nd, it, va, st, ou, lk, mk, dY, lY, se) v1 v2) (nI nl, nI vl, nI ol, nI c, cl, rc, kd, xs, ys, zs, nx, su, pr, dm, lo, wr, sp, hm, bs, fa, cr, ic, it, va, st, ou, cd, mk) v1 v2 := by
  by_cases z : cl = 0
  · exact br_t z (br_t z ⟨rfl, hR⟩)
  · have S := hS.resolve_left z
    refine br_f z ?_
    rcases ir_ex3 v1 (c := c) (by omega) with a | ⟨n, hn, e⟩
    · exact ir_x_exn a (br_t rfl (br_f z (ir_y_exn a (br_t rfl ⟨rfl, hR⟩))))
    · subst e
      refine ir_x_ex hn (by omega) (br_f ir_10 ?_)
      rcases ir_ex3 v2 (c := c) (by omega) with a | ⟨j, hj, e⟩
      · exact ir_x_exn a (br_t rfl (br_f z (ir_y_ex hn (by omega) (br_f ir_10 (ir_y_exn a (br_t rfl ⟨rfl, hR⟩))))))
      · subst e
        have yx := S.2.2.2.2.2.1.1 n j (by omega) (by omega)
        have yy : ∀ r : Int32, (bt (dm n) j = true → r = 1) → (bt (dm n) j = false → r = 0) → wpY_dominates (fun r' => r' = r ∧ R) (nI nl, nI vl, nI ol, nI c, cl, nd, it, va, st, ou, lk, mk, dY, lY, se) (nI n) (nI j) := by
          intro r a b
          refine br_f z (ir_y_ex hn (by omega) (br_f ir_10 (ir_y_ex hj (by omega) (br_f ir_10 ⟨ir_v16 (by omega) (by omega), ?_⟩))))
          rw [ir_c16 (by omega) (by omega)]
          exact br_c (fun q => ⟨(b (ir_nt fun w => yx.mpr w q)).symm, hR⟩) (fun q => ⟨(a (yx.mp q)).symm, hR⟩)
        refine ir_x_ex hj (by omega) (br_f ir_10 ⟨vp_in_nI (by omega) (by omega), ?_⟩)
        rw [nI_clamp (show n < 2 ^ 31 by omega)]
        exact ir_x_has (by omega) (fun hb => br_f ir_10 (yy _ (fun _ => rfl) (fun w => by rw [hb] at w; cases w))) (fun hb => br_t rfl (yy _ (fun w => by rw [hb] at w; cases w) (fun _ => rfl)))
theorem ir_q_inl (hS : cl = 0 ∨ ir_SS nl vl ol c cl rc kd xs ys zs nx nd dm lo wr sp hm bs fa cr ic lk dY lY) (hc : c ≤ 16) (hR : R) : wpX_inLoop (fun r => wpY_inLoop (fun r' => r' = r ∧ R) (nI nl, nI vl, nI ol, nI c, cl, nd, it, va, st, ou, lk, mk, dY, lY, se) v1 v2) (nI nl, nI vl, nI ol, nI c, cl, rc, kd, xs, ys, zs, nx, su, pr, dm, lo, wr, sp, hm, bs, fa, cr, ic, it, va, st, ou, cd, mk) v1 v2 := by
  by_cases z : cl = 0
  · exact br_t z (br_t z ⟨rfl, hR⟩)
  · have S := hS.resolve_left z
    refine br_f z ?_
    rcases ir_ex3 v1 (c := c) (by omega) with a | ⟨n, hn, e⟩
    · exact ir_x_exn a (br_t rfl (br_f z (ir_y_exn a (br_t rfl ⟨rfl, hR⟩))))
    · subst e
      refine ir_x_ex hn (by omega) (br_f ir_10 ?_)
      rcases ir_ex3 v2 (c := c) (by omega) with a | ⟨j, hj, e⟩
      · exact ir_x_exn a (br_t rfl (br_f z (ir_y_ex hn (by omega) (br_f ir_10 (ir_y_exn a (br_t rfl ⟨rfl, hR⟩))))))
      · subst e
        refine ir_x_ex hj (by omega) (br_f ir_10 ⟨vp_in_nI (by omega) (by omega), ?_⟩)
        rw [nI_clamp (show n < 2 ^ 31 by omega)]
        have yy : ∀ r : Int32, (bt (lo n) j = true → r = 1) → (bt (lo n) j = false → r = 0) → wpY_inLoop (fun r' => r' = r ∧ R) (nI nl, nI vl, nI ol, nI c, cl, nd, it, va, st, ou, lk, mk, dY, lY, se) (nI n) (nI j) :=
          fun r a b => ir_y_inl S.1 (ir_s_Y S) hc hn hj (fun q => ⟨(a q).symm, hR⟩) (fun q => ⟨(b q).symm, hR⟩)
        exact ir_x_has (by omega) (fun hb => br_f ir_10 (yy _ (fun _ => rfl) (fun w => by rw [hb] at w; cases w))) (fun hb => br_t rfl (yy _ (fun w => by rw [hb] at w; cases w) (fun _ => rfl)))
theorem ir_q_role (hS : cl = 0 ∨ ir_SS nl vl ol c cl rc kd xs ys zs nx nd dm lo wr sp hm bs fa cr ic lk dY lY) (hc : c ≤ 16) (hv8 : vl ≤ 8) (hR : R) : wpX_role (fun r => wpY_role (fun r' => r' = r ∧ R) (nI nl, nI vl, nI ol, nI c, cl, nd, it, va, st, ou, lk, mk, dY, lY, se) v1 v2) (nI nl, nI vl, nI ol, nI c, cl, rc, kd, xs, ys, zs, nx, su, pr, dm, lo, wr, sp, hm, bs, fa, cr, ic, it, va, st, ou, cd, mk) v1 v2 := by
  by_cases z : cl = 0
  · refine br_t z ?_
    unfold wpY_role
    exact br_t z (br_t rfl ⟨rfl, hR⟩)
  · have S := hS.resolve_left z
    rcases ir_ex3 v1 (c := c) (by omega) with a | ⟨n, hn, e⟩
    · refine br_f z (ir_x_exn a (br_t rfl ?_))
      unfold wpY_role
      exact br_f z (ir_y_exn a (br_t rfl (br_t rfl ⟨rfl, hR⟩)))
    · subst e
      rcases ir_ex3 v2 (c := vl) (by omega) with a | ⟨j, hj, e⟩
      · refine br_f z (ir_x_ex hn (by omega) (br_f ir_10 (ir_x_varn a (br_t rfl ?_))))
        unfold wpY_role
        exact ir_y_inl S.1 (ir_s_Y S) hc hn hn (fun _ => br_f ir_10 (ir_y_varn a (br_t rfl ⟨rfl, hR⟩))) (fun _ => br_t rfl ⟨rfl, hR⟩)
      · subst e
        exact ir_x_role z hc hv8 hn hj (ir_y_role z (ir_s_N S) (ir_s_Y S) hc hv8 hn hj ⟨rfl, hR⟩)
theorem ir_q_link (hS : cl = 0 ∨ ir_SS nl vl ol c cl rc kd xs ys zs nx nd dm lo wr sp hm bs fa cr ic lk dY lY) (hc : c ≤ 16) (hR : R) : wpX_link (fun r => wpY_link (fun r' => r' = r ∧ R) (nI nl, nI vl, nI ol, nI c, cl, nd, it, va, st, ou, lk, mk, dY, lY, se) v1) (nI nl, nI vl, nI ol, nI c, cl, rc, kd, xs, ys, zs, nx, su, pr, dm, lo, wr, sp, hm, bs, fa, cr, ic, it, va, st, ou, cd, mk) v1 := by
  by_cases z : cl = 0
  · exact br_t z (br_t z ⟨rfl, hR⟩)
  · have S := hS.resolve_left z
    refine br_f z ?_
    rcases ir_ex3 v1 (c := c) (by omega) with a | ⟨n, hn, e⟩
    · exact ir_x_exn a (br_t rfl (br_f z (ir_y_exn a (br_t rfl ⟨rfl, hR⟩))))
    · subst e
      have vn : vp_in (nI n) 16 := vp_in_nI (by omega) (by omega)
      have yy : ∀ r : Int32, lk n = r → wpY_link (fun r' => r' = r ∧ R) (nI nl, nI vl, nI ol, nI c, cl, nd, it, va, st, ou, lk, mk, dY, lY, se) (nI n) := by
        intro r er
        refine br_f z (ir_y_ex hn (by omega) (br_f ir_10 ⟨vn, ?_⟩))
        rw [nI_clamp (show n < 2 ^ 31 by omega)]
        exact ⟨er, hR⟩
      refine ir_x_ex hn (by omega) (br_f ir_10 ⟨vn, ?_⟩)
      rw [nI_clamp (show n < 2 ^ 31 by omega)]
      have K := ir_s_K S n hn
      rcases ir_s_H S hn with h1 | ⟨H, b, f, d⟩
      · refine br_t (by rw [h1]; decide) ⟨vn, yy _ ?_⟩
        by_cases k5 : kd n = 5
        · exact K.2.1 k5
        · have cm : cr n = -1 := by
            rcases ir_s_C S hn with q | ⟨m, w, H, b, f, y, C⟩
            · exact q
            · exact absurd C.2.2.2.2.1 k5
          rw [cm]
          by_cases k4 : kd n = 4
          · rw [K.1 k4, h1]
          · exact K.2.2 k4 k5
      · have hH := d.2.1
        exact br_f (by rw [d.1]; exact nI_pos (by omega)) ⟨vn, yy _ (K.1 d.2.2.2.2.2.2.2.1)⟩
theorem ir_q_kept (hS : (cl = 0 ∧ st 8 = 0) ∨ (ir_SS nl vl ol c cl rc kd xs ys zs nx nd dm lo wr sp hm bs fa cr ic lk dY lY ∧ ir_DV c vl ol kd xs ys zs nx hm bs fa cr ic va st cd mk)) (hc : c ≤ 16) (hR : R) : wpX_kept (fun r => wpY_kept (fun r' => r' = r ∧ R) (nI nl, nI vl, nI ol, nI c, cl, nd, it, va, st, ou, lk, mk, dY, lY, se) v1) (nI nl, nI vl, nI ol, nI c, cl, rc, kd, xs, ys, zs, nx, su, pr, dm, lo, wr, sp, hm, bs, fa, cr, ic, it, va, st, ou, cd, mk) v1 := by
  unfold wpX_kept
  by_cases z : cl = 0
  · have s8 : st 8 = 0 := by
      rcases hS with q | q
      · exact q.2
      · exact absurd z q.1.1
    have yy : ∀ r : Int32, r = 0 → wpY_kept (fun r' => r' = r ∧ R) (nI nl, nI vl, nI ol, nI c, cl, nd, it, va, st, ou, lk, mk, dY, lY, se) v1 := by
      intro r e
      subst e
      unfold wpY_kept
      exact br_t z (br_t (by decide) ⟨rfl, hR⟩)
    rcases ir_ex3 v1 (c := c) (by omega) with a | ⟨n, hn, e⟩
    · exact ir_x_exn a (br_t rfl (yy _ rfl))
    · subst e
      exact ir_x_ex hn (by omega) (br_f ir_10 (br_t s8 (yy _ rfl)))
  · obtain ⟨S, D⟩ := hS.resolve_left (fun q => z q.1)
    rcases ir_ex3 v1 (c := c) (by omega) with a | ⟨n, hn, e⟩
    · refine ir_x_exn a (br_t rfl ?_)
      unfold wpY_kept
      exact br_f z (ir_y_exn a (br_t rfl (br_t (by decide) ⟨rfl, hR⟩)))
    · subst e
      have vn : vp_in (nI n) 16 := vp_in_nI (by omega) (by omega)
      refine ir_x_ex hn (by omega) (br_f ir_10 ?_)
      rw [nI_clamp (show n < 2 ^ 31 by omega)]
      rcases ir_s_H S hn with h1 | ⟨H, b, f, d⟩
      · have eba : ir_ba hm bs n = -1 := by
          unfold ir_ba
          rw [h1, if_pos (by decide)]
        have yy : ∀ r : Int32, r = 0 → wpY_kept (fun r' => r' = r ∧ R) (nI nl, nI vl, nI ol, nI c, cl, nd, it, va, st, ou, lk, mk, dY, lY, se) (nI n) := by
          intro r e
          subst e
          unfold wpY_kept
          refine ir_y_bas S hn ?_
          rw [eba]
          exact br_t (by decide) ⟨rfl, hR⟩
        exact br_c (fun _ => yy _ rfl) (fun _ => ⟨vn, br_f (by rw [h1]; decide) (yy _ rfl)⟩)
      · have d0 := d
        obtain ⟨h1, h2, h3, h4, h5, h6, h7, h8, h9, _⟩ := d
        have v8 := ir_s_v S
        obtain ⟨y, w, hy, hw, ey, ew⟩ := ir_s_M S n hn h8
        obtain ⟨p, q, hp, rp, ep, hq, eq⟩ := D.1 1 (by decide)
        have ep' : st 9 = nI p := ep
        have eba : ir_ba hm bs n = nI b := by
          unfold ir_ba
          rw [if_neg (show ¬ hm n < 0 by rw [h1]; exact nI_pos (by omega)), h3]
        have yx := (ir_s_Y S).1 H p (by omega) (by omega)
        have yy : ∀ r : Int32, (st 8 = 0 → r = 0) → (¬ st 8 = 0 → bt (lo H) p = false → r = 0) → (¬ st 8 = 0 → bt (lo H) p = true → r = va (8 + y) * va (8 + w)) → wpY_kept (fun r' => r' = r ∧ R) (nI nl, nI vl, nI ol, nI c, cl, nd, it, va, st, ou, lk, mk, dY, lY, se) (nI n) := by
          intro r a1 a2 a3
          unfold wpY_kept
          refine ir_y_bas S hn ?_
          rw [eba, nI_clamp (show n < 2 ^ 31 by omega), (ir_s_K S n hn).1 h8, h1, ep', ir_c16 (by omega) (by omega), ir_n2 (ir_s_N S) (by omega), ir_n3 (ir_s_N S) (by omega), ey, ew, ir_8p, ir_8p, nI_clamp (show 8 + y < 2 ^ 31 by omega), nI_clamp (show 8 + w < 2 ^ 31 by omega)]
          exact br_f (nI_pos (by omega)) (br_c (fun g => ⟨(a1 g).symm, hR⟩) (fun g => ⟨vn, ir_v16 (by omega) (by omega), br_c (fun l => ⟨(a2 g (ir_nt fun t => yx.mpr t l)).symm, hR⟩) (fun l => ⟨ir_v5 (j := 2) (by omega) (by decide), vp_in_nI (by omega) (by omega), ir_v5 (j := 3) (by omega) (by decide), vp_in_nI (by omega) (by omega), (a3 g (yx.mp l)).symm, hR⟩)⟩))
        refine br_c (fun g => yy _ (fun _ => rfl) (fun g' => absurd g g') (fun g' => absurd g g')) (fun g => ⟨vn, ?_⟩)
        rw [h1, nI_clamp (show H < 2 ^ 31 by omega), ep']
        refine br_t (nI_pos' (by omega)) ⟨vn, vp_in_nI (by omega) (by omega), ir_x_has (by omega) (fun hb => br_f ir_10 ⟨vn, yy _ (fun g' => absurd g' g) (fun _ w => by rw [hb] at w; cases w) (fun _ _ => ?_)⟩) (fun hb => br_t rfl (yy _ (fun _ => rfl) (fun _ _ => rfl) (fun _ w => by rw [hb] at w; cases w)))⟩
        exact ir_prod v8 hn d0 ey ew hy hw ((ir_s_L S H p).mp hb) (D.2 g p hp ep').1
theorem ir_q_moved (hS : (cl = 0 ∧ st 8 = 0) ∨ (ir_SS nl vl ol c cl rc kd xs ys zs nx nd dm lo wr sp hm bs fa cr ic lk dY lY ∧ ir_DV c vl ol kd xs ys zs nx hm bs fa cr ic va st cd mk)) (hc : c ≤ 16) (hR : R) : wpX_moved (fun r => wpY_moved (fun r' => r' = r ∧ R) (nI nl, nI vl, nI ol, nI c, cl, nd, it, va, st, ou, lk, mk, dY, lY, se) v1) (nI nl, nI vl, nI ol, nI c, cl, rc, kd, xs, ys, zs, nx, su, pr, dm, lo, wr, sp, hm, bs, fa, cr, ic, it, va, st, ou, cd, mk) v1 := by
  unfold wpX_moved
  by_cases z : cl = 0
  · have s8 : st 8 = 0 := by
      rcases hS with q | q
      · exact q.2
      · exact absurd z q.1.1
    rcases ir_ex3 v1 (c := c) (by omega) with a | ⟨n, hn, e⟩
    · exact ir_x_exn a (br_t rfl (br_t z ⟨rfl, hR⟩))
    · subst e
      exact ir_x_ex hn (by omega) (br_f ir_10 (br_t s8 (br_t z ⟨rfl, hR⟩)))
  · obtain ⟨S, D⟩ := hS.resolve_left (fun q => z q.1)
    rcases ir_ex3 v1 (c := c) (by omega) with a | ⟨n, hn, e⟩
    · exact ir_x_exn a (br_t rfl (br_f z (ir_y_exn a (br_t rfl ⟨rfl, hR⟩))))
    · subst e
      have vn : vp_in (nI n) 16 := vp_in_nI (by omega) (by omega)
      refine ir_x_ex hn (by omega) (br_f ir_10 ?_)
      rw [nI_clamp (show n < 2 ^ 31 by omega)]
      have K := ir_s_K S n hn
      obtain ⟨p, q, hp, rp, ep, hq, eq⟩ := D.1 1 (by decide)
      have ep' : st 9 = nI p := ep
      rcases ir_s_C S hn with h1 | ⟨m, w, H, b, f, y, C⟩
      · have yy : ∀ r : Int32, r = 0 → wpY_moved (fun r' => r' = r ∧ R) (nI nl, nI vl, nI ol, nI c, cl, nd, it, va, st, ou, lk, mk, dY, lY, se) (nI n) := by
          intro r e
          subst e
          refine br_f z (ir_y_ex hn (by omega) (br_f ir_10 ⟨ir_v5 (j := 0) (by omega) (by decide), ?_⟩))
          rw [ir_n0 (ir_s_N S) (by omega), nI_clamp (show n < 2 ^ 31 by omega)]
          refine br_c (fun k5 => ⟨vn, br_t ?_ ⟨rfl, hR⟩⟩) (fun _ => ⟨rfl, hR⟩)
          rw [K.2.1 k5, h1]
          decide
        exact br_c (fun _ => yy _ rfl) (fun _ => ⟨vn, br_t (by rw [h1]; decide) (yy _ rfl)⟩)
      · have n0 : ¬ cr n < 0 := by rw [C.1]; exact nI_pos (by have := C.2.1; omega)
        have k5 := C.2.2.2.2.1
        have yx := (ir_s_Y S).1 n p (by omega) (by omega)
        have yy : ∀ r : Int32, (st 8 = 0 → r = 0) → (bt (lo n) p = false → r = 0) → (mk n = 0 → r = 0) → (¬ st 8 = 0 → bt (lo n) p = true → ¬ mk n = 0 → r = 1) → wpY_moved (fun r' => r' = r ∧ R) (nI nl, nI vl, nI ol, nI c, cl, nd, it, va, st, ou, lk, mk, dY, lY, se) (nI n) := by
          intro r a1 a2 a3 a4
          refine br_f z (ir_y_ex hn (by omega) (br_f ir_10 ⟨ir_v5 (j := 0) (by omega) (by decide), ?_⟩))
          rw [ir_n0 (ir_s_N S) (by omega), nI_clamp (show n < 2 ^ 31 by omega), K.2.1 k5, ep', ir_c16 (by omega) (by omega)]
          exact br_t k5 ⟨vn, br_f n0 (br_c (fun g => ⟨(a1 g).symm, hR⟩) (fun g => ⟨ir_v16 (by omega) (by omega), br_c (fun l => ⟨(a2 (ir_nt fun t => yx.mpr t l)).symm, hR⟩) (fun l => ⟨vn, br_c (fun t => ⟨(a3 t).symm, hR⟩) (fun t => ⟨(a4 g (yx.mp l) t).symm, hR⟩)⟩)⟩))⟩
        refine br_c (fun g => yy _ (fun _ => rfl) (fun _ => rfl) (fun _ => rfl) (fun g' => absurd g g')) (fun g => ⟨vn, br_f n0 ⟨vn, br_c (fun t => yy _ (fun _ => rfl) (fun _ => rfl) (fun _ => rfl) (fun _ _ t' => absurd t t')) (fun t => ⟨vn, ?_⟩)⟩⟩)
        rw [ep']
        exact ir_x_has (by omega) (fun hb => br_f ir_10 (yy _ (fun g' => absurd g' g) (fun w => by rw [hb] at w; cases w) (fun t' => absurd t' t) (fun _ _ _ => rfl))) (fun hb => br_t rfl (yy _ (fun _ => rfl) (fun _ => rfl) (fun _ => rfl) (fun _ w => by rw [hb] at w; cases w)))
end
end
section
/-! editing -/
/-- the reference's five cells of a new node -/
def ir_p5 (nd : Nat → Int32) (c : Nat) (k x y z t : Int32) : Nat → Int32 := upd (upd (upd (upd (upd nd (5 * c) k) (5 * c + 1) x) (5 * c + 2) y) (5 * c + 3) z) (5 * c + 4) t
section
variable {nl vl ol c : Nat} {cl rc : Int32} {kd xs ys zs nx su pr dm lo wr sp hm bs fa cr ic it va st ou cd mk nd lk dY lY se : Nat → Int32}
theorem ir_x_a82 {post : Int32 → SX → Prop} {k x y z uy uz : Int32} (hc : c < 16)
    (hp : post (nI c) (nI nl, nI vl, nI ol, nI (c + 1), cl, rc, upd kd c k, upd xs c (if k = 0 then 0 else x), upd ys c (if uy = 0 then 0 else y), upd zs c (if uz = 0 then 0 else z), upd nx c (nI (c + 1)), su, pr, dm, lo, wr, sp, hm, bs, fa, cr, ic, it, va, st, ou, cd, mk)) :
    wX_add_82 post k x y z (nI c) uy uz (nI nl) (nI vl) (nI ol) (nI c) cl rc kd xs ys zs nx su pr dm lo wr sp hm bs fa cr ic it va st ou cd mk := by
  have hin : vp_in (nI c) 16 := vp_in_nI hc (by omega)
  have cc : (nI c).toNatClampNeg = c := nI_clamp (by omega)
  have j142 : ∀ zz, zz = (if uz = 0 then 0 else z) → wX_add_142 post (nI c) zz (nI c) (nI nl) (nI vl) (nI ol) (nI c) cl rc (upd kd c k) (upd xs c (if k = 0 then 0 else x)) (upd ys c (if uy = 0 then 0 else y)) zs nx su pr dm lo wr sp hm bs fa cr ic it va st ou cd mk := by
    intro zz e
    subst e
    unfold wX_add_142
    rw [cc, nI_1]
    exact ⟨hin, nm_e ⟨hin, nm_e (nm_e hp)⟩⟩
  have j124 : ∀ yy, yy = (if uy = 0 then 0 else y) → wX_add_124 post z (nI c) uz yy (nI c) (nI nl) (nI vl) (nI ol) (nI c) cl rc (upd kd c k) (upd xs c (if k = 0 then 0 else x)) ys zs nx su pr dm lo wr sp hm bs fa cr ic it va st ou cd mk := by
    intro yy e
    subst e
    unfold wX_add_124
    rw [cc]
    exact ⟨hin, nm_e (br_c (fun q => j142 0 (by rw [if_pos q])) (fun q => j142 z (by rw [if_neg q])))⟩
  have j107 : ∀ xx, xx = (if k = 0 then 0 else x) → wX_add_107 post y z (nI c) uy uz xx (nI c) (nI nl) (nI vl) (nI ol) (nI c) cl rc (upd kd c k) xs ys zs nx su pr dm lo wr sp hm bs fa cr ic it va st ou cd mk := by
    intro xx e
    subst e
    unfold wX_add_107
    rw [cc]
    exact ⟨hin, nm_e (br_c (fun q => j124 0 (by rw [if_pos q])) (fun q => j124 y (by rw [if_neg q])))⟩
  unfold wX_add_82
  rw [cc]
  exact ⟨hin, nm_e (br_c (fun q => j107 0 (by rw [if_pos q])) (fun q => j107 x (by rw [if_neg q])))⟩
theorem ir_y_a116 {post : Int32 → SY → Prop} {k x y z uy : Int32} (hc : c < 16)
    (hp : post (nI c) (nI nl, nI vl, nI ol, nI (c + 1), cl, ir_p5 nd c k (if k = 0 then 0 else x) (if uy = 0 then 0 else y) (if k = 0 ∨ k = 6 then 0 else z) (nI (c + 1)), it, va, st, ou, lk, mk, dY, lY, se)) : wY_add_116 post k x y z uy (nI nl) (nI vl) (nI ol) (nI c) cl nd it va st ou lk mk dY lY se := by
  have e0 : (5 : Int32) * nI c + 0 = nI (5 * c + 0) := ir_5 c 0
  have e1 : (5 : Int32) * nI c + 1 = nI (5 * c + 1) := ir_5 c 1
  have e2 : (5 : Int32) * nI c + 2 = nI (5 * c + 2) := ir_5 c 2
  have e3 : (5 : Int32) * nI c + 3 = nI (5 * c + 3) := ir_5 c 3
  have e4 : (5 : Int32) * nI c + 4 = nI (5 * c + 4) := ir_5 c 4
  have v : ∀ j, j < 5 → vp_in (nI (5 * c + j)) 80 := fun j hj => vp_in_nI (by omega) (by omega)
  have cc : ∀ j, j < 5 → (nI (5 * c + j)).toNatClampNeg = 5 * c + j := fun j hj => nI_clamp (by omega)
  have pr1 : nI (c + 1) - 1 = nI c := nI_pred c
  have j203 : ∀ zz, zz = (if k = 0 ∨ k = 6 then 0 else z) → wY_add_203 post zz (nI (5 * c + 3)) (nI nl) (nI vl) (nI ol) (nI c) cl (upd (upd (upd nd (5 * c) k) (5 * c + 1) (if k = 0 then 0 else x)) (5 * c + 2) (if uy = 0 then 0 else y)) it va st ou lk mk dY lY se := by
    intro zz e
    subst e
    unfold wY_add_203
    rw [e4, cc 3 (by decide), cc 4 (by decide), nI_1]
    exact ⟨v 3 (by decide), nm_e ⟨v 4 (by decide), nm_e (nm_r rfl (by rw [pr1]; exact hp))⟩⟩
  have j174 : ∀ yy, yy = (if uy = 0 then 0 else y) → wY_add_174 post k z yy (nI (5 * c + 2)) (nI nl) (nI vl) (nI ol) (nI c) cl (upd (upd nd (5 * c) k) (5 * c + 1) (if k = 0 then 0 else x)) it va st ou lk mk dY lY se := by
    intro yy e
    subst e
    unfold wY_add_174
    rw [e3, cc 2 (by decide)]
    exact ⟨v 2 (by decide), nm_e (br_c (fun q => j203 0 (by rw [if_pos (Or.inl q)])) (fun q => br_c (fun q' => j203 0 (by rw [if_pos (Or.inr q')])) (fun q' => j203 z (by rw [if_neg (fun w => w.elim q q')]))))⟩
  have j151 : ∀ xx, xx = (if k = 0 then 0 else x) → wY_add_151 post k y z uy xx (nI (5 * c + 1)) (nI nl) (nI vl) (nI ol) (nI c) cl (upd nd (5 * c) k) it va st ou lk mk dY lY se := by
    intro xx e
    subst e
    unfold wY_add_151
    rw [e2, cc 1 (by decide)]
    exact ⟨v 1 (by decide), nm_e (br_c (fun q => j174 0 (by rw [if_pos q])) (fun q => j174 y (by rw [if_neg q])))⟩
  unfold wY_add_116
  rw [e0, e1, cc 0 (by decide)]
  exact ⟨v 0 (by decide), nm_e (br_c (fun q => j151 0 (by rw [if_pos q])) (fun q => j151 x (by rw [if_neg q])))⟩
/-- the graph with one node more -/
theorem ir_Gadd {k x y t : Nat} {z : Int32} (g : ir_Gd nl vl ol c kd xs ys zs nx nd) (hc : c < nl) (hk : k ≤ 6) (hx : x < vl) (hy : y < vl) (h34 : (k = 3 ∨ k = 4) → ∃ w, w < vl ∧ z = nI w) (h5 : k = 5 → ∃ w, w ≤ 16 ∧ z = nI w) (ht : t ≤ 16) :
    ir_Gd nl vl ol (c + 1) (upd kd c (nI k)) (upd xs c (nI x)) (upd ys c (nI y)) (upd zs c z) (upd nx c (nI t)) (ir_p5 nd c (nI k) (nI x) (nI y) z (nI t)) := by
  obtain ⟨g1, g2, g3, g4, g5, g6, g7, g8⟩ := g
  refine ⟨⟨g1.1, g1.2.1, g1.2.2.1, g1.2.2.2.1, g1.2.2.2.2.1, g1.2.2.2.2.2.1, by omega⟩, fun n => ?_, fun n hn => ?_, fun n hn => ?_, fun n hn => ?_, fun n hn q => ?_, fun n hn q => ?_, fun n hn => ?_⟩
  · unfold ir_p5
    by_cases e : n = c
    · subst e
      refine ⟨?_, ?_, ?_, ?_, ?_⟩
      · rw [pk_un (by omega), pk_un (by omega), pk_un (by omega), pk_un (by omega), pk_us, pk_us]
      · rw [pk_un (by omega), pk_un (by omega), pk_un (by omega), pk_us, pk_us]
      · rw [pk_un (by omega), pk_un (by omega), pk_us, pk_us]
      · rw [pk_un (by omega), pk_us, pk_us]
      · rw [pk_us, pk_us]
    · have a := g2 n
      refine ⟨?_, ?_, ?_, ?_, ?_⟩
      · rw [pk_un (by omega), pk_un (by omega), pk_un (by omega), pk_un (by omega), pk_un (by omega), pk_un e]
        exact a.1
      · rw [pk_un (by omega), pk_un (by omega), pk_un (by omega), pk_un (by omega), pk_un (by omega), pk_un e]
        exact a.2.1
      · rw [pk_un (by omega), pk_un (by omega), pk_un (by omega), pk_un (by omega), pk_un (by omega), pk_un e]
        exact a.2.2.1
      · rw [pk_un (by omega), pk_un (by omega), pk_un (by omega), pk_un (by omega), pk_un (by omega), pk_un e]
        exact a.2.2.2.1
      · rw [pk_un (by omega), pk_un (by omega), pk_un (by omega), pk_un (by omega), pk_un (by omega), pk_un e]
        exact a.2.2.2.2
  · rw [pk_un (by omega)]
    exact g3 n (by omega)
  · by_cases e : n = c
    · subst e
      rw [pk_us, pk_us]
      exact ⟨x, y, hx, hy, rfl, rfl⟩
    · rw [pk_un e, pk_un e]
      exact g4 n (by omega)
  · by_cases e : n = c
    · subst e
      rw [pk_us]
      exact ⟨t, ht, rfl⟩
    · rw [pk_un e]
      exact g5 n (by omega)
  · by_cases e : n = c
    · subst e
      rw [pk_us] at q ⊢
      refine h34 (q.elim (fun w => Or.inl ?_) (fun w => Or.inr ?_))
      · exact ir_nI_inj (b := 3) (by omega) (by decide) w
      · exact ir_nI_inj (b := 4) (by omega) (by decide) w
    · rw [pk_un e] at q ⊢
      exact g6 n (by omega) q
  · by_cases e : n = c
    · subst e
      rw [pk_us] at q ⊢
      exact h5 (ir_nI_inj (b := 5) (by omega) (by decide) q)
    · rw [pk_un e] at q ⊢
      exact g7 n (by omega) q
  · by_cases e : n = c
    · subst e
      rw [pk_us]
      exact ⟨k, hk, rfl⟩
    · rw [pk_un e]
      exact g8 n (by omega)
end
end
section
/-! add, wire, input -/
section
variable {nl vl ol c : Nat} {cl rc : Int32} {kd xs ys zs nx su pr dm lo wr sp hm bs fa cr ic it va st ou cd mk nd lk dY lY se : Nat → Int32}
variable {K : Nat} {v1 v2 v3 v4 : Int32}
theorem ir_x_fit {post : Int32 → SX → Prop} {k : Nat} {x y z uy uz : Int32} (hk : k ≤ 6) (huy : uy = if 2 ≤ k ∧ k ≤ 5 then 1 else 0) (huz : uz = if 1 ≤ k ∧ k ≤ 5 then 1 else 0) (h : wX_add_82 post (nI k) x y z (nI c) uy uz (nI nl) (nI vl) (nI ol) (nI c) cl rc kd xs ys zs nx su pr dm lo wr sp hm bs fa cr ic it va st ou cd mk) :
    ((nI k < 2 → wX_add_64 post (nI k) x y z (nI c) (nI nl) (nI vl) (nI ol) (nI c) cl rc kd xs ys zs nx su pr dm lo wr sp hm bs fa cr ic it va st ou cd mk) ∧ (¬ nI k < 2 → ((5 < nI k → wX_add_64 post (nI k) x y z (nI c) (nI nl) (nI vl) (nI ol) (nI c) cl rc kd xs ys zs nx su pr dm lo wr sp hm bs fa cr ic it va st ou cd mk) ∧ (¬ 5 < nI k → wX_add_65 post (nI k) x y z (nI c) 1 (nI nl) (nI vl) (nI ol) (nI c) cl rc kd xs ys zs nx su pr dm lo wr sp hm bs fa cr ic it va st ou cd mk)))) := by
  have j65 : wX_add_65 post (nI k) x y z (nI c) uy (nI nl) (nI vl) (nI ol) (nI c) cl rc kd xs ys zs nx su pr dm lo wr sp hm bs fa cr ic it va st ou cd mk := by
    by_cases a : k < 1
    · rw [if_neg (by omega)] at huz
      subst huz
      exact br_t (nI_lt (b := 1) a (by decide)) h
    · refine br_f (nI_nlt (b := 1) (by omega) (by omega)) ?_
      by_cases b : 5 < k
      · rw [if_neg (by omega)] at huz
        subst huz
        exact br_t (nI_lt (a := 5) b (by omega)) h
      · rw [if_pos (by omega)] at huz
        subst huz
        exact br_f (nI_nlt (a := 5) (by omega) (by decide)) h
  by_cases a : k < 2
  · rw [if_neg (by omega)] at huy
    subst huy
    exact br_t (nI_lt (b := 2) a (by decide)) j65
  · refine br_f (nI_nlt (b := 2) (by omega) (by omega)) ?_
    by_cases b : 5 < k
    · rw [if_neg (by omega)] at huy
      subst huy
      exact br_t (nI_lt (a := 5) b (by omega)) j65
    · rw [if_pos (by omega)] at huy
      subst huy
      exact br_f (nI_nlt (a := 5) (by omega) (by decide)) j65
theorem ir_y_fit {post : Int32 → SY → Prop} {k : Nat} {x y z uy : Int32} (hk : k ≤ 6) (huy : uy = if 2 ≤ k ∧ k ≤ 5 then 1 else 0) (h : wY_add_45 post (nI k) x y z uy (nI nl) (nI vl) (nI ol) (nI c) cl nd it va st ou lk mk dY lY se) :
    ((nI k < 2 → wY_add_44 post (nI k) x y z (nI nl) (nI vl) (nI ol) (nI c) cl nd it va st ou lk mk dY lY se) ∧ (¬ nI k < 2 → ((5 < nI k → wY_add_44 post (nI k) x y z (nI nl) (nI vl) (nI ol) (nI c) cl nd it va st ou lk mk dY lY se) ∧ (¬ 5 < nI k → wY_add_45 post (nI k) x y z 1 (nI nl) (nI vl) (nI ol) (nI c) cl nd it va st ou lk mk dY lY se)))) := by
  by_cases a : k < 2
  · rw [if_neg (by omega)] at huy
    subst huy
    exact br_t (nI_lt (b := 2) a (by decide)) h
  · refine br_f (nI_nlt (b := 2) (by omega) (by omega)) ?_
    by_cases b : 5 < k
    · rw [if_neg (by omega)] at huy
      subst huy
      exact br_t (nI_lt (a := 5) b (by omega)) h
    · rw [if_pos (by omega)] at huy
      subst huy
      exact br_f (nI_nlt (a := 5) (by omega) (by decide)) h
/-- the operands fit -/
def ir_fits (nl vl : Nat) (k : Nat) (x y z : Int32) : Prop :=
  (1 ≤ k → ∃ j, j < vl ∧ x = nI j) ∧ ((2 ≤ k ∧ k ≤ 5) → ∃ j, j < vl ∧ y = nI j) ∧ ((k = 3 ∨ k = 4) → ∃ j, j < vl ∧ z = nI j) ∧ (k = 5 → ∃ j, j < nl ∧ z = nI j)
theorem ir_fno {x : Int32} {m : Nat} (hm : m < 2 ^ 31) (h : ¬ ∃ j, j < m ∧ x = nI j) : x < 0 ∨ nI m ≤ x := by
  rcases ir_ex3 x hm with z | z
  · exact z
  · exact absurd z h
theorem ir_fyes {x : Int32} {m : Nat} (hm : m < 2 ^ 31) (h : x < 0 ∨ nI m ≤ x) : ¬ ∃ j, j < m ∧ x = nI j := by
  rintro ⟨j, hj, e⟩
  subst e
  rcases h with z | z
  · exact nI_pos (by omega) z
  · exact nI_ge hj hm z
theorem ir_x_opf {post : Int32 → Prop} {k : Nat} (hk : k ≤ 6) (hv : vl < 2 ^ 31) (hn : nl < 2 ^ 31) (h1 : ir_fits nl vl k v2 v3 v4 → post 1) (h0 : ¬ ir_fits nl vl k v2 v3 v4 → post 0) : wpX_operandsFit post (nI nl, nI vl, nI ol, nI c, cl, rc, kd, xs, ys, zs, nx, su, pr, dm, lo, wr, sp, hm, bs, fa, cr, ic, it, va, st, ou, cd, mk) (nI k) v2 v3 v4 := by
  unfold wpX_operandsFit
  dsimp only
  have ne : ∀ j, j ≤ 6 → k ≠ j → ¬ nI k = nI j := fun j hj h e => h (ir_nI_inj (by omega) (by omega) e)
  by_cases k0 : k = 0
  · subst k0
    exact br_t rfl (h1 ⟨fun q => absurd q (by omega), fun q => absurd q (by omega), fun q => absurd q (by omega), fun q => absurd q (by omega)⟩)
  · refine br_f (ne 0 (by decide) k0) ?_
    by_cases a : ∃ j, j < vl ∧ v2 = nI j
    · obtain ⟨j, hj, e⟩ := id a
      rw [e]
      refine ir_x_var hj hv (br_f ir_10 ?_)
      by_cases k1 : k = 1
      · subst k1
        exact br_t rfl (h1 ⟨fun _ => a, fun q => absurd q (by omega), fun q => absurd q (by omega), fun q => absurd q (by omega)⟩)
      · refine br_f (ne 1 (by decide) k1) ?_
        by_cases k6 : k = 6
        · subst k6
          exact br_t rfl (h1 ⟨fun _ => a, fun q => absurd q (by omega), fun q => absurd q (by omega), fun q => absurd q (by omega)⟩)
        · refine br_f (ne 6 (by decide) k6) ?_
          by_cases b : ∃ j, j < vl ∧ v3 = nI j
          · obtain ⟨j2, hj2, e2⟩ := id b
            rw [e2]
            refine ir_x_var hj2 hv (br_f ir_10 ?_)
            by_cases k5 : k = 5
            · subst k5
              refine br_t rfl (br_c (fun z => h0 fun q => ir_fyes hn (Or.inl z) (q.2.2.2 rfl)) (fun z => br_c (fun w => h0 fun q => ir_fyes hn (Or.inr w) (q.2.2.2 rfl)) (fun w => h1 ⟨fun _ => a, fun _ => b, fun q => absurd q (by omega), fun _ => ?_⟩)))
              exact Classical.byContradiction fun n => (ir_fno hn n).elim z w
            · refine br_f (ne 5 (by decide) k5) ?_
              by_cases k2 : k = 2
              · subst k2
                exact br_t rfl (h1 ⟨fun _ => a, fun _ => b, fun q => absurd q (by omega), fun q => absurd q (by omega)⟩)
              · refine br_f (ne 2 (by decide) k2) ?_
                by_cases d : ∃ j, j < vl ∧ v4 = nI j
                · obtain ⟨j3, hj3, e3⟩ := id d
                  rw [e3]
                  rw [e3] at d h1
                  exact ir_x_var hj3 hv (br_f ir_10 (h1 ⟨fun _ => a, fun _ => b, fun _ => d, fun q => absurd q k5⟩))
                · exact ir_x_varn (ir_fno hv d) (br_t rfl (h0 fun q => d (q.2.2.1 (by omega))))
          · exact ir_x_varn (ir_fno hv b) (br_t rfl (h0 fun q => b (q.2.1 (by omega))))
    · exact ir_x_varn (ir_fno hv a) (br_t rfl (h0 fun q => a (q.1 (by omega))))
theorem ir_y_45 {post : Int32 → SY → Prop} {k : Nat} {uy : Int32} (hk : k ≤ 6) (hv : vl < 2 ^ 31) (hn : nl < 2 ^ 31) (huy : uy = if 2 ≤ k ∧ k ≤ 5 then 1 else 0)
    (h1 : ir_fits nl vl k v2 v3 v4 → wY_add_116 post (nI k) v2 v3 v4 uy (nI nl) (nI vl) (nI ol) (nI c) cl nd it va st ou lk mk dY lY se) (h0 : ¬ ir_fits nl vl k v2 v3 v4 → post (-1) (nI nl, nI vl, nI ol, nI c, cl, nd, it, va, st, ou, lk, mk, dY, lY, se)) : wY_add_45 post (nI k) v2 v3 v4 uy (nI nl) (nI vl) (nI ol) (nI c) cl nd it va st ou lk mk dY lY se := by
  have ne : ∀ j, j ≤ 6 → k ≠ j → ¬ nI k = nI j := fun j hj h e => h (ir_nI_inj (by omega) (by omega) e)
  have j95 : (1 ≤ k → ∃ j, j < vl ∧ v2 = nI j) → ((2 ≤ k ∧ k ≤ 5) → ∃ j, j < vl ∧ v3 = nI j) → ((k = 3 ∨ k = 4) → ∃ j, j < vl ∧ v4 = nI j) → wY_add_95 post (nI k) v2 v3 v4 uy (nI nl) (nI vl) (nI ol) (nI c) cl nd it va st ou lk mk dY lY se := by
    intro a b d
    by_cases k5 : k = 5
    · refine br_t (by rw [k5]; rfl) (br_c (fun z => h0 fun q => ir_fyes hn (Or.inl z) (q.2.2.2 k5)) (fun z => br_c (fun w => h1 ⟨a, b, d, fun _ => ?_⟩) (fun w => h0 fun q => ir_fyes hn (Or.inr (Int32.not_lt.mp w)) (q.2.2.2 k5))))
      exact Classical.byContradiction fun n => (ir_fno hn n).elim z (fun g => Int32.not_lt.mpr g w)
    · exact br_f (ne 5 (by decide) k5) (h1 ⟨a, b, d, fun q => absurd q k5⟩)
  have j84 : (k = 3 ∨ k = 4) → (1 ≤ k → ∃ j, j < vl ∧ v2 = nI j) → ((2 ≤ k ∧ k ≤ 5) → ∃ j, j < vl ∧ v3 = nI j) → wY_add_84 post (nI k) v2 v3 v4 uy (nI nl) (nI vl) (nI ol) (nI c) cl nd it va st ou lk mk dY lY se := by
    intro k34 a b
    unfold wY_add_84
    by_cases d : ∃ j, j < vl ∧ v4 = nI j
    · obtain ⟨j3, hj3, e3⟩ := id d
      have J := j95 a b (fun _ => d)
      rw [e3] at J ⊢
      exact ir_y_var hj3 hv (br_f ir_10 J)
    · exact ir_y_varn (ir_fno hv d) (br_t rfl (h0 fun q => d (q.2.2.1 k34)))
  have j74 : (1 ≤ k → ∃ j, j < vl ∧ v2 = nI j) → ((2 ≤ k ∧ k ≤ 5) → ∃ j, j < vl ∧ v3 = nI j) → wY_add_74 post (nI k) v2 v3 v4 uy (nI nl) (nI vl) (nI ol) (nI c) cl nd it va st ou lk mk dY lY se := by
    intro a b
    by_cases k3 : k = 3
    · exact br_t (by rw [k3]; rfl) (j84 (Or.inl k3) a b)
    · refine br_f (ne 3 (by decide) k3) ?_
      by_cases k4 : k = 4
      · exact br_t (by rw [k4]; rfl) (j84 (Or.inr k4) a b)
      · exact br_f (ne 4 (by decide) k4) (j95 a b fun q => q.elim (fun w => absurd w k3) (fun w => absurd w k4))
  have j59 : (1 ≤ k → ∃ j, j < vl ∧ v2 = nI j) → wY_add_59 post (nI k) v2 v3 v4 uy (nI nl) (nI vl) (nI ol) (nI c) cl nd it va st ou lk mk dY lY se := by
    intro a
    by_cases g : 2 ≤ k ∧ k ≤ 5
    · rw [if_pos g] at huy
      refine br_f (by rw [huy]; decide) ?_
      by_cases b : ∃ j, j < vl ∧ v3 = nI j
      · obtain ⟨j2, hj2, e2⟩ := id b
        have J := j74 a (fun _ => b)
        rw [e2] at J ⊢
        exact ir_y_var hj2 hv (br_f ir_10 J)
      · exact ir_y_varn (ir_fno hv b) (br_t rfl (h0 fun q => b (q.2.1 g)))
    · rw [if_neg g] at huy
      exact br_t huy (j74 a fun q => absurd q g)
  by_cases k0 : k = 0
  · exact br_t (by rw [k0]; rfl) (j59 fun q => absurd q (by omega))
  · refine br_f (ne 0 (by decide) k0) ?_
    by_cases a : ∃ j, j < vl ∧ v2 = nI j
    · obtain ⟨j, hj, e⟩ := id a
      have J := j59 (fun _ => a)
      rw [e] at J ⊢
      exact ir_y_var hj hv (br_f ir_10 J)
    · exact ir_y_varn (ir_fno hv a) (br_t rfl (h0 fun q => a (q.1 (by omega))))
theorem ir_q_add (F : ir_RF nl vl ol c cl rc kd xs ys zs nx su pr dm lo wr sp hm bs fa cr ic it va st ou cd mk nd lk dY lY) : wpX_add (fun r u' => wpY_add (fun r' v' => r' = r ∧ i_Rel K u' v') (nI nl, nI vl, nI ol, nI c, cl, nd, it, va, st, ou, lk, mk, dY, lY, se) v1 v2 v3 v4) (nI nl, nI vl, nI ol, nI c, cl, rc, kd, xs, ys, zs, nx, su, pr, dm, lo, wr, sp, hm, bs, fa, cr, ic, it, va, st, ou, cd, mk) v1 v2 v3 v4 := by
  have g := F.1
  have g1 := g.1
  have rel : i_Rel K (nI nl, nI vl, nI ol, nI c, cl, rc, kd, xs, ys, zs, nx, su, pr, dm, lo, wr, sp, hm, bs, fa, cr, ic, it, va, st, ou, cd, mk) (nI nl, nI vl, nI ol, nI c, cl, nd, it, va, st, ou, lk, mk, dY, lY, se) := ir_in F
  by_cases hcl : cl = 0
  · have O := F.2.resolve_right (fun q => q.1.1 hcl)
    refine br_t hcl (br_c (fun z => br_t hcl (br_t z ⟨rfl, rel⟩)) (fun z => br_c (fun w => br_t hcl (br_f z (br_t w ⟨rfl, rel⟩))) (fun w => br_c (fun l => ?_) (fun l => br_t hcl (br_f z (br_f w (br_f l ⟨rfl, rel⟩)))))))
    obtain ⟨k, hk, e⟩ := ir_md (m := 6) (by decide) z w
    subst e
    have l2 := l
    rw [nI_ltI (by omega) (by omega)] at l2
    refine ir_x_opf hk (by omega) (by omega) (fun fit => br_f ir_10 (ir_x_fit hk rfl rfl (ir_x_a82 (by omega) (br_t hcl (br_f z (br_f w (br_t l (ir_y_fit hk rfl (ir_y_45 hk (by omega) (by omega) rfl (fun _ => ir_y_a116 (by omega) ?_) (fun n => absurd fit n))))))))))
      (fun nfit => br_t rfl (br_t hcl (br_f z (br_f w (br_t l (ir_y_fit hk rfl (ir_y_45 hk (by omega) (by omega) rfl (fun n => absurd n nfit) (fun _ => ⟨rfl, rel⟩))))))))
    refine ⟨rfl, ?_⟩
    have i2 : ∀ j, j ≤ 6 → (nI k = nI j ↔ k = j) := fun j hj => nI_eq (by omega) (by omega)
    obtain ⟨x, hx, ex⟩ : ∃ x, x < vl ∧ (if nI k = 0 then 0 else v2) = nI x := by
      by_cases q : k = 0
      · exact ⟨0, by omega, by rw [q]; rfl⟩
      · obtain ⟨j, hj, ej⟩ := fit.1 (by omega)
        exact ⟨j, hj, by rw [if_neg (show ¬ nI k = 0 from fun w => q ((i2 0 (by decide)).mp w)), ej]⟩
    obtain ⟨y, hy, ey⟩ : ∃ y, y < vl ∧ (if (if 2 ≤ k ∧ k ≤ 5 then (1 : Int32) else 0) = 0 then 0 else v3) = nI y := by
      by_cases q : 2 ≤ k ∧ k ≤ 5
      · obtain ⟨j, hj, ej⟩ := fit.2.1 q
        exact ⟨j, hj, by rw [if_pos q, if_neg ir_10, ej]⟩
      · exact ⟨0, by omega, by rw [if_neg q, if_pos rfl]; rfl⟩
    have ez : (if (if 1 ≤ k ∧ k ≤ 5 then (1 : Int32) else 0) = 0 then 0 else v4) = (if nI k = 0 ∨ nI k = 6 then 0 else v4) := by
      by_cases q : 1 ≤ k ∧ k ≤ 5
      · rw [if_pos q, if_neg ir_10, if_neg (fun w => w.elim (fun g => by have := (i2 0 (by decide)).mp g; omega) (fun g => by have := (i2 6 (by decide)).mp g; omega))]
      · rw [if_neg q, if_pos rfl, if_pos]
        rcases (show k = 0 ∨ k = 6 by omega) with g | g
        · exact Or.inl (by rw [g]; rfl)
        · exact Or.inr (by rw [g]; rfl)
    rw [ex, ey, ez]
    refine ir_in ⟨ir_Gadd g l2 hk hx hy (fun q => ?_) (fun q => ?_) (by omega), Or.inl O⟩
    · rw [if_neg (fun w => w.elim (fun g => by have := (i2 0 (by decide)).mp g; omega) (fun g => by have := (i2 6 (by decide)).mp g; omega))]
      exact fit.2.2.1 q
    · rw [if_neg (fun w => w.elim (fun g => by have := (i2 0 (by decide)).mp g; omega) (fun g => by have := (i2 6 (by decide)).mp g; omega))]
      obtain ⟨j, hj, ej⟩ := fit.2.2.2 q
      exact ⟨j, by omega, ej⟩
  · exact br_f hcl (br_f hcl ⟨rfl, rel⟩)
/-- NEXT of a node is set -/
theorem ir_Gwire {n t : Nat} (g : ir_Gd nl vl ol c kd xs ys zs nx nd) (hn : n < c) (ht : t ≤ 16) : ir_Gd nl vl ol c kd xs ys zs (upd nx n (nI t)) (upd nd (5 * n + 4) (nI t)) := by
  obtain ⟨g1, g2, g3, g4, g5, g6, g7, g8⟩ := g
  refine ⟨g1, fun m => ?_, g3, g4, fun m hm' => ?_, g6, g7, g8⟩
  · have a := g2 m
    refine ⟨?_, ?_, ?_, ?_, ?_⟩
    · rw [pk_un (by omega)]
      exact a.1
    · rw [pk_un (by omega)]
      exact a.2.1
    · rw [pk_un (by omega)]
      exact a.2.2.1
    · rw [pk_un (by omega)]
      exact a.2.2.2.1
    · by_cases e : m = n
      · rw [e, pk_us, pk_us]
      · rw [pk_un e, pk_un (by omega)]
        exact a.2.2.2.2
  · by_cases e : m = n
    · rw [e, pk_us]
      exact ⟨t, ht, rfl⟩
    · rw [pk_un e]
      exact g5 m hm'
theorem ir_q_wire (F : ir_RF nl vl ol c cl rc kd xs ys zs nx su pr dm lo wr sp hm bs fa cr ic it va st ou cd mk nd lk dY lY) : wpX_wire (fun r u' => wpY_wire (fun r' v' => r' = r ∧ i_Rel K u' v') (nI nl, nI vl, nI ol, nI c, cl, nd, it, va, st, ou, lk, mk, dY, lY, se) v1 v2) (nI nl, nI vl, nI ol, nI c, cl, rc, kd, xs, ys, zs, nx, su, pr, dm, lo, wr, sp, hm, bs, fa, cr, ic, it, va, st, ou, cd, mk) v1 v2 := by
  have g := F.1
  have g1 := g.1
  have hN := g.2.1
  have rel : i_Rel K (nI nl, nI vl, nI ol, nI c, cl, rc, kd, xs, ys, zs, nx, su, pr, dm, lo, wr, sp, hm, bs, fa, cr, ic, it, va, st, ou, cd, mk) (nI nl, nI vl, nI ol, nI c, cl, nd, it, va, st, ou, lk, mk, dY, lY, se) := ir_in F
  by_cases hcl : cl = 0
  · have O := F.2.resolve_right (fun q => q.1.1 hcl)
    refine br_t hcl ?_
    rcases ir_ex3 v1 (c := c) (by omega) with a | ⟨n, hn, e⟩
    · exact ir_x_exn a (br_t rfl (br_t hcl (ir_y_exn a (br_t rfl ⟨rfl, rel⟩))))
    · subst e
      have vn : vp_in (nI n) 16 := vp_in_nI (by omega) (by omega)
      have e4 : ((5 : Int32) * nI n + 4).toNatClampNeg = 5 * n + 4 := ir_c5 (j := 4) (by omega) (by decide)
      have yy : ∀ (r : Int32) (u' : SX), (kd n = 0 → r = -1 ∧ i_Rel K u' (nI nl, nI vl, nI ol, nI c, cl, nd, it, va, st, ou, lk, mk, dY, lY, se)) → (¬ kd n = 0 → ((v2 < 0 → r = -1 ∧ i_Rel K u' (nI nl, nI vl, nI ol, nI c, cl, nd, it, va, st, ou, lk, mk, dY, lY, se)) ∧ (¬ v2 < 0 → ((v2 < nI nl → r = 0 ∧ i_Rel K u' (nI nl, nI vl, nI ol, nI c, cl, upd nd (5 * n + 4) v2, it, va, st, ou, lk, mk, dY, lY, se)) ∧ (¬ v2 < nI nl → r = -1 ∧ i_Rel K u' (nI nl, nI vl, nI ol, nI c, cl, nd, it, va, st, ou, lk, mk, dY, lY, se)))))) → wpY_wire (fun r' v' => r' = r ∧ i_Rel K u' v') (nI nl, nI vl, nI ol, nI c, cl, nd, it, va, st, ou, lk, mk, dY, lY, se) (nI n) v2 := by
        intro r u' a b
        refine br_t hcl (ir_y_ex hn (by omega) (br_f ir_10 ⟨ir_v5 (j := 0) (by omega) (by decide), ?_⟩))
        rw [ir_n0 hN (by omega), e4]
        exact br_c (fun q => ⟨(a q).1.symm, (a q).2⟩) (fun q => br_c (fun w => ⟨((b q).1 w).1.symm, ((b q).1 w).2⟩) (fun w => br_c (fun t => ⟨ir_v5 (j := 4) (by omega) (by decide), nm_e ⟨(((b q).2 w).1 t).1.symm, (((b q).2 w).1 t).2⟩⟩) (fun t => ⟨(((b q).2 w).2 t).1.symm, (((b q).2 w).2 t).2⟩)))
      refine ir_x_ex hn (by omega) (br_f ir_10 (br_c (fun w => yy _ _ (fun _ => ⟨rfl, rel⟩) (fun _ => ⟨fun _ => ⟨rfl, rel⟩, fun w' => absurd w w'⟩)) (fun w => br_c (fun t => ⟨vn, ?_⟩) (fun t => yy _ _ (fun _ => ⟨rfl, rel⟩) (fun _ => ⟨fun w' => absurd w' w, fun _ => ⟨fun t' => absurd t' t, fun _ => ⟨rfl, rel⟩⟩⟩)))))
      rw [nI_clamp (show n < 2 ^ 31 by omega)]
      refine br_c (fun q => yy _ _ (fun _ => ⟨rfl, rel⟩) (fun q' => absurd q q')) (fun q => ⟨vn, nm_e (yy _ _ (fun q' => absurd q' q) (fun _ => ⟨fun w' => absurd w' w, fun _ => ⟨fun _ => ⟨rfl, ?_⟩, fun t' => absurd t t'⟩⟩))⟩)
      obtain ⟨j, hj, ej⟩ := nI_of w
      subst ej
      rw [nI_ltI hj (by omega)] at t
      exact ir_in ⟨ir_Gwire g hn (by omega), Or.inl O⟩
  · exact br_f hcl (br_f hcl ⟨rfl, rel⟩)
theorem ir_q_input (F : ir_RF nl vl ol c cl rc kd xs ys zs nx su pr dm lo wr sp hm bs fa cr ic it va st ou cd mk nd lk dY lY) : wpX_input (fun r u' => wpY_input (fun r' v' => r' = r ∧ i_Rel K u' v') (nI nl, nI vl, nI ol, nI c, cl, nd, it, va, st, ou, lk, mk, dY, lY, se) v1 v2) (nI nl, nI vl, nI ol, nI c, cl, rc, kd, xs, ys, zs, nx, su, pr, dm, lo, wr, sp, hm, bs, fa, cr, ic, it, va, st, ou, cd, mk) v1 v2 := by
  have g1 := F.1.1
  have rel : i_Rel K (nI nl, nI vl, nI ol, nI c, cl, rc, kd, xs, ys, zs, nx, su, pr, dm, lo, wr, sp, hm, bs, fa, cr, ic, it, va, st, ou, cd, mk) (nI nl, nI vl, nI ol, nI c, cl, nd, it, va, st, ou, lk, mk, dY, lY, se) := ir_in F
  unfold wpX_input
  dsimp only
  rcases ir_ex3 v1 (c := vl) (by omega) with a | ⟨n, hn, e⟩
  · refine ir_x_varn a (br_t rfl ?_)
    unfold wpY_input
    exact ir_y_varn a (br_t rfl ⟨rfl, rel⟩)
  · subst e
    have vn : vp_in (nI n) 8 := vp_in_nI (by omega) (by omega)
    refine ir_x_var hn (by omega) (br_f ir_10 ⟨vn, nm_e ?_⟩)
    unfold wpY_input
    refine ir_y_var hn (by omega) (br_f ir_10 ⟨vn, nm_e ⟨rfl, ?_⟩⟩)
    exact ir_in F
end
end
section
/-! seal, start, run over the relation -/
section
variable {nl vl ol c : Nat} {cl rc : Int32} {kd xs ys zs nx su pr dm lo wr sp hm bs fa cr ic it va st ou cd mk nd lk dY lY se : Nat → Int32}
variable {K : Nat} {v1 v2 : Int32}
theorem ir_f_c (F : ir_RF nl vl ol c cl rc kd xs ys zs nx su pr dm lo wr sp hm bs fa cr ic it va st ou cd mk nd lk dY lY) : c ≤ 16 := by
  have := F.1.1
  omega
theorem ir_f_v (F : ir_RF nl vl ol c cl rc kd xs ys zs nx su pr dm lo wr sp hm bs fa cr ic it va st ou cd mk nd lk dY lY) : vl ≤ 8 := by
  have := F.1.1
  omega
theorem ir_f_s (F : ir_RF nl vl ol c cl rc kd xs ys zs nx su pr dm lo wr sp hm bs fa cr ic it va st ou cd mk nd lk dY lY) : cl = 0 ∨ ir_SS nl vl ol c cl rc kd xs ys zs nx nd dm lo wr sp hm bs fa cr ic lk dY lY := F.2.elim (fun q => Or.inl q.1) (fun q => Or.inr q.1)
theorem ir_f_d (F : ir_RF nl vl ol c cl rc kd xs ys zs nx su pr dm lo wr sp hm bs fa cr ic it va st ou cd mk nd lk dY lY) : (cl = 0 ∧ st 8 = 0) ∨ (ir_SS nl vl ol c cl rc kd xs ys zs nx nd dm lo wr sp hm bs fa cr ic lk dY lY ∧ ir_DV c vl ol kd xs ys zs nx hm bs fa cr ic va st cd mk) := F.2.elim (fun q => Or.inl ⟨q.1, q.2.2.2.2.2.2.2.2.2.2 8⟩) Or.inr
theorem ir_f_q (F : ir_RF nl vl ol c cl rc kd xs ys zs nx su pr dm lo wr sp hm bs fa cr ic it va st ou cd mk nd lk dY lY) : ∀ md, md < 2 → ∃ q, q ≤ 32 ∧ st (8 * md + 3) = nI q := by
  intro md hmd
  have g1 := F.1.1
  rcases F.2 with q | q
  · exact ⟨0, by omega, q.2.2.2.2.2.2.2.2.2.2 _⟩
  · obtain ⟨p, o, a1, a2, a3, a4, a5⟩ := q.2.1 md hmd
    exact ⟨o, by omega, a5⟩
theorem ir_q_seal (F : ir_RF nl vl ol c cl rc kd xs ys zs nx su pr dm lo wr sp hm bs fa cr ic it va st ou cd mk nd lk dY lY) : wpX_seal (fun r u' => wpY_seal (fun r' v' => r' = r ∧ i_Rel K u' v') (nI nl, nI vl, nI ol, nI c, cl, nd, it, va, st, ou, lk, mk, dY, lY, se)) (nI nl, nI vl, nI ol, nI c, cl, rc, kd, xs, ys, zs, nx, su, pr, dm, lo, wr, sp, hm, bs, fa, cr, ic, it, va, st, ou, cd, mk) := by
  have g := F.1
  have g1 := g.1
  have rel : i_Rel K (nI nl, nI vl, nI ol, nI c, cl, rc, kd, xs, ys, zs, nx, su, pr, dm, lo, wr, sp, hm, bs, fa, cr, ic, it, va, st, ou, cd, mk) (nI nl, nI vl, nI ol, nI c, cl, nd, it, va, st, ou, lk, mk, dY, lY, se) := ir_in F
  have hc : c ≤ 16 := by omega
  have hv8 : vl ≤ 8 := by omega
  by_cases hcl : cl = 0
  · have O := (F.2.resolve_right (fun q => q.1.1 hcl)).2
    obtain ⟨o1, o2, o3, o4, o5, o6, o7, o8, o9, o10⟩ := O
    by_cases c0 : c = 0
    · have e0 : nI c = 0 := by rw [c0]; rfl
      exact br_t hcl (br_t e0 (br_t hcl (br_t e0 ⟨rfl, rel⟩)))
    · have h0 : 0 < c := by omega
      refine ir_x_seal hcl hc hv8 h0 g.2.2.2.1 (ir_GM g) o1 o2 o3 o4 o5 o6 o7 o8 (fun n hn a b => ?_) (fun C rc' su' pr' dm' lo' wr' sp' hm' bs' fa' cr' ic' X => ?_)
      · exact ir_y_seal_bad hcl g.2.1 hc g.2.2.2.2.1 g.2.2.2.2.2.2.1 hn a b ⟨rfl, rel⟩
      · refine ir_y_seal_ok hcl g.2.1 hc hv8 h0 g.2.2.1 g.2.2.2.2.1 g.2.2.2.2.2.2.1 g.2.2.2.1 (ir_GM g) o9 C X (fun se' dY' lY' lk' yx L => ⟨rfl, ir_in ⟨g, Or.inr ⟨⟨ir_10, h0, g, C, X, yx, L⟩, ?_, ?_⟩⟩⟩)
        · intro md hmd
          exact ⟨0, 0, h0, ir_R0, o10 _, Nat.zero_le _, o10 _⟩
        · intro ne
          exact absurd (o10 8) ne
  · exact br_f hcl (br_f hcl ⟨rfl, rel⟩)
theorem ir_q_start (F : ir_RF nl vl ol c cl rc kd xs ys zs nx su pr dm lo wr sp hm bs fa cr ic it va st ou cd mk nd lk dY lY) : wpX_start (fun r u' => wpY_start (fun r' v' => r' = r ∧ i_Rel K u' v') (nI nl, nI vl, nI ol, nI c, cl, nd, it, va, st, ou, lk, mk, dY, lY, se)) (nI nl, nI vl, nI ol, nI c, cl, rc, kd, xs, ys, zs, nx, su, pr, dm, lo, wr, sp, hm, bs, fa, cr, ic, it, va, st, ou, cd, mk) := by
  rcases F.2 with q | q
  · exact br_t q.1 (br_t q.1 ⟨rfl, ir_in F⟩)
  · obtain ⟨va', st', cd', mk', D, X, Y⟩ := ir_start (su := su) (pr := pr) (it := it) (va := va) (st := st) (ou := ou) (cd := cd) (mk := mk) (se := se) q.1
    exact X _ (Y _ ⟨rfl, ir_in ⟨F.1, Or.inr ⟨q.1, D⟩⟩⟩)
theorem ir_q_run (F : ir_RF nl vl ol c cl rc kd xs ys zs nx su pr dm lo wr sp hm bs fa cr ic it va st ou cd mk nd lk dY lY) : wpX_run (fun r u' => wpY_run (fun r' v' => r' = r ∧ i_Rel K u' v') (nI nl, nI vl, nI ol, nI c, cl, nd, it, va, st, ou, lk, mk, dY, lY, se) v1 v2) (nI nl, nI vl, nI ol, nI c, cl, rc, kd, xs, ys, zs, nx, su, pr, dm, lo, wr, sp, hm, bs, fa, cr, ic, it, va, st, ou, cd, mk) v1 v2 := by
  have rel : i_Rel K (nI nl, nI vl, nI ol, nI c, cl, rc, kd, xs, ys, zs, nx, su, pr, dm, lo, wr, sp, hm, bs, fa, cr, ic, it, va, st, ou, cd, mk) (nI nl, nI vl, nI ol, nI c, cl, nd, it, va, st, ou, lk, mk, dY, lY, se) := ir_in F
  by_cases m : v1 = nI 0 ∨ v1 = nI 1
  · obtain ⟨md, hmd, e⟩ : ∃ md, md < 2 ∧ v1 = nI md := m.elim (fun q => ⟨0, by decide, q⟩) (fun q => ⟨1, by decide, q⟩)
    subst e
    rcases F.2 with q | q
    · have o10 := q.2.2.2.2.2.2.2.2.2.2
      have i0 : nI md * 8 + 0 = nI (8 * md) := ir_m8 md 0
      have j0 : (8 : Int32) * nI md + 0 = nI (8 * md) := ir_8m md 0
      have v0 : vp_in (nI (8 * md)) 16 := vp_in_nI (by omega) (by omega)
      have s0 : ¬ st (8 * md) = 1 := by rw [o10]; decide
      have yy : wpY_run (fun r' v' => r' = 0 ∧ i_Rel K (nI nl, nI vl, nI ol, nI c, cl, rc, kd, xs, ys, zs, nx, su, pr, dm, lo, wr, sp, hm, bs, fa, cr, ic, it, va, st, ou, cd, mk) v') (nI nl, nI vl, nI ol, nI c, cl, nd, it, va, st, ou, lk, mk, dY, lY, se) (nI md) v2 := by
        have w : ∃ n13 : Nat, wY_run_13 (fun r' v' => r' = 0 ∧ i_Rel K (nI nl, nI vl, nI ol, nI c, cl, rc, kd, xs, ys, zs, nx, su, pr, dm, lo, wr, sp, hm, bs, fa, cr, ic, it, va, st, ou, cd, mk) v') (nI md) v2 n13 0 (nI nl) (nI vl) (nI ol) (nI c) cl nd it va st ou lk mk dY lY se := by
          refine ⟨1, br_f (by decide) (br_c (fun _ => ⟨rfl, rel⟩) (fun _ => ?_))⟩
          rw [j0, nI_clamp (show 8 * md < 2 ^ 31 by omega)]
          exact ⟨v0, br_f s0 ⟨rfl, rel⟩⟩
        exact br_c (fun _ => w) (fun z => br_t (m.resolve_left z) w)
      unfold wpX_run
      refine ir_x_mode (fun _ => br_f ir_10 ?_) (fun n => absurd m n)
      obtain ⟨l, hl, h1, h2, h3, h4⟩ := ir_clampl v2
      have xx : ∀ L : Int32, ∃ n26 : Nat, wX_run_26 (fun r u' => wpY_run (fun r' v' => r' = r ∧ i_Rel K u' v') (nI nl, nI vl, nI ol, nI c, cl, nd, it, va, st, ou, lk, mk, dY, lY, se) (nI md) v2) (nI md) L n26 0 0 (nI nl) (nI vl) (nI ol) (nI c) cl rc kd xs ys zs nx su pr dm lo wr sp hm bs fa cr ic it va st ou cd mk := by
        intro L
        refine ⟨1, br_c (fun _ => yy) (fun _ => ?_)⟩
        rw [i0, nI_clamp (show 8 * md < 2 ^ 31 by omega)]
        exact ⟨v0, br_f s0 yy⟩
      exact br_c (fun _ => br_c (fun _ => xx _) (fun _ => xx _)) (fun _ => xx _)
    · obtain ⟨k, va', st', ou', cd', mk', D, X, Y⟩ := ir_run (su := su) (pr := pr) (it := it) (ou := ou) (se := se) (n := v2) q.1 hmd q.2
      exact X _ (Y _ ⟨rfl, ir_in ⟨F.1, Or.inr ⟨q.1, D⟩⟩⟩)
  · unfold wpX_run
    refine ir_x_mode (fun q => absurd q m) (fun _ => br_t rfl ?_)
    exact br_f (fun z => m (Or.inl z)) (br_f (fun z => m (Or.inr z)) ⟨rfl, rel⟩)
end
end
section
/-! what is owed -/
theorem i_vc_add {k : Nat} {u : SX} {v : SY} (I : i_Rel k u v) (hk : k + 5 ≤ 2563) (v1 : Int32) (v2 : Int32) (v3 : Int32) (v4 : Int32) : wpX_add (fun r u' => wpY_add (fun r' v' => r' = r ∧ i_Rel (k + 5) u' v') v v1 v2 v3 v4) u v1 v2 v3 v4 := by
  refine ir_el (P := fun u v => wpX_add (fun r u' => wpY_add (fun r' v' => r' = r ∧ i_Rel (k + 5) u' v') v v1 v2 v3 v4) u v1 v2 v3 v4) ?_ I
  intro nl vl ol c cl rc kd xs ys zs nx su pr dm lo wr sp hm bs fa cr ic it va st ou cd mk nd lk dY lY se F
  exact ir_q_add F
theorem i_vc_wire {k : Nat} {u : SX} {v : SY} (I : i_Rel k u v) (hk : k + 5 ≤ 2563) (v1 : Int32) (v2 : Int32) : wpX_wire (fun r u' => wpY_wire (fun r' v' => r' = r ∧ i_Rel (k + 5) u' v') v v1 v2) u v1 v2 := by
  refine ir_el (P := fun u v => wpX_wire (fun r u' => wpY_wire (fun r' v' => r' = r ∧ i_Rel (k + 5) u' v') v v1 v2) u v1 v2) ?_ I
  intro nl vl ol c cl rc kd xs ys zs nx su pr dm lo wr sp hm bs fa cr ic it va st ou cd mk nd lk dY lY se F
  exact ir_q_wire F
theorem i_vc_seal {k : Nat} {u : SX} {v : SY} (I : i_Rel k u v) (hk : k + 5 ≤ 2563) : wpX_seal (fun r u' => wpY_seal (fun r' v' => r' = r ∧ i_Rel (k + 5) u' v') v) u := by
  refine ir_el (P := fun u v => wpX_seal (fun r u' => wpY_seal (fun r' v' => r' = r ∧ i_Rel (k + 5) u' v') v) u) ?_ I
  intro nl vl ol c cl rc kd xs ys zs nx su pr dm lo wr sp hm bs fa cr ic it va st ou cd mk nd lk dY lY se F
  exact ir_q_seal F
theorem i_vc_input {k : Nat} {u : SX} {v : SY} (I : i_Rel k u v) (hk : k + 5 ≤ 2563) (v1 : Int32) (v2 : Int32) : wpX_input (fun r u' => wpY_input (fun r' v' => r' = r ∧ i_Rel (k + 5) u' v') v v1 v2) u v1 v2 := by
  refine ir_el (P := fun u v => wpX_input (fun r u' => wpY_input (fun r' v' => r' = r ∧ i_Rel (k + 5) u' v') v v1 v2) u v1 v2) ?_ I
  intro nl vl ol c cl rc kd xs ys zs nx su pr dm lo wr sp hm bs fa cr ic it va st ou cd mk nd lk dY lY se F
  exact ir_q_input F
theorem i_vc_start {k : Nat} {u : SX} {v : SY} (I : i_Rel k u v) (hk : k + 5 ≤ 2563) : wpX_start (fun r u' => wpY_start (fun r' v' => r' = r ∧ i_Rel (k + 5) u' v') v) u := by
  refine ir_el (P := fun u v => wpX_start (fun r u' => wpY_start (fun r' v' => r' = r ∧ i_Rel (k + 5) u' v') v) u) ?_ I
  intro nl vl ol c cl rc kd xs ys zs nx su pr dm lo wr sp hm bs fa cr ic it va st ou cd mk nd lk dY lY se F
  exact ir_q_start F
theorem i_vc_run {k : Nat} {u : SX} {v : SY} (I : i_Rel k u v) (hk : k + 5 ≤ 2563) (v1 : Int32) (v2 : Int32) : wpX_run (fun r u' => wpY_run (fun r' v' => r' = r ∧ i_Rel (k + 5) u' v') v v1 v2) u v1 v2 := by
  refine ir_el (P := fun u v => wpX_run (fun r u' => wpY_run (fun r' v' => r' = r ∧ i_Rel (k + 5) u' v') v v1 v2) u v1 v2) ?_ I
  intro nl vl ol c cl rc kd xs ys zs nx su pr dm lo wr sp hm bs fa cr ic it va st ou cd mk nd lk dY lY se F
  exact ir_q_run F
theorem i_vc_read {k : Nat} {u : SX} {v : SY} (I : i_Rel k u v) (hk : k + 5 ≤ 2563) (v1 : Int32) (v2 : Int32) : wpX_read (fun r => wpY_read (fun r' => r' = r ∧ i_Rel (k + 5) u v) v v1 v2) u v1 v2 := by
  refine ir_el (P := fun u v => wpX_read (fun r => wpY_read (fun r' => r' = r ∧ i_Rel (k + 5) u v) v v1 v2) u v1 v2) ?_ I
  intro nl vl ol c cl rc kd xs ys zs nx su pr dm lo wr sp hm bs fa cr ic it va st ou cd mk nd lk dY lY se F
  exact ir_q_read (ir_in F)
theorem i_vc_value {k : Nat} {u : SX} {v : SY} (I : i_Rel k u v) (hk : k + 5 ≤ 2563) (v1 : Int32) (v2 : Int32) : wpX_value (fun r => wpY_value (fun r' => r' = r ∧ i_Rel (k + 5) u v) v v1 v2) u v1 v2 := by
  refine ir_el (P := fun u v => wpX_value (fun r => wpY_value (fun r' => r' = r ∧ i_Rel (k + 5) u v) v v1 v2) u v1 v2) ?_ I
  intro nl vl ol c cl rc kd xs ys zs nx su pr dm lo wr sp hm bs fa cr ic it va st ou cd mk nd lk dY lY se F
  exact ir_q_value F.1 (ir_in F)
theorem i_vc_output {k : Nat} {u : SX} {v : SY} (I : i_Rel k u v) (hk : k + 5 ≤ 2563) (v1 : Int32) (v2 : Int32) : wpX_output (fun r => wpY_output (fun r' => r' = r ∧ i_Rel (k + 5) u v) v v1 v2) u v1 v2 := by
  refine ir_el (P := fun u v => wpX_output (fun r => wpY_output (fun r' => r' = r ∧ i_Rel (k + 5) u v) v v1 v2) u v1 v2) ?_ I
  intro nl vl ol c cl rc kd xs ys zs nx su pr dm lo wr sp hm bs fa cr ic it va st ou cd mk nd lk dY lY se F
  exact ir_q_output (ir_f_q F) (ir_in F)
theorem i_vc_cell {k : Nat} {u : SX} {v : SY} (I : i_Rel k u v) (hk : k + 5 ≤ 2563) (v1 : Int32) (v2 : Int32) : wpX_cell (fun r => wpY_cell (fun r' => r' = r ∧ i_Rel (k + 5) u v) v v1 v2) u v1 v2 := by
  refine ir_el (P := fun u v => wpX_cell (fun r => wpY_cell (fun r' => r' = r ∧ i_Rel (k + 5) u v) v v1 v2) u v1 v2) ?_ I
  intro nl vl ol c cl rc kd xs ys zs nx su pr dm lo wr sp hm bs fa cr ic it va st ou cd mk nd lk dY lY se F
  exact ir_q_cell F.1 (ir_in F)
theorem i_vc_dominates {k : Nat} {u : SX} {v : SY} (I : i_Rel k u v) (hk : k + 5 ≤ 2563) (v1 : Int32) (v2 : Int32) : wpX_dominates (fun r => wpY_dominates (fun r' => r' = r ∧ i_Rel (k + 5) u v) v v1 v2) u v1 v2 := by
  refine ir_el (P := fun u v => wpX_dominates (fun r => wpY_dominates (fun r' => r' = r ∧ i_Rel (k + 5) u v) v v1 v2) u v1 v2) ?_ I
  intro nl vl ol c cl rc kd xs ys zs nx su pr dm lo wr sp hm bs fa cr ic it va st ou cd mk nd lk dY lY se F
  exact ir_q_dom (ir_f_s F) (ir_f_c F) (ir_in F)
theorem i_vc_inLoop {k : Nat} {u : SX} {v : SY} (I : i_Rel k u v) (hk : k + 5 ≤ 2563) (v1 : Int32) (v2 : Int32) : wpX_inLoop (fun r => wpY_inLoop (fun r' => r' = r ∧ i_Rel (k + 5) u v) v v1 v2) u v1 v2 := by
  refine ir_el (P := fun u v => wpX_inLoop (fun r => wpY_inLoop (fun r' => r' = r ∧ i_Rel (k + 5) u v) v v1 v2) u v1 v2) ?_ I
  intro nl vl ol c cl rc kd xs ys zs nx su pr dm lo wr sp hm bs fa cr ic it va st ou cd mk nd lk dY lY se F
  exact ir_q_inl (ir_f_s F) (ir_f_c F) (ir_in F)
theorem i_vc_role {k : Nat} {u : SX} {v : SY} (I : i_Rel k u v) (hk : k + 5 ≤ 2563) (v1 : Int32) (v2 : Int32) : wpX_role (fun r => wpY_role (fun r' => r' = r ∧ i_Rel (k + 5) u v) v v1 v2) u v1 v2 := by
  refine ir_el (P := fun u v => wpX_role (fun r => wpY_role (fun r' => r' = r ∧ i_Rel (k + 5) u v) v v1 v2) u v1 v2) ?_ I
  intro nl vl ol c cl rc kd xs ys zs nx su pr dm lo wr sp hm bs fa cr ic it va st ou cd mk nd lk dY lY se F
  exact ir_q_role (ir_f_s F) (ir_f_c F) (ir_f_v F) (ir_in F)
theorem i_vc_link {k : Nat} {u : SX} {v : SY} (I : i_Rel k u v) (hk : k + 5 ≤ 2563) (v1 : Int32) : wpX_link (fun r => wpY_link (fun r' => r' = r ∧ i_Rel (k + 5) u v) v v1) u v1 := by
  refine ir_el (P := fun u v => wpX_link (fun r => wpY_link (fun r' => r' = r ∧ i_Rel (k + 5) u v) v v1) u v1) ?_ I
  intro nl vl ol c cl rc kd xs ys zs nx su pr dm lo wr sp hm bs fa cr ic it va st ou cd mk nd lk dY lY se F
  exact ir_q_link (ir_f_s F) (ir_f_c F) (ir_in F)
theorem i_vc_kept {k : Nat} {u : SX} {v : SY} (I : i_Rel k u v) (hk : k + 5 ≤ 2563) (v1 : Int32) : wpX_kept (fun r => wpY_kept (fun r' => r' = r ∧ i_Rel (k + 5) u v) v v1) u v1 := by
  refine ir_el (P := fun u v => wpX_kept (fun r => wpY_kept (fun r' => r' = r ∧ i_Rel (k + 5) u v) v v1) u v1) ?_ I
  intro nl vl ol c cl rc kd xs ys zs nx su pr dm lo wr sp hm bs fa cr ic it va st ou cd mk nd lk dY lY se F
  exact ir_q_kept (ir_f_d F) (ir_f_c F) (ir_in F)
theorem i_vc_moved {k : Nat} {u : SX} {v : SY} (I : i_Rel k u v) (hk : k + 5 ≤ 2563) (v1 : Int32) : wpX_moved (fun r => wpY_moved (fun r' => r' = r ∧ i_Rel (k + 5) u v) v v1) u v1 := by
  refine ir_el (P := fun u v => wpX_moved (fun r => wpY_moved (fun r' => r' = r ∧ i_Rel (k + 5) u v) v v1) u v1) ?_ I
  intro nl vl ol c cl rc kd xs ys zs nx su pr dm lo wr sp hm bs fa cr ic it va st ou cd mk nd lk dY lY se F
  exact ir_q_moved (ir_f_d F) (ir_f_c F) (ir_in F)
end
