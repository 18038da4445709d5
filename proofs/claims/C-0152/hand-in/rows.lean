section
/-! stores and numbers, bits: the first rows are pasted of the kit (PURE-ROWS, BITS); li_ are our own -/
theorem pk_us {f : Nat → Int32} {k : Nat} {x : Int32} : upd f k x k = x := if_pos rfl
theorem pk_un {f : Nat → Int32} {k j : Nat} {x : Int32} (h : j ≠ k) : upd f k x j = f j := if_neg h
theorem pk_sub {a b : Nat} (h : b ≤ a) : nI a - nI b = nI (a - b) := by
  obtain ⟨c, rfl⟩ : ∃ c, a = c + b := ⟨a - b, by omega⟩
  rw [← nI_add, Int32.add_sub_cancel, Nat.add_sub_cancel]
theorem pk_m1 (n : Nat) : nI (n + 1) + (-1) = nI n := by
  rw [← nI_1, Int32.add_assoc, show (1 : Int32) + (-1) = 0 from rfl, Int32.add_zero]
theorem pk_mul (a b : Nat) : nI a * nI b = nI (a * b) := (Int32.ofNat_mul a b).symm
theorem pk_div {a d : Nat} (ha : a < 2 ^ 31) (h0 : 0 < d) (hd : d < 2 ^ 31) : nI a / nI d = nI (a / d) := by
  apply Int32.toInt_inj.mp
  rw [lg_idiv_nonneg (by rw [nI_toInt ha]; omega) (by rw [nI_toInt hd]; omega), nI_toInt ha, nI_toInt hd, nI_toInt (Nat.lt_of_le_of_lt (Nat.div_le_self a d) ha)]
  first | rfl | exact (Int.natCast_ediv _ _).symm
def bt (x : Int32) (i : Nat) : Bool := x.toBitVec.getLsbD i
theorem b_ext {x y : Int32} (h : ∀ i, i < 32 → bt x i = bt y i) : x = y := Int32.toBitVec_inj.mp (BitVec.eq_of_getLsbD_eq (fun i hi => h i hi))
theorem b_or (x y : Int32) (i : Nat) : bt (x ||| y) i = (bt x i || bt y i) := by unfold bt; rw [Int32.toBitVec_or, BitVec.getLsbD_or]
theorem b_and (x y : Int32) (i : Nat) : bt (x &&& y) i = (bt x i && bt y i) := by unfold bt; rw [Int32.toBitVec_and, BitVec.getLsbD_and]
theorem b_xor (x y : Int32) (i : Nat) : bt (x ^^^ y) i = (bt x i ^^ bt y i) := by unfold bt; rw [Int32.toBitVec_xor, BitVec.getLsbD_xor]
theorem b_big {x : Int32} {i : Nat} (h : 32 ≤ i) : bt x i = false := BitVec.getLsbD_of_ge _ _ h
theorem b_m1 : ∀ i, i < 32 → bt (-1) i = true := by decide +kernel
theorem b_0 (i : Nat) : bt 0 i = false := BitVec.getLsbD_zero
theorem s_l : ∀ n, n < 32 → ((nI n &&& 31).toBitVec.smod 32).toNat = n := by decide +kernel
theorem b_shl (n : Nat) (hn : n < 32) (x : Int32) {i : Nat} (hi : i < 32) : bt (x <<< (nI n &&& 31)) i = (decide (n ≤ i) && bt x (i - n)) := by
  unfold bt
  rw [Int32.toBitVec_shiftLeft]
  show (x.toBitVec <<< ((nI n &&& 31).toBitVec.smod 32).toNat).getLsbD i = _
  rw [s_l n hn, BitVec.getLsbD_shiftLeft]
  rcases Nat.lt_or_ge i n with h | h
  · simp [h, Nat.not_le.mpr h]
  · simp [hi, h, Nat.not_lt.mpr h]
theorem b_sshr (n : Nat) (hn : n < 32) (x : Int32) {i : Nat} (hi : i < 32) : bt (x >>> (nI n &&& 31)) i = if n + i < 32 then bt x (n + i) else bt x 31 := by
  unfold bt
  rw [Int32.toBitVec_shiftRight]
  show (x.toBitVec.sshiftRight ((nI n &&& 31).toBitVec.smod 32).toNat).getLsbD i = _
  rw [s_l n hn, BitVec.getLsbD_sshiftRight, BitVec.msb_eq_getLsbD_last]
  simp [hi]
/-! ===== our own ===== -/
theorem li_b1 : ∀ i, i < 32 → bt 1 i = decide (i = 0) := by decide +kernel
theorem li_val (x : Int32) {n : Nat} (hn : n < 32) : (x >>> (nI n &&& 31)) &&& 1 = nI (bt x n).toNat := by
  apply b_ext
  intro i hi
  rw [b_and, b_sshr n hn x hi, li_b1 i hi]
  by_cases h0 : i = 0
  · subst h0
    rw [if_pos (show n + 0 < 32 from hn), Nat.add_zero, decide_eq_true rfl, Bool.and_true]
    cases bt x n
    · exact (b_0 0).symm
    · exact (by decide +kernel : true = bt (nI 1) 0)
  · rw [decide_eq_false h0, Bool.and_false]
    cases bt x n
    · exact (b_0 i).symm
    · have h := li_b1 i hi
      rw [decide_eq_false h0] at h
      exact h.symm
theorem li_t1 (x : Int32) {n : Nat} (hn : n < 32) : (x >>> (nI n &&& 31)) &&& 1 = 1 ↔ bt x n = true := by
  rw [li_val x hn]
  cases bt x n
  · exact (by decide +kernel : nI 0 = 1 ↔ false = true)
  · exact (by decide +kernel : nI 1 = 1 ↔ true = true)
theorem li_t0 (x : Int32) {n : Nat} (hn : n < 32) : (x >>> (nI n &&& 31)) &&& 1 = 0 ↔ bt x n = false := by
  rw [li_val x hn]
  cases bt x n
  · exact (by decide +kernel : nI 0 = 0 ↔ false = false)
  · exact (by decide +kernel : nI 1 = 0 ↔ true = false)
theorem li_nt {b : Bool} (h : ¬ b = true) : b = false := by cases b <;> simp_all
theorem li_nf {b : Bool} (h : ¬ b = false) : b = true := by cases b <;> simp_all
theorem li_tf {b : Bool} {P : Prop} (h : b = true) (g : b = false) : P := by rw [h] at g; exact nomatch g
theorem li_beq {a b : Bool} (h : a = true ↔ b = true) : a = b := by cases a <;> cases b <;> simp_all
theorem li_if {A B : Prop} {x : Int32} {n : Nat} (hn : n < 32) (f : bt x n = true → A) (g : bt x n = false → B) : ((x >>> (nI n &&& 31)) &&& 1 = 1 → A) ∧ (¬ (x >>> (nI n &&& 31)) &&& 1 = 1 → B) := by
  rw [li_t1 x hn]
  exact ⟨f, fun h => g (li_nt h)⟩
theorem li_if0 {A B : Prop} {x : Int32} {n : Nat} (hn : n < 32) (f : bt x n = false → A) (g : bt x n = true → B) : ((x >>> (nI n &&& 31)) &&& 1 = 0 → A) ∧ (¬ (x >>> (nI n &&& 31)) &&& 1 = 0 → B) := by
  rw [li_t0 x hn]
  exact ⟨f, fun h => g (li_nf h)⟩
theorem li_bit {n : Nat} (hn : n < 32) (i : Nat) : bt ((1 : Int32) <<< (nI n &&& 31)) i = decide (i = n) := by
  by_cases hi : i < 32
  · rw [b_shl n hn 1 hi, li_b1 (i - n) (by omega)]
    by_cases h : i = n
    · subst h; simp
    · by_cases h2 : n ≤ i
      · rw [decide_eq_true h2, decide_eq_false h, decide_eq_false (by omega)]; rfl
      · rw [decide_eq_false h2, decide_eq_false h]; rfl
  · rw [b_big (by omega), decide_eq_false (by omega)]
theorem li_an (x y : Int32) (i : Nat) : bt (x &&& (y ^^^ (-1))) i = (bt x i && !bt y i) := by
  rw [b_and, b_xor]
  by_cases hi : i < 32
  · rw [b_m1 i hi]; cases bt x i <;> cases bt y i <;> rfl
  · rw [b_big (x := x) (by omega)]; rfl
theorem li_nz {x : Int32} (h : ¬ x = 0) : ∃ i, i < 32 ∧ bt x i = true := by
  refine Classical.byContradiction fun hn => h (b_ext fun i hi => ?_)
  rw [b_0]
  exact li_nt fun z => hn ⟨i, hi, z⟩
theorem li_z {x : Int32} (h : x = 0) (i : Nat) : bt x i = false := by rw [h]; exact b_0 i
theorem li_us (U : Nat → Int32) (b : Nat) : upd U b (U b) = U := by
  funext j
  by_cases h : j = b
  · rw [h, pk_us]
  · rw [pk_un h]
theorem li_ub (A : Nat → Int32) (k : Nat) (x : Int32) (j i : Nat) : bt (upd A k x j) i = if j = k then bt x i else bt (A j) i := by
  by_cases h : j = k
  · rw [if_pos h, h, pk_us]
  · rw [if_neg h, pk_un h]
theorem li_fx {A B : Nat → Int32} (h : ∀ x i, bt (A x) i = bt (B x) i) : A = B := funext fun x => b_ext fun i _ => h x i
theorem li_all : ∀ i, i < 32 → bt 1048575 i = decide (i < 20) := by decide +kernel
theorem li_lt32 {x : Int32} {i : Nat} (h : bt x i = true) : i < 32 := by
  refine Classical.byContradiction fun hn => ?_
  rw [b_big (by omega)] at h
  exact nomatch h
/-- a number up to 2^20 - 1 has no bit from 20 on -/
theorem li_rg {x : Int32} (h0 : ¬ x < 0) (h1 : x ≤ 1048575) {i : Nat} (hi : 20 ≤ i) : bt x i = false := by
  obtain ⟨j, hj, rfl⟩ := nI_of2 (n := 1048575) (by decide) h0 h1
  unfold bt
  show (BitVec.ofNat 32 j).getLsbD i = false
  rw [BitVec.getLsbD_ofNat, Nat.testBit_lt_two_pow (Nat.lt_of_lt_of_le (show j < 2 ^ 20 by omega) (Nat.pow_le_pow_right (by decide) hi)), Bool.and_false]
end
section
/-! sums and counts -/
def li_su (f : Nat → Nat) : Nat → Nat
  | 0 => 0
  | n + 1 => li_su f n + f n
theorem li_su_le {f g : Nat → Nat} {n : Nat} (h : ∀ i, i < n → f i ≤ g i) : li_su f n ≤ li_su g n := by
  induction n with
  | zero => exact Nat.le_refl 0
  | succ n ih => exact Nat.add_le_add (ih fun i hi => h i (by omega)) (h n (by omega))
theorem li_su_eq {f g : Nat → Nat} {n : Nat} (h : ∀ i, i < n → f i = g i) : li_su f n = li_su g n := by
  induction n with
  | zero => rfl
  | succ n ih =>
    show li_su f n + f n = li_su g n + g n
    rw [ih fun i hi => h i (by omega), h n (by omega)]
theorem li_su_lt {f g : Nat → Nat} {k n : Nat} (h : ∀ i, i < n → f i ≤ g i) (hk : k < n) (hs : f k < g k) : li_su f n < li_su g n := by
  induction n with
  | zero => omega
  | succ n ih =>
    have h1 := h n (by omega)
    show li_su f n + f n < li_su g n + g n
    by_cases e : k = n
    · subst e
      have := li_su_le (f := f) (g := g) (n := k) fun i hi => h i (by omega)
      omega
    · have := ih (fun i hi => h i (by omega)) (by omega)
      omega
theorem li_su_bd {f : Nat → Nat} {c n : Nat} (h : ∀ i, i < n → f i ≤ c) : li_su f n ≤ n * c := by
  induction n with
  | zero => exact Nat.zero_le _
  | succ n ih =>
    have h1 := h n (by omega)
    have h2 := ih fun i hi => h i (by omega)
    show li_su f n + f n ≤ (n + 1) * c
    rw [Nat.succ_mul]
    omega
theorem li_su_add {f g : Nat → Nat} {n : Nat} : li_su (fun i => f i + g i) n = li_su f n + li_su g n := by
  induction n with
  | zero => rfl
  | succ n ih =>
    show li_su (fun i => f i + g i) n + (f n + g n) = (li_su f n + f n) + (li_su g n + g n)
    rw [ih]; omega
theorem li_su_0 {n : Nat} : li_su (fun _ => 0) n = 0 := by
  induction n with
  | zero => rfl
  | succ n ih => exact ih
theorem li_su_swap {f : Nat → Nat → Nat} {n m : Nat} : li_su (fun i => li_su (f i) m) n = li_su (fun j => li_su (fun i => f i j) n) m := by
  induction n with
  | zero => exact li_su_0.symm
  | succ n ih =>
    show li_su (fun i => li_su (f i) m) n + li_su (f n) m = li_su (fun j => li_su (fun i => f i j) n + f n j) m
    rw [li_su_add, ih]
theorem li_su_app {f : Nat → Nat} {n m : Nat} : li_su f (n + m) = li_su f n + li_su (fun i => f (n + i)) m := by
  induction m with
  | zero => rfl
  | succ m ih =>
    show li_su f (n + m) + f (n + m) = li_su f n + (li_su (fun i => f (n + i)) m + f (n + m))
    rw [ih]; omega
def li_ct (p : Nat → Bool) (n : Nat) : Nat := li_su (fun i => (p i).toNat) n
theorem li_tn_le (b : Bool) : b.toNat ≤ 1 := by cases b <;> decide
theorem li_ct_bd (p : Nat → Bool) (n : Nat) : li_ct p n ≤ n := by
  have h := li_su_bd (f := fun i => (p i).toNat) (c := 1) (n := n) fun i _ => li_tn_le _
  unfold li_ct
  omega
theorem li_ct_s (p : Nat → Bool) (n : Nat) : li_ct p (n + 1) = li_ct p n + (p n).toNat := rfl
theorem li_tn_mono {a b : Bool} (h : a = true → b = true) : a.toNat ≤ b.toNat := by
  cases a
  · exact Nat.zero_le _
  · rw [h rfl]; exact Nat.le_refl _
theorem li_ct_le {p q : Nat → Bool} {n : Nat} (h : ∀ i, i < n → p i = true → q i = true) : li_ct p n ≤ li_ct q n := li_su_le fun i hi => li_tn_mono (h i hi)
theorem li_ct_eq {p q : Nat → Bool} {n : Nat} (h : ∀ i, i < n → p i = q i) : li_ct p n = li_ct q n := li_su_eq fun i hi => congrArg Bool.toNat (h i hi)
theorem li_ct_lt {p q : Nat → Bool} {k n : Nat} (h : ∀ i, i < n → p i = true → q i = true) (hk : k < n) (h0 : p k = false) (h1 : q k = true) : li_ct p n < li_ct q n := by
  refine li_su_lt (k := k) (fun i hi => li_tn_mono (h i hi)) hk ?_
  show (p k).toNat < (q k).toNat
  rw [h0, h1]
  exact (by decide : false.toNat < true.toNat)
theorem li_ct_full {p : Nat → Bool} {n : Nat} (h : n ≤ li_ct p n) {i : Nat} (hi : i < n) : p i = true := by
  refine li_nf fun h0 => ?_
  have h1 := li_ct_lt (p := p) (q := fun _ => true) (fun _ _ _ => rfl) hi h0 rfl
  have h2 := li_ct_bd (fun _ => true) n
  omega
/-- all pairs (block, variable) of a table -/
def li_c2 (L : Nat → Int32) : Nat := li_su (fun x => li_ct (bt (L x)) 20) 12
theorem li_c2_bd (L : Nat → Int32) : li_c2 L ≤ 240 := li_su_bd (f := fun x => li_ct (bt (L x)) 20) (c := 20) (n := 12) fun _ _ => li_ct_bd _ _
theorem li_c2_le {L M : Nat → Int32} (h : ∀ x v, bt (L x) v = true → bt (M x) v = true) : li_c2 L ≤ li_c2 M :=
  li_su_le fun x _ => li_ct_le fun v _ => h x v
theorem li_c2_lt {L M : Nat → Int32} (h : ∀ x v, bt (L x) v = true → bt (M x) v = true) {x v : Nat} (hx : x < 12) (hv : v < 20) (h0 : bt (L x) v = false) (h1 : bt (M x) v = true) : li_c2 L < li_c2 M :=
  li_su_lt (k := x) (fun y _ => li_ct_le fun w _ => h y w) hx (li_ct_lt (fun w _ => h x w) hv h0 h1)
end
section
/-! what is live: the least table closed under li_due -/
def li_due (T U S : Nat → Int32) (R : Nat → Nat → Prop) (x v : Nat) : Prop :=
  bt (U x) v = true ∨ (bt (S x) v = false ∧ ∃ c, c < 12 ∧ bt (T x) c = true ∧ R c v)
def li_Cl (T U S : Nat → Int32) (R : Nat → Nat → Prop) : Prop := ∀ x v, x < 12 → v < 20 → li_due T U S R x v → R x v
def li_on (L : Nat → Int32) (x v : Nat) : Prop := bt (L x) v = true
def li_So (T U S L : Nat → Int32) : Prop := ∀ R : Nat → Nat → Prop, li_Cl T U S R → ∀ x v, x < 12 → v < 20 → li_on L x v → R x v
def li_Rg (n : Nat) (A : Nat → Int32) : Prop := ∀ x i, x < 12 → n ≤ i → bt (A x) i = false
def li_Zr (A : Nat → Int32) : Prop := ∀ x, 12 ≤ x → A x = 0
/-- sound, in range -/
def li_Go (T U S L : Nat → Int32) : Prop := li_So T U S L ∧ li_Rg 20 L ∧ li_Zr L
def li_Ok (T U S L : Nat → Int32) : Prop := li_Cl T U S (li_on L) ∧ li_Go T U S L
theorem li_rg_lt {A : Nat → Int32} {n x i : Nat} (h : li_Rg n A) (hx : x < 12) (hi : bt (A x) i = true) : i < n := by
  refine Classical.byContradiction fun hn => ?_
  exact li_tf hi (h x i hx (by omega))
theorem li_due_mono {T U S : Nat → Int32} {R Q : Nat → Nat → Prop} {x v : Nat} (h : ∀ c, c < 12 → R c v → Q c v) (d : li_due T U S R x v) : li_due T U S Q x v := by
  rcases d with d | ⟨hs, c, hc, ht, hr⟩
  · exact Or.inl d
  · exact Or.inr ⟨hs, c, hc, ht, h c hc hr⟩
theorem li_uni {T U S L M : Nat → Int32} (hL : li_Ok T U S L) (hM : li_Ok T U S M) : L = M := by
  obtain ⟨cL, sL, rL, zL⟩ := hL
  obtain ⟨cM, sM, rM, zM⟩ := hM
  funext x
  by_cases hx : x < 12
  · refine b_ext fun i _ => ?_
    by_cases hi : i < 20
    · exact li_beq ⟨fun h => sL _ cM x i hx hi h, fun h => sM _ cL x i hx hi h⟩
    · rw [rL x i hx (by omega), rM x i hx (by omega)]
  · rw [zL x (by omega), zM x (by omega)]
/-- what is live behind a block: the union -/
def li_ae (t : Int32) (L : Nat → Int32) : Nat → Int32
  | 0 => 0
  | c + 1 => if bt t c = true then li_ae t L c ||| L c else li_ae t L c
theorem li_ae_bt {t : Int32} {L : Nat → Int32} {n v : Nat} : bt (li_ae t L n) v = true ↔ ∃ c, c < n ∧ bt t c = true ∧ bt (L c) v = true := by
  induction n with
  | zero =>
    constructor
    · intro h
      exact li_tf h (b_0 v)
    · rintro ⟨c, hc, _⟩
      omega
  | succ n ih =>
    show bt (if bt t n = true then li_ae t L n ||| L n else li_ae t L n) v = true ↔ _
    by_cases h : bt t n = true
    · rw [if_pos h, b_or, Bool.or_eq_true, ih]
      constructor
      · rintro (⟨c, hc, h1, h2⟩ | h2)
        · exact ⟨c, by omega, h1, h2⟩
        · exact ⟨n, by omega, h, h2⟩
      · rintro ⟨c, hc, h1, h2⟩
        by_cases e : c = n
        · subst e; exact Or.inr h2
        · exact Or.inl ⟨c, by omega, h1, h2⟩
    · rw [if_neg h, ih]
      constructor
      · rintro ⟨c, hc, h1, h2⟩
        exact ⟨c, by omega, h1, h2⟩
      · rintro ⟨c, hc, h1, h2⟩
        by_cases e : c = n
        · subst e; exact absurd h1 h
        · exact ⟨c, by omega, h1, h2⟩
def li_du (T U S L : Nat → Int32) (x : Nat) : Int32 := U x ||| (li_ae (T x) L 12 &&& (S x ^^^ (-1)))
theorem li_wn {T S L : Nat → Int32} {x v : Nat} : bt (li_ae (T x) L 12 &&& (S x ^^^ (-1))) v = true ↔ bt (S x) v = false ∧ ∃ c, c < 12 ∧ bt (T x) c = true ∧ li_on L c v := by
  rw [li_an, Bool.and_eq_true, li_ae_bt, Bool.not_eq_true']
  exact ⟨fun h => ⟨h.2, h.1⟩, fun h => ⟨h.2, h.1⟩⟩
theorem li_du_bt {T U S L : Nat → Int32} {x v : Nat} : bt (li_du T U S L x) v = true ↔ li_due T U S (li_on L) x v := by
  unfold li_du li_due
  rw [b_or, Bool.or_eq_true, li_wn]
theorem li_due_rg {T U S L : Nat → Int32} {x v : Nat} (hU : li_Rg 20 U) (hL : li_Rg 20 L) (hx : x < 12) (h : li_due T U S (li_on L) x v) : v < 20 := by
  rcases h with h | ⟨_, c, hc, _, h⟩
  · exact li_rg_lt hU hx h
  · exact li_rg_lt hL hc h
/-- one more thing in a table: what is due -/
theorem li_up_on {L : Nat → Int32} {x y v : Nat} {w : Int32} : li_on (upd L x (L x ||| w)) y v ↔ li_on L y v ∨ (y = x ∧ bt w v = true) := by
  unfold li_on
  rw [li_ub]
  by_cases h : y = x
  · subst h
    rw [if_pos rfl, b_or, Bool.or_eq_true]
    exact ⟨fun z => z.elim Or.inl fun z => Or.inr ⟨rfl, z⟩, fun z => z.elim Or.inl fun z => Or.inr z.2⟩
  · rw [if_neg h]
    exact ⟨Or.inl, fun z => z.elim id fun z => absurd z.1 h⟩
theorem li_up_mono {L : Nat → Int32} {x : Nat} {w : Int32} (y v : Nat) (h : bt (L y) v = true) : bt (upd L x (L x ||| w) y) v = true := li_up_on.mpr (Or.inl h)
theorem li_Go_up {T U S L : Nat → Int32} {x : Nat} {w : Int32} (g : li_Go T U S L) (hx : x < 12) (hU : li_Rg 20 U) (hw : ∀ v, bt w v = true → li_due T U S (li_on L) x v) : li_Go T U S (upd L x (L x ||| w)) := by
  obtain ⟨s, r, z⟩ := g
  refine ⟨fun R hR y v hy hv h => ?_, fun y i hy hi => li_nt fun h => ?_, fun y hy => ?_⟩
  · rcases li_up_on.mp h with h | ⟨rfl, h2⟩
    · exact s R hR y v hy hv h
    · exact hR y v hy hv (li_due_mono (fun c hc hh => s R hR c v hc hv hh) (hw v h2))
  · rcases li_up_on.mp h with h | ⟨rfl, h2⟩
    · exact li_tf h (r y i hy hi)
    · have := li_due_rg hU r hy (hw i h2)
      omega
  · rw [pk_un (by omega)]
    exact z y hy
/-- a table got by dropping things -/
theorem li_Go_dn {T U S L M : Nat → Int32} (r : li_Rg 20 L) (z : li_Zr L) (hr : ∀ x v, bt (M x) v = true → bt (L x) v = true) (s : li_So T U S M) : li_Go T U S M := by
  refine ⟨s, fun y i hy hi => li_nt fun h => li_tf (hr y i h) (r y i hy hi), fun y hy => b_ext fun i _ => ?_⟩
  rw [b_0]
  refine li_nt fun h => ?_
  have h2 := hr y i h
  rw [z y hy] at h2
  exact li_tf h2 (b_0 i)
end
section
/-! rounds: sets that grow in place (behind, far), and the reference's table (spread) -/
def li_it {α : Type} (f : α → α) : Nat → α → α
  | 0, s => s
  | n + 1, s => f (li_it f n s)
def li_br (g : Nat → Int32) : Nat → Int32 → Int32
  | 0, s => s
  | x + 1, s => if bt (li_br g x s) x = true then li_br g x s ||| g x else li_br g x s
theorem li_br_p {g : Nat → Int32} {x : Nat} {s : Int32} (h : bt (li_br g x s) x = true) : li_br g (x + 1) s = li_br g x s ||| g x := if_pos h
theorem li_br_n {g : Nat → Int32} {x : Nat} {s : Int32} (h : bt (li_br g x s) x = false) : li_br g (x + 1) s = li_br g x s := if_neg (by rw [h]; decide)
theorem li_br_mono1 {g : Nat → Int32} {n : Nat} {s : Int32} {y : Nat} (h : bt (li_br g n s) y = true) : bt (li_br g (n + 1) s) y = true := by
  by_cases c : bt (li_br g n s) n = true
  · rw [li_br_p c, b_or, h]; rfl
  · rw [li_br_n (li_nt c)]; exact h
theorem li_br_mono {g : Nat → Int32} {n : Nat} {s : Int32} {y : Nat} (h : bt s y = true) : bt (li_br g n s) y = true := by
  induction n with
  | zero => exact h
  | succ n ih => exact li_br_mono1 ih
theorem li_br_hit {g : Nat → Int32} {n : Nat} {s : Int32} {x y : Nat} (hx : x < n) (hs : bt s x = true) (h : bt (g x) y = true) : bt (li_br g n s) y = true := by
  induction n with
  | zero => omega
  | succ n ih =>
    by_cases e : x = n
    · subst e
      rw [li_br_p (li_br_mono hs), b_or, h, Bool.or_true]
    · exact li_br_mono1 (ih (by omega))
theorem li_br_sound {g : Nat → Int32} {n : Nat} {s : Int32} {R : Nat → Prop} (h0 : ∀ y, bt s y = true → R y) (h1 : ∀ x y, x < 12 → R x → bt (g x) y = true → R y) (hn : n ≤ 12) : ∀ y, bt (li_br g n s) y = true → R y := by
  induction n with
  | zero => exact h0
  | succ n ih =>
    have ih := ih (by omega)
    intro y hy
    by_cases c : bt (li_br g n s) n = true
    · rw [li_br_p c, b_or, Bool.or_eq_true] at hy
      exact hy.elim (ih y) (h1 n y (by omega) (ih n c))
    · rw [li_br_n (li_nt c)] at hy
      exact ih y hy
theorem li_br_fix {g : Nat → Int32} {n : Nat} {s : Int32} (h : ∀ x y, x < 12 → bt s x = true → bt (g x) y = true → bt s y = true) (hn : n ≤ 12) : li_br g n s = s := by
  refine b_ext fun i _ => li_beq ⟨fun z => ?_, li_br_mono⟩
  exact li_br_sound (R := fun y => bt s y = true) (fun _ z => z) h hn i z
theorem li_it_s {α : Type} (f : α → α) (n : Nat) (s : α) : li_it f (n + 1) s = f (li_it f n s) := rfl
theorem li_bi_mono {g : Nat → Int32} {n : Nat} {s : Int32} {y : Nat} (h : bt s y = true) : bt (li_it (li_br g 12) n s) y = true := by
  induction n with
  | zero => exact h
  | succ n ih => exact li_br_mono ih
theorem li_bi_sound {g : Nat → Int32} {n : Nat} {s : Int32} {R : Nat → Prop} (h0 : ∀ y, bt s y = true → R y) (h1 : ∀ x y, x < 12 → R x → bt (g x) y = true → R y) : ∀ y, bt (li_it (li_br g 12) n s) y = true → R y := by
  induction n with
  | zero => exact h0
  | succ n ih => exact li_br_sound ih h1 (Nat.le_refl 12)
def li_bc (g : Nat → Int32) (s : Int32) : Prop := ∀ x y, x < 12 → bt s x = true → bt (g x) y = true → bt s y = true
theorem li_bi_count {g : Nat → Int32} (hg : li_Rg 12 g) {s : Int32} (n : Nat) : li_bc g (li_it (li_br g 12) n s) ∨ n ≤ li_ct (bt (li_it (li_br g 12) n s)) 12 := by
  induction n with
  | zero => exact Or.inr (Nat.zero_le _)
  | succ n ih =>
    rw [li_it_s]
    generalize li_it (li_br g 12) n s = t at ih
    by_cases c : li_bc g t
    · rw [li_br_fix c (Nat.le_refl 12)]
      exact Or.inl c
    · refine Or.inr ?_
      have ih := ih.resolve_left c
      have hv : ∃ x y, x < 12 ∧ bt t x = true ∧ bt (g x) y = true ∧ bt t y = false := by
        refine Classical.byContradiction fun hn => c fun x y hx h1 h2 => li_nf fun h3 => hn ⟨x, y, hx, h1, h2, h3⟩
      obtain ⟨x, y, hx, h1, h2, h3⟩ := hv
      have hy : y < 12 := li_rg_lt hg hx h2
      have := li_ct_lt (p := bt t) (q := bt (li_br g 12 t)) (n := 12) (fun i _ => li_br_mono) hy h3 (li_br_hit hx h1 h2)
      omega
/-- twelve rounds: closed -/
theorem li_bi_cl {g : Nat → Int32} (hg : li_Rg 12 g) (s : Int32) : li_bc g (li_it (li_br g 12) 12 s) := by
  rcases li_bi_count hg (s := s) 12 with h | h
  · exact h
  · intro x y hx _ h2
    exact li_ct_full h (li_rg_lt hg hx h2)
/-! the reference's spread -/
def li_sr (T S : Nat → Int32) : Nat → (Nat → Int32) → (Nat → Int32)
  | 0, L => L
  | b + 1, L => upd (li_sr T S b L) b (li_sr T S b L b ||| (li_ae (T b) (li_sr T S b L) 12 &&& (S b ^^^ (-1))))
theorem li_sr_s {T S : Nat → Int32} {b : Nat} {L : Nat → Int32} : li_sr T S (b + 1) L = upd (li_sr T S b L) b (li_sr T S b L b ||| (li_ae (T b) (li_sr T S b L) 12 &&& (S b ^^^ (-1)))) := rfl
def li_pa (T S : Nat → Int32) (L : Nat → Int32) (x v : Nat) : Prop := bt (S x) v = false ∧ ∃ c, c < 12 ∧ bt (T x) c = true ∧ li_on L c v
theorem li_sr_mono1 {T S L : Nat → Int32} {n y v : Nat} (h : li_on (li_sr T S n L) y v) : li_on (li_sr T S (n + 1) L) y v := by
  rw [li_sr_s]
  exact li_up_mono y v h
theorem li_sr_mono {T S L : Nat → Int32} {n y v : Nat} (h : li_on L y v) : li_on (li_sr T S n L) y v := by
  induction n with
  | zero => exact h
  | succ n ih => exact li_sr_mono1 ih
theorem li_sr_hit {T S L : Nat → Int32} {n x v : Nat} (hx : x < n) (h : li_pa T S L x v) : li_on (li_sr T S n L) x v := by
  induction n with
  | zero => omega
  | succ n ih =>
    by_cases e : x = n
    · subst e
      rw [li_sr_s]
      refine li_up_on.mpr (Or.inr ⟨rfl, li_wn.mpr ⟨h.1, ?_⟩⟩)
      obtain ⟨c, hc, ht, hl⟩ := h.2
      exact ⟨c, hc, ht, li_sr_mono hl⟩
    · exact li_sr_mono1 (ih (by omega))
theorem li_sr_fix {T S L : Nat → Int32} {n v : Nat} (h : ∀ x, x < 12 → li_pa T S L x v → li_on L x v) (hn : n ≤ 12) : ∀ y, li_on (li_sr T S n L) y v → li_on L y v := by
  induction n with
  | zero => exact fun _ z => z
  | succ n ih =>
    have ih := ih (by omega)
    intro y hy
    rw [li_sr_s] at hy
    rcases li_up_on.mp hy with hy | ⟨rfl, hy2⟩
    · exact ih y hy
    · obtain ⟨h1, c, hc, ht, hl⟩ := li_wn.mp hy2
      exact h y (by omega) ⟨h1, c, hc, ht, ih c hl⟩
theorem li_sr_Go {T U S L : Nat → Int32} {n : Nat} (hU : li_Rg 20 U) (g : li_Go T U S L) (hn : n ≤ 12) : li_Go T U S (li_sr T S n L) := by
  induction n with
  | zero => exact g
  | succ n ih =>
    rw [li_sr_s]
    exact li_Go_up (ih (by omega)) (by omega) hU fun v h => Or.inr (li_wn.mp h)
theorem li_si_Go {T U S L : Nat → Int32} {n : Nat} (hU : li_Rg 20 U) (g : li_Go T U S L) : li_Go T U S (li_it (li_sr T S 12) n L) := by
  induction n with
  | zero => exact g
  | succ n ih => exact li_sr_Go hU ih (Nat.le_refl 12)
theorem li_si_mono {T S L : Nat → Int32} {n y v : Nat} (h : li_on L y v) : li_on (li_it (li_sr T S 12) n L) y v := by
  induction n with
  | zero => exact h
  | succ n ih => exact li_sr_mono ih
def li_cc (T S L : Nat → Int32) (v : Nat) : Prop := ∀ x, x < 12 → li_pa T S L x v → li_on L x v
theorem li_si_count {T S L : Nat → Int32} (v n : Nat) : li_cc T S (li_it (li_sr T S 12) n L) v ∨ n ≤ li_ct (fun x => bt (li_it (li_sr T S 12) n L x) v) 12 := by
  induction n with
  | zero => exact Or.inr (Nat.zero_le _)
  | succ n ih =>
    rw [li_it_s]
    generalize li_it (li_sr T S 12) n L = M at ih
    by_cases c : li_cc T S M v
    · refine Or.inl fun x hx h => ?_
      have k := li_sr_fix (n := 12) c (Nat.le_refl 12)
      refine li_sr_mono (c x hx ⟨h.1, ?_⟩)
      obtain ⟨d, hd, ht, hl⟩ := h.2
      exact ⟨d, hd, ht, k d hl⟩
    · refine Or.inr ?_
      have ih := ih.resolve_left c
      have hv : ∃ x, x < 12 ∧ li_pa T S M x v ∧ bt (M x) v = false := by
        refine Classical.byContradiction fun hn => c fun x hx h => ?_
        exact li_nf fun h3 => hn ⟨x, hx, h, h3⟩
      obtain ⟨x, hx, h1, h2⟩ := hv
      have := li_ct_lt (p := fun y => bt (M y) v) (q := fun y => bt (li_sr T S 12 M y) v) (n := 12) (fun i _ h => li_sr_mono (L := M) (y := i) h) hx h2 (li_sr_hit hx h1)
      omega
/-- twelve rounds over what is used: what is live -/
theorem li_si_ok {T U S L : Nat → Int32} (hU : li_Rg 20 U) (h0 : ∀ x, x < 12 → L x = U x) (hz : li_Zr L) : li_Ok T U S (li_it (li_sr T S 12) 12 L) := by
  have g : li_Go T U S L := by
    refine ⟨fun R hR x v hx hv h => hR x v hx hv (Or.inl ?_), fun x i hx hi => ?_, hz⟩
    · rw [← h0 x hx]; exact h
    · rw [h0 x hx]; exact hU x i hx hi
  refine ⟨fun x v hx hv h => ?_, li_si_Go hU g⟩
  rcases h with h | h
  · refine li_si_mono ?_
    unfold li_on
    rw [h0 x hx]; exact h
  · rcases li_si_count (T := T) (S := S) (L := L) v 12 with k | k
    · exact k x hx h
    · exact li_ct_full k hx
end
section
/-! plain laws: what a change of one block does to the table; the way back; pairs -/
theorem li_same_due {T U S T0 U0 S0 : Nat → Int32} {x : Nat} (h : T x = T0 x ∧ U x = U0 x ∧ S x = S0 x) {R : Nat → Nat → Prop} {v : Nat} : li_due T U S R x v ↔ li_due T0 U0 S0 R x v := by
  unfold li_due
  rw [h.1, h.2.1, h.2.2]
/-- the table less what rests on b is sound in the new system -/
theorem li_cut_So {T U S T0 U0 S0 L M : Nat → Int32} {b : Nat} (cl : li_Cl T0 U0 S0 (li_on L)) (so : li_So T0 U0 S0 L)
    (same : ∀ x, x < 12 → x ≠ b → T x = T0 x ∧ U x = U0 x ∧ S x = S0 x) (F : Nat → Prop)
    (hF : ∀ v, v < 20 → ¬ F v → ∀ R : Nat → Nat → Prop, li_due T0 U0 S0 R b v → li_due T U S R b v)
    (Reg : Nat → Prop) (rb : Reg b) (rc : ∀ x c, x < 12 → c < 12 → Reg c → bt (T x) c = true → Reg x)
    (hM : ∀ x v, x < 12 → v < 20 → li_on M x v → li_on L x v ∧ ¬ (Reg x ∧ F v ∧ li_on L b v)) : li_So T U S M := by
  intro R hR x v hx hv h
  obtain ⟨hl, hn⟩ := hM x v hx hv h
  have key : li_Cl T0 U0 S0 (fun y w => li_on L y w ∧ (R y w ∨ (Reg y ∧ F w ∧ li_on L b w))) := by
    intro y w hy hw d
    have dl : li_on L y w := cl y w hy hw (li_due_mono (fun c _ z => z.1) d)
    refine ⟨dl, ?_⟩
    by_cases e : y = b
    · subst e
      by_cases f : F w
      · exact Or.inr ⟨rb, f, dl⟩
      · exact Or.inl (hR y w hy hw (hF w hw f R (li_due_mono (fun c _ z => z.2.elim id fun q => absurd q.2.1 f) d)))
    · have hs := same y hy e
      rcases (li_same_due hs).mpr d with d | ⟨d1, c, hc, ht, d2, d3 | d3⟩
      · exact Or.inl (hR y w hy hw (Or.inl d))
      · exact Or.inl (hR y w hy hw (Or.inr ⟨d1, c, hc, ht, d3⟩))
      · exact Or.inr ⟨rc y c hy hc d3.1 ht, d3.2⟩
  rcases (so _ key x v hx hv hl).2 with k | k
  · exact k
  · exact absurd k hn
/-- filled again: closed wherever the new equation is not above the old one -/
theorem li_refill {T U S T0 U0 S0 L M : Nat → Int32} {reg lost : Int32} {x v : Nat} (hx : x < 12) (hv : v < 20)
    (hd : ∀ R : Nat → Nat → Prop, li_due T U S R x v → li_due T0 U0 S0 R x v) (cl : li_Cl T0 U0 S0 (li_on L))
    (rc : ∀ x c, x < 12 → c < 12 → bt reg c = true → bt (T x) c = true → bt reg x = true)
    (ag : ∀ x v, x < 12 → ¬ (bt reg x = true ∧ bt lost v = true) → bt (M x) v = bt (L x) v)
    (k : ∀ x v, x < 12 → bt reg x = true → bt lost v = true → li_due T U S (li_on M) x v → li_on M x v)
    (d : li_due T U S (li_on M) x v) : li_on M x v := by
  by_cases c : bt reg x = true ∧ bt lost v = true
  · exact k x v hx c.1 c.2 d
  · unfold li_on
    rw [ag x v hx c]
    refine cl x v hx hv (hd _ ?_)
    rcases d with d | ⟨d1, y, hy, ht, d2⟩
    · exact Or.inl d
    · refine Or.inr ⟨d1, y, hy, ht, ?_⟩
      unfold li_on at d2 ⊢
      rw [← ag y v hy fun z => c ⟨rc x y hx hy z.1 ht, z.2⟩]
      exact d2
/-- a table cut: blocks below n -/
def li_cu (L : Nat → Int32) (reg lost : Int32) (n : Nat) : Nat → Int32 := fun x => if x < n ∧ bt reg x = true then L x &&& (lost ^^^ (-1)) else L x
theorem li_cu_0 (L : Nat → Int32) (reg lost : Int32) : li_cu L reg lost 0 = L := by
  funext x
  exact if_neg fun h => absurd h.1 (Nat.not_lt_zero x)
theorem li_cu_n {L : Nat → Int32} {reg lost : Int32} {n : Nat} (h : bt reg n = false) : li_cu L reg lost (n + 1) = li_cu L reg lost n := by
  funext x
  unfold li_cu
  by_cases c : x < n ∧ bt reg x = true
  · rw [if_pos c, if_pos ⟨by omega, c.2⟩]
  · rw [if_neg c, if_neg]
    rintro ⟨h1, h2⟩
    by_cases e : x = n
    · subst e; exact li_tf h2 h
    · exact c ⟨by omega, h2⟩
theorem li_cu_p {L : Nat → Int32} {reg lost : Int32} {n : Nat} (h : bt reg n = true) : li_cu L reg lost (n + 1) = upd (li_cu L reg lost n) n (li_cu L reg lost n n &&& (lost ^^^ (-1))) := by
  funext x
  by_cases e : x = n
  · subst e
    rw [pk_us]
    unfold li_cu
    rw [if_pos ⟨by omega, h⟩, if_neg (fun z => absurd z.1 (Nat.lt_irrefl x))]
  · rw [pk_un e]
    unfold li_cu
    by_cases c : x < n ∧ bt reg x = true
    · rw [if_pos c, if_pos ⟨by omega, c.2⟩]
    · rw [if_neg c, if_neg fun z => c ⟨by omega, z.2⟩]
theorem li_cu_on {L : Nat → Int32} {reg lost : Int32} {x v : Nat} : bt (li_cu L reg lost 12 x) v = true ↔ bt (L x) v = true ∧ ¬ (x < 12 ∧ bt reg x = true ∧ bt lost v = true) := by
  unfold li_cu
  by_cases c : x < 12 ∧ bt reg x = true
  · rw [if_pos c, li_an, Bool.and_eq_true, Bool.not_eq_true']
    constructor
    · intro h
      exact ⟨h.1, fun z => li_tf z.2.2 h.2⟩
    · intro h
      exact ⟨h.1, li_nt fun z => h.2 ⟨c.1, c.2, z⟩⟩
  · rw [if_neg c]
    exact ⟨fun h => ⟨h, fun z => c ⟨z.1, z.2.1⟩⟩, fun h => h.1⟩
/-! the component's spread: one round, block by block -/
def li_SI (T U S : Nat → Int32) (op : Int32) (L0 : Nat → Int32) (x : Nat) (s : Int32 × (Nat → Int32)) : Prop :=
  li_Go T U S s.2 ∧ (∀ y v, y < 12 → v < 20 → li_due T U S (li_on s.2) y v → li_on s.2 y v ∨ bt s.1 y = true ∨ (bt op y = true ∧ x ≤ y)) ∧ li_c2 L0 ≤ li_c2 s.2 ∧ (s.1 = 0 ∨ li_c2 L0 < li_c2 s.2)
theorem li_SI_n {T U S L0 : Nat → Int32} {op : Int32} {x : Nat} {s : Int32 × (Nat → Int32)} (h : li_SI T U S op L0 x s) (ho : bt op x = false) : li_SI T U S op L0 (x + 1) s := by
  refine ⟨h.1, fun y v hy hv d => ?_, h.2.2⟩
  rcases h.2.1 y v hy hv d with k | k | k
  · exact Or.inl k
  · exact Or.inr (Or.inl k)
  · by_cases e : y = x
    · subst e; exact li_tf k.1 ho
    · exact Or.inr (Or.inr ⟨k.1, by omega⟩)
theorem li_SI_z {T U S L0 : Nat → Int32} {op : Int32} {x : Nat} {s : Int32 × (Nat → Int32)} (h : li_SI T U S op L0 x s) (hz : li_du T U S s.2 x &&& (s.2 x ^^^ (-1)) = 0) : li_SI T U S op L0 (x + 1) s := by
  refine ⟨h.1, fun y v hy hv d => ?_, h.2.2⟩
  rcases h.2.1 y v hy hv d with k | k | k
  · exact Or.inl k
  · exact Or.inr (Or.inl k)
  · by_cases e : y = x
    · subst e
      refine Or.inl (li_nf fun z => ?_)
      have q := li_z hz v
      rw [li_an, li_du_bt.mpr d, z] at q
      exact nomatch q
    · exact Or.inr (Or.inr ⟨k.1, by omega⟩)
/-- something is new: the count grows -/
theorem li_new {L : Nat → Int32} {x : Nat} {w : Int32} (hx : x < 12) (hw : ∀ v, bt w v = true → v < 20) (hz : ¬ w &&& (L x ^^^ (-1)) = 0) : li_c2 L < li_c2 (upd L x (L x ||| w)) := by
  obtain ⟨i, _, hi⟩ := li_nz hz
  rw [li_an, Bool.and_eq_true, Bool.not_eq_true'] at hi
  exact li_c2_lt li_up_mono hx (hw i hi.1) hi.2 (li_up_on.mpr (Or.inr ⟨rfl, hi.1⟩))
theorem li_SI_p {T F U S L0 L : Nat → Int32} {op nx : Int32} {x : Nat} (hx : x < 12) (hU : li_Rg 20 U) (tr : ∀ a b, a < 12 → b < 12 → bt (T a) b = bt (F b) a) (h : li_SI T U S op L0 x (nx, L)) (hz : ¬ li_du T U S L x &&& (L x ^^^ (-1)) = 0) : li_SI T U S op L0 (x + 1) (nx ||| F x, upd L x (L x ||| li_du T U S L x)) := by
  obtain ⟨g, vi, c1, c2⟩ := h
  have lt : li_c2 L < li_c2 (upd L x (L x ||| li_du T U S L x)) := li_new hx (fun v z => li_due_rg hU g.2.1 hx (li_du_bt.mp z)) hz
  have c1 : li_c2 L0 ≤ li_c2 L := c1
  refine ⟨li_Go_up g hx hU fun v z => li_du_bt.mp z, fun y v hy hv d => ?_, Nat.le_of_lt (Nat.lt_of_le_of_lt c1 lt), Or.inr (Nat.lt_of_le_of_lt c1 lt)⟩
  show li_on (upd L x (L x ||| li_du T U S L x)) y v ∨ bt (nx ||| F x) y = true ∨ _
  have d : li_due T U S (li_on (upd L x (L x ||| li_du T U S L x))) y v := d
  have old : li_due T U S (li_on L) y v → li_on (upd L x (L x ||| li_du T U S L x)) y v ∨ bt (nx ||| F x) y = true ∨ (bt op y = true ∧ x + 1 ≤ y) := by
    intro d9
    rcases vi y v hy hv d9 with k | k | k
    · exact Or.inl (li_up_mono y v k)
    · have k : bt nx y = true := k
      exact Or.inr (Or.inl (by rw [b_or, k]; rfl))
    · by_cases e : y = x
      · subst e
        exact Or.inl (li_up_on.mpr (Or.inr ⟨rfl, li_du_bt.mpr d9⟩))
      · exact Or.inr (Or.inr ⟨k.1, by omega⟩)
  rcases d with d | ⟨d1, c, hc, ht, d2⟩
  · exact old (Or.inl d)
  · rcases li_up_on.mp d2 with d2 | ⟨rfl, d3⟩
    · exact old (Or.inr ⟨d1, c, hc, ht, d2⟩)
    · rw [tr y c hy hc] at ht
      exact Or.inr (Or.inl (by rw [b_or, ht, Bool.or_true]))
/-! the component's shrink: one round of filling again, from the last block down -/
def li_HI (T U S LA : Nat → Int32) (reg lost : Int32) (L0 : Nat → Int32) (j : Nat) (s : Int32 × (Nat → Int32)) : Prop :=
  li_Go T U S s.2 ∧ (∀ x v, x < 12 → ¬ (bt reg x = true ∧ bt lost v = true) → bt (s.2 x) v = bt (LA x) v) ∧
    ((s.1 = 0 ∧ s.2 = L0 ∧ ∀ y v, j ≤ y → y < 12 → bt reg y = true → bt lost v = true → li_due T U S (li_on L0) y v → li_on L0 y v) ∨ (s.1 = 1 ∧ li_c2 L0 < li_c2 s.2))
theorem li_HI_n {T U S LA L0 : Nat → Int32} {reg lost : Int32} {j : Nat} {s : Int32 × (Nat → Int32)} (h : li_HI T U S LA reg lost L0 (j + 1) s) (ho : bt reg j = false) : li_HI T U S LA reg lost L0 j s := by
  refine ⟨h.1, h.2.1, ?_⟩
  rcases h.2.2 with ⟨h1, h2, h3⟩ | k
  · refine Or.inl ⟨h1, h2, fun y v hj hy hr hl d => ?_⟩
    by_cases e : y = j
    · subst e; exact li_tf hr ho
    · exact h3 y v (by omega) hy hr hl d
  · exact Or.inr k
theorem li_HI_z {T U S LA L0 : Nat → Int32} {reg lost : Int32} {j : Nat} {s : Int32 × (Nat → Int32)} (h : li_HI T U S LA reg lost L0 (j + 1) s) (hz : (li_du T U S s.2 j &&& lost) &&& (s.2 j ^^^ (-1)) = 0) : li_HI T U S LA reg lost L0 j s := by
  refine ⟨h.1, h.2.1, ?_⟩
  rcases h.2.2 with ⟨h1, h2, h3⟩ | k
  · refine Or.inl ⟨h1, h2, fun y v hj hy hr hl d => ?_⟩
    by_cases e : y = j
    · subst e
      rw [h2] at hz
      refine li_nf fun z => ?_
      have q := li_z hz v
      rw [li_an, b_and, li_du_bt.mpr d, hl, z] at q
      exact nomatch q
    · exact h3 y v (by omega) hy hr hl d
  · exact Or.inr k
theorem li_HI_p {T U S LA L0 L : Nat → Int32} {reg lost m : Int32} {j : Nat} (hj : j < 12) (hU : li_Rg 20 U) (hr : bt reg j = true) (h : li_HI T U S LA reg lost L0 (j + 1) (m, L)) (hz : ¬ (li_du T U S L j &&& lost) &&& (L j ^^^ (-1)) = 0) : li_HI T U S LA reg lost L0 j (1, upd L j (L j ||| (li_du T U S L j &&& lost))) := by
  obtain ⟨g, ag, c⟩ := h
  have hw : ∀ v, bt (li_du T U S L j &&& lost) v = true → li_due T U S (li_on L) j v := by
    intro v z
    rw [b_and, Bool.and_eq_true] at z
    exact li_du_bt.mp z.1
  have lt : li_c2 L < li_c2 (upd L j (L j ||| (li_du T U S L j &&& lost))) := li_new hj (fun v z => li_due_rg hU g.2.1 hj (hw v z)) hz
  refine ⟨li_Go_up g hj hU hw, fun x v hx hn => ?_, Or.inr ⟨rfl, ?_⟩⟩
  · show bt (upd L j (L j ||| (li_du T U S L j &&& lost)) x) v = bt (LA x) v
    rw [← ag x v hx hn]
    show _ = bt (L x) v
    refine li_beq ⟨fun z => ?_, li_up_mono x v⟩
    rcases li_up_on.mp z with z | ⟨rfl, z2⟩
    · exact z
    · rw [b_and, Bool.and_eq_true] at z2
      exact absurd ⟨hr, z2.2⟩ hn
  · show li_c2 L0 < li_c2 (upd L j (L j ||| (li_du T U S L j &&& lost)))
    rcases c with ⟨_, c, _⟩ | ⟨_, c⟩
    · have c : L = L0 := c
      subst c; exact lt
    · have c : li_c2 L0 < li_c2 L := c
      omega
end
section
/-! ways forward and back; sets of blocks; pairs of variables -/
/-- the least set that holds s and is closed under g -/
def li_Bw (g : Nat → Int32) (s : Int32) (x : Nat) : Prop :=
  ∀ R : Nat → Prop, (∀ y, bt s y = true → R y) → (∀ x y, x < 12 → R x → bt (g x) y = true → R y) → R x
/-- arcs out of blocks that don't set v -/
def li_ms (S G : Nat → Int32) (v : Nat) : Nat → Int32 := fun x => if bt (S x) v = true then 0 else G x
theorem li_ms_bt {S G : Nat → Int32} {v x y : Nat} : bt (li_ms S G v x) y = true ↔ bt (S x) v = false ∧ bt (G x) y = true := by
  unfold li_ms
  by_cases c : bt (S x) v = true
  · rw [if_pos c]
    exact ⟨fun h => li_tf h (b_0 y), fun h => li_tf c h.1⟩
  · rw [if_neg c]
    exact ⟨fun h => ⟨li_nt c, h⟩, fun h => h.2⟩
theorem li_ms_rg {S G : Nat → Int32} {v n : Nat} (h : li_Rg n G) : li_Rg n (li_ms S G v) := fun x i hx hi => li_nt fun z => li_tf (li_ms_bt.mp z).2 (h x i hx hi)
theorem li_dual {S G H : Nat → Int32} {v a b : Nat} (tr : ∀ a b, a < 12 → b < 12 → bt (G a) b = bt (H b) a) (hG : li_Rg 12 G) (ha : a < 12) (h : li_Bw (li_ms S G v) (G a) b) : li_Bw (li_ms S H v) (H b) a := by
  refine (h (fun c => c < 12 ∧ li_Bw (li_ms S H v) (H c) a) (fun y hy => ?_) fun x y hx hr hy => ?_).2
  · have hy2 := li_rg_lt hG ha hy
    refine ⟨hy2, fun R h0 _ => h0 a ?_⟩
    rw [← tr a y ha hy2]; exact hy
  · obtain ⟨hm, hy⟩ := li_ms_bt.mp hy
    have hy2 := li_rg_lt hG hx hy
    refine ⟨hy2, fun Q q0 q1 => hr.2 Q (fun z hz => ?_) q1⟩
    refine q1 x z hx (q0 x ?_) (li_ms_bt.mpr ⟨hm, hz⟩)
    rw [← tr x y hx hy2]; exact hy
theorem li_far_bw {g : Nat → Int32} {s : Int32} (hg : li_Rg 12 g) {y : Nat} : bt (li_it (li_br g 12) 12 s) y = true ↔ li_Bw g s y := by
  constructor
  · intro h R h0 h1
    exact li_bi_sound h0 h1 y h
  · intro h
    exact h _ (fun z hz => li_bi_mono hz) (li_bi_cl hg s)
/-! the component's reaching: rounds over (what is seen, what is new) -/
def li_QI (g : Nat → Int32) (s0 : Int32) (r : Nat) (s : Int32 × Int32) : Prop :=
  (∀ y, bt s.1 y = true ∨ bt s.2 y = true → li_Bw g s0 y) ∧ (∀ x y, x < 12 → bt s.1 x = true → bt (g x) y = true → bt s.1 y = true ∨ bt s.2 y = true) ∧
    (∀ y, bt s0 y = true → bt s.1 y = true ∨ bt s.2 y = true) ∧ (∀ y, bt s.2 y = true → bt s.1 y = false ∧ y < 12) ∧ r ≤ li_ct (bt s.1) 12
theorem li_QI_0 {g : Nat → Int32} {s0 : Int32} (h : ∀ i, 12 ≤ i → bt s0 i = false) : li_QI g s0 0 (0, s0) := by
  refine ⟨fun y hy R h0 _ => ?_, fun x y _ hx _ => li_tf hx (b_0 x), fun y hy => Or.inr hy, fun y hy => ⟨b_0 y, ?_⟩, Nat.zero_le _⟩
  · rcases hy with hy | hy
    · exact li_tf hy (b_0 y)
    · exact h0 y hy
  · refine Classical.byContradiction fun hn => ?_
    exact li_tf hy (h y (by omega))
theorem li_QI_s {g : Nat → Int32} {s0 seen op : Int32} {r : Nat} (hg : li_Rg 12 g) (h : li_QI g s0 r (seen, op)) (ho : ¬ op = 0) : li_QI g s0 (r + 1) (seen ||| op, li_ae op g 12 &&& ((seen ||| op) ^^^ (-1))) := by
  obtain ⟨h1, h2, h3, h4, h5⟩ := h
  have e1 : ∀ y, bt (seen ||| op) y = true ↔ bt seen y = true ∨ bt op y = true := fun y => by rw [b_or, Bool.or_eq_true]
  have e2 : ∀ y, bt (li_ae op g 12 &&& ((seen ||| op) ^^^ (-1))) y = true ↔ (∃ c, c < 12 ∧ bt op c = true ∧ bt (g c) y = true) ∧ bt (seen ||| op) y = false := fun y => by
    rw [li_an, Bool.and_eq_true, li_ae_bt, Bool.not_eq_true']
  refine ⟨fun y hy => ?_, fun x y hx hs hy => ?_, fun y hy => Or.inl ((e1 y).mpr (h3 y hy)), fun y hy => ?_, ?_⟩
  · rcases hy with hy | hy
    · exact h1 y ((e1 y).mp hy)
    · obtain ⟨⟨c, hc, k1, k2⟩, _⟩ := (e2 y).mp hy
      exact fun R r0 r1 => r1 c y hc (h1 c (Or.inr k1) R r0 r1) k2
  · by_cases c : bt (seen ||| op) y = true
    · exact Or.inl c
    · refine Or.inr ((e2 y).mpr ⟨?_, li_nt c⟩)
      rcases (e1 x).mp hs with k | k
      · exact absurd ((e1 y).mpr (h2 x y hx k hy)) c
      · exact ⟨x, hx, k, hy⟩
  · obtain ⟨⟨c, hc, k1, k2⟩, k3⟩ := (e2 y).mp hy
    exact ⟨k3, li_rg_lt hg hc k2⟩
  · obtain ⟨i, _, hi⟩ := li_nz ho
    obtain ⟨k1, k2⟩ := h4 i hi
    have h5 : r ≤ li_ct (bt seen) 12 := h5
    have := li_ct_lt (p := bt seen) (q := bt (seen ||| op)) (n := 12) (fun j _ z => (e1 j).mpr (Or.inl z)) k2 k1 ((e1 i).mpr (Or.inr hi))
    show r + 1 ≤ li_ct (bt (seen ||| op)) 12
    omega
theorem li_QI_e {g : Nat → Int32} {s0 seen op : Int32} {r : Nat} (h : li_QI g s0 r (seen, op)) (he : op = 0 ∨ 12 < r) (y : Nat) : bt seen y = true ↔ li_Bw g s0 y := by
  obtain ⟨h1, h2, h3, h4, h5⟩ := h
  rcases he with he | he
  · subst he
    refine ⟨fun z => h1 y (Or.inl z), fun z => z (fun y => bt seen y = true) (fun y hy => ?_) fun x y hx hs hy => ?_⟩
    · exact (h3 y hy).elim id fun k => li_tf k (b_0 y)
    · exact (h2 x y hx hs hy).elim id fun k => li_tf k (b_0 y)
  · have h5 : r ≤ li_ct (bt seen) 12 := h5
    have := li_ct_bd (bt seen) 12
    omega
/-! sets of blocks -/
def li_bs (p : Nat → Bool) : Nat → Int32
  | 0 => 0
  | x + 1 => if p x = true then li_bs p x ||| ((1 : Int32) <<< (nI x &&& 31)) else li_bs p x
theorem li_bs_p {p : Nat → Bool} {x : Nat} (h : p x = true) : li_bs p (x + 1) = li_bs p x ||| ((1 : Int32) <<< (nI x &&& 31)) := if_pos h
theorem li_bs_n {p : Nat → Bool} {x : Nat} (h : p x = false) : li_bs p (x + 1) = li_bs p x := if_neg (by rw [h]; decide)
theorem li_bs_eq {p q : Nat → Bool} {n : Nat} (h : ∀ i, i < n → p i = q i) : li_bs p n = li_bs q n := by
  induction n with
  | zero => rfl
  | succ n ih =>
    have ih := ih fun i hi => h i (by omega)
    cases c : p n
    · rw [li_bs_n c, li_bs_n (by rw [← h n (by omega)]; exact c), ih]
    · rw [li_bs_p c, li_bs_p (by rw [← h n (by omega)]; exact c), ih]
theorem li_ae_p {t : Int32} {L : Nat → Int32} {x : Nat} (h : bt t x = true) : li_ae t L (x + 1) = li_ae t L x ||| L x := if_pos h
theorem li_ae_n {t : Int32} {L : Nat → Int32} {x : Nat} (h : bt t x = false) : li_ae t L (x + 1) = li_ae t L x := if_neg (by rw [h]; decide)
/-- the greatest of f 0 .. f (n - 1) -/
def li_mx (f : Nat → Nat) : Nat → Nat
  | 0 => 0
  | n + 1 => if f n ≤ li_mx f n then li_mx f n else f n
theorem li_mx_n {f : Nat → Nat} {n : Nat} (h : f n ≤ li_mx f n) : li_mx f (n + 1) = li_mx f n := if_pos h
theorem li_mx_p {f : Nat → Nat} {n : Nat} (h : ¬ f n ≤ li_mx f n) : li_mx f (n + 1) = f n := if_neg h
theorem li_mx_bd {f : Nat → Nat} {c n : Nat} (h : ∀ i, i < n → f i ≤ c) : li_mx f n ≤ c := by
  induction n with
  | zero => exact Nat.zero_le _
  | succ n ih =>
    by_cases k : f n ≤ li_mx f n
    · rw [li_mx_n k]; exact ih fun i hi => h i (by omega)
    · rw [li_mx_p k]; exact h n (by omega)
/-! pairs that are live together -/
def li_tg (L : Nat → Int32) (v : Nat) : Nat → Int32
  | 0 => 0
  | b + 1 => if bt (L b) v = true then li_tg L v b ||| L b else li_tg L v b
theorem li_tg_p {L : Nat → Int32} {v b : Nat} (h : bt (L b) v = true) : li_tg L v (b + 1) = li_tg L v b ||| L b := if_pos h
theorem li_tg_n {L : Nat → Int32} {v b : Nat} (h : bt (L b) v = false) : li_tg L v (b + 1) = li_tg L v b := if_neg (by rw [h]; decide)
theorem li_tg_bt {L : Nat → Int32} {v w n : Nat} : bt (li_tg L v n) w = true ↔ ∃ b, b < n ∧ bt (L b) v = true ∧ bt (L b) w = true := by
  induction n with
  | zero =>
    constructor
    · intro h
      exact li_tf h (b_0 w)
    · rintro ⟨c, hc, _⟩
      omega
  | succ n ih =>
    by_cases h : bt (L n) v = true
    · rw [li_tg_p h, b_or, Bool.or_eq_true, ih]
      constructor
      · rintro (⟨c, hc, h1, h2⟩ | h2)
        · exact ⟨c, by omega, h1, h2⟩
        · exact ⟨n, by omega, h, h2⟩
      · rintro ⟨c, hc, h1, h2⟩
        by_cases e : c = n
        · subst e; exact Or.inr h2
        · exact Or.inl ⟨c, by omega, h1, h2⟩
    · rw [li_tg_n (li_nt h), ih]
      constructor
      · rintro ⟨c, hc, h1, h2⟩
        exact ⟨c, by omega, h1, h2⟩
      · rintro ⟨c, hc, h1, h2⟩
        by_cases e : c = n
        · subst e; exact absurd h1 h
        · exact ⟨c, by omega, h1, h2⟩
theorem li_tg_sym {L : Nat → Int32} {v w n : Nat} : bt (li_tg L v n) w = bt (li_tg L w n) v :=
  li_beq (li_tg_bt.trans (Iff.trans ⟨fun ⟨b, h1, h2, h3⟩ => ⟨b, h1, h3, h2⟩, fun ⟨b, h1, h2, h3⟩ => ⟨b, h1, h3, h2⟩⟩ li_tg_bt.symm))
theorem li_tg_rg {L : Nat → Int32} {v w : Nat} (r : li_Rg 20 L) (hw : 20 ≤ w) : bt (li_tg L v 12) w = false := by
  refine li_nt fun h => ?_
  obtain ⟨b, hb, _, h2⟩ := li_tg_bt.mp h
  exact li_tf h2 (r b w hb hw)
/-- the component's count for v: those above v -/
theorem li_cr_x {L : Nat → Int32} {v : Nat} (r : li_Rg 20 L) (hv : v < 20) : li_ct (bt (li_tg L v 12 >>> (nI (v + 1) &&& 31))) 20 = li_su (fun w => (decide (v < w) && bt (li_tg L v 12) w).toNat) 20 := by
  have e1 : li_ct (bt (li_tg L v 12 >>> (nI (v + 1) &&& 31))) 20 = li_su (fun i => (decide (v < v + 1 + i) && bt (li_tg L v 12) (v + 1 + i)).toNat) 20 := by
    refine li_su_eq fun i hi => congrArg Bool.toNat ?_
    rw [b_sshr (v + 1) (by omega) _ (by omega), decide_eq_true (by omega), Bool.true_and]
    by_cases c : v + 1 + i < 32
    · rw [if_pos c]
    · rw [if_neg c, li_tg_rg r (by omega), li_tg_rg r (by omega)]
  have e2 := li_su_app (f := fun w => (decide (v < w) && bt (li_tg L v 12) w).toNat) (n := v + 1) (m := 20)
  have e3 := li_su_app (f := fun w => (decide (v < w) && bt (li_tg L v 12) w).toNat) (n := 20) (m := v + 1)
  have z1 : li_su (fun w => (decide (v < w) && bt (li_tg L v 12) w).toNat) (v + 1) = 0 := by
    refine (li_su_eq fun i hi => ?_).trans (li_su_0 (n := v + 1))
    rw [decide_eq_false (by omega)]; rfl
  have z2 : li_su (fun i => (decide (v < 20 + i) && bt (li_tg L v 12) (20 + i)).toNat) (v + 1) = 0 := by
    refine (li_su_eq fun i hi => ?_).trans (li_su_0 (n := v + 1))
    rw [li_tg_rg r (by omega), Bool.and_false]; rfl
  rw [Nat.add_comm 20 (v + 1)] at e3
  omega
theorem li_cr_y {L : Nat → Int32} {v : Nat} (hv : v < 20) : li_ct (bt (li_tg L v 12 &&& (((1 : Int32) <<< (nI v &&& 31)) ^^^ (-1)))) 20 = li_su (fun w => (decide (v < w) && bt (li_tg L v 12) w).toNat + (decide (w < v) && bt (li_tg L v 12) w).toNat) 20 := by
  refine li_su_eq fun i hi => ?_
  show (bt _ i).toNat = _
  rw [li_an, li_bit (by omega)]
  rcases Nat.lt_trichotomy i v with c | c | c
  · rw [decide_eq_false (show ¬ i = v by omega), decide_eq_false (show ¬ v < i by omega), decide_eq_true c]
    cases bt (li_tg L v 12) i <;> rfl
  · rw [decide_eq_true c, decide_eq_false (show ¬ v < i by omega), decide_eq_false (show ¬ i < v by omega)]
    cases bt (li_tg L v 12) i <;> rfl
  · rw [decide_eq_false (show ¬ i = v by omega), decide_eq_true c, decide_eq_false (show ¬ i < v by omega)]
    cases bt (li_tg L v 12) i <;> rfl
def li_cx (L : Nat → Int32) (v : Nat) : Nat := li_ct (bt (li_tg L v 12 >>> (nI (v + 1) &&& 31))) 20
def li_cy (L : Nat → Int32) (v : Nat) : Nat := li_ct (bt (li_tg L v 12 &&& (((1 : Int32) <<< (nI v &&& 31)) ^^^ (-1)))) 20
theorem li_cr {L : Nat → Int32} (r : li_Rg 20 L) : li_su (li_cy L) 20 = li_su (li_cx L) 20 + li_su (li_cx L) 20 := by
  have ex : li_su (li_cx L) 20 = li_su (fun v => li_su (fun w => (decide (v < w) && bt (li_tg L v 12) w).toNat) 20) 20 := li_su_eq fun v hv => li_cr_x r hv
  have ey : li_su (li_cy L) 20 = li_su (fun v => li_su (fun w => (decide (v < w) && bt (li_tg L v 12) w).toNat) 20 + li_su (fun w => (decide (w < v) && bt (li_tg L v 12) w).toNat) 20) 20 := li_su_eq fun v hv => (li_cr_y hv).trans li_su_add
  have es : li_su (fun v => li_su (fun w => (decide (w < v) && bt (li_tg L v 12) w).toNat) 20) 20 = li_su (fun v => li_su (fun w => (decide (v < w) && bt (li_tg L v 12) w).toNat) 20) 20 := by
    rw [li_su_swap (f := fun v w => (decide (w < v) && bt (li_tg L v 12) w).toNat)]
    refine li_su_eq fun v _ => li_su_eq fun w _ => ?_
    show (decide (v < w) && bt (li_tg L w 12) v).toNat = _
    rw [li_tg_sym]
  rw [ey, ex, li_su_add, es]
end
section
/-! the component's small methods and its questions' loops -/
section
variable {T F U S L : Nat → Int32}
theorem li_ix (x : Int32) (n : Nat) (hn : n < 2 ^ 31) : x < 0 ∨ (¬ x < 0 ∧ ∃ j : Nat, n ≤ j ∧ j < 2 ^ 31 ∧ x = nI j) ∨ ∃ j : Nat, j < n ∧ x = nI j := by
  by_cases h : x < 0
  · exact Or.inl h
  · obtain ⟨j, hj, rfl⟩ := nI_of h
    by_cases h2 : j < n
    · exact Or.inr (Or.inr ⟨j, h2, rfl⟩)
    · exact Or.inr (Or.inl ⟨h, j, by omega, hj, rfl⟩)
def li_out (n : Nat) (x : Int32) : Prop := x < 0 ∨ (¬ x < 0 ∧ ∃ j : Nat, n ≤ j ∧ j < 2 ^ 31 ∧ x = nI j)
theorem li_io (x : Int32) (n : Nat) (hn : n < 2 ^ 31) : li_out n x ∨ ∃ j : Nat, j < n ∧ x = nI j := by
  rcases li_ix x n hn with h | h | h
  · exact Or.inl (Or.inl h)
  · exact Or.inl (Or.inr h)
  · exact Or.inr h
theorem li_xBad {post : Int32 → Prop} {b : Nat} (hb : b < 12) (h : post 0) : wpX_bad post (T, F, U, S, L) (nI b) :=
  br_f (nI_pos (by omega)) (br_t (nI_lt (b := 12) hb (by decide)) h)
theorem li_xBadN {post : Int32 → Prop} {x : Int32} (hx : li_out 12 x) (h : post 1) : wpX_bad post (T, F, U, S, L) x := by
  rcases hx with c | ⟨c, j, hj, hj2, rfl⟩
  · exact br_t c h
  · exact br_f c (br_f (nI_nlt (b := 12) hj hj2) h)
theorem li_xBadV {post : Int32 → Prop} {b : Nat} (hb : b < 20) (h : post 0) : wpX_badVariable post (T, F, U, S, L) (nI b) :=
  br_f (nI_pos (by omega)) (br_t (nI_lt (b := 20) hb (by decide)) h)
theorem li_xBadVN {post : Int32 → Prop} {x : Int32} (hx : li_out 20 x) (h : post 1) : wpX_badVariable post (T, F, U, S, L) x := by
  rcases hx with c | ⟨c, j, hj, hj2, rfl⟩
  · exact br_t c h
  · exact br_f c (br_f (nI_nlt (b := 20) hj hj2) h)
theorem li_xSize {post : Int32 → Prop} {s : Int32} (h : post (nI (li_ct (bt s) 20))) : wpX_sizeOf post (T, F, U, S, L) s := by
  refine loop_0 (fun n i a => wX_sizeOf_4 post s T F U S L n a (nI i)) (fun i a => a = nI (li_ct (bt s) i)) 20 0 rfl ?_ ?_
  · intro n a e
    subst e
    exact br_t (nI_le (a := 20) (b := 20) (Nat.le_refl _) (by decide)) h
  · intro n i a hi e k
    subst e
    refine br_f (nI_ge (b := 20) hi (by decide)) (nm_r (e' := nI (li_ct (bt s) (i + 1))) ?_ (nm_r (nI_1 i) (k _ rfl)))
    rw [li_val s (by omega), nI_add, li_ct_s]
theorem li_xEnd {post : Int32 → Prop} {b : Nat} (hb : b < 12) (h : post (li_ae (T b) L 12)) : wpX_atEnd post (T, F, U, S, L) (nI b) := by
  have cb : (nI b).toNatClampNeg = b := nI_clamp (by omega)
  refine loop_0 (fun n i a => wX_atEnd_4 post (nI b) T F U S L n a (nI i)) (fun i a => a = li_ae (T b) L i) 12 0 rfl ?_ ?_
  · intro n a e
    subst e
    exact br_t (nI_le (a := 12) (b := 12) (Nat.le_refl _) (by decide)) h
  · intro n i a hi e k
    subst e
    have ci : (nI i).toNatClampNeg = i := nI_clamp (by omega)
    refine br_f (nI_ge (b := 12) hi (by decide)) (And.intro (vp_in_nI hb (by decide)) ?_)
    rw [cb]
    refine li_if (by omega) (fun c => And.intro (vp_in_nI hi (by decide)) (nm_r (e' := li_ae (T b) L (i + 1)) ?_ (nm_r (nI_1 i) (k _ rfl)))) (fun c => nm_r (nI_1 i) (k _ (li_ae_n c).symm))
    rw [ci, li_ae_p c]
theorem li_xDue {post : Int32 → Prop} {b : Nat} (hb : b < 12) (h : post (li_du T U S L b)) : wpX_due post (T, F, U, S, L) (nI b) := by
  have cb : (nI b).toNatClampNeg = b := nI_clamp (by omega)
  refine And.intro (vp_in_nI hb (by decide)) (li_xEnd hb (And.intro (vp_in_nI hb (by decide)) ?_))
  rw [cb]
  exact h
theorem li_xBehindIn {post : Int32 → Prop} {J : Int32 → Int32 → Prop} {s : Int32} {r : Nat} (h : J (li_br F 12 s) (nI (r + 1))) : ∃ n, wX_behind_15 post J (nI r) T F U S L n s 0 := by
  refine loop_0 (fun n i a => wX_behind_15 post J (nI r) T F U S L n a (nI i)) (fun i a => a = li_br F i s) 12 s rfl ?_ ?_
  · intro n a e
    subst e
    exact br_t (nI_le (a := 12) (b := 12) (Nat.le_refl _) (by decide)) (nm_r (nI_1 r) h)
  · intro n i a hi e k
    subst e
    have ci : (nI i).toNatClampNeg = i := nI_clamp (by omega)
    refine br_f (nI_ge (b := 12) hi (by decide)) (li_if (by omega) (fun c => And.intro (vp_in_nI hi (by decide)) (nm_r (e' := li_br F (i + 1) s) ?_ (nm_r (nI_1 i) (k _ rfl)))) (fun c => nm_r (nI_1 i) (k _ (li_br_n c).symm)))
    rw [ci, li_br_p c]
theorem li_xBehind {post : Int32 → Prop} {b : Nat} (h : post (li_it (li_br F 12) 12 ((1 : Int32) <<< (nI b &&& 31)))) : wpX_behind post (T, F, U, S, L) (nI b) := by
  refine nm_e ?_
  refine loop_0 (fun n i a => wX_behind_6 post T F U S L n a (nI i)) (fun i a => a = li_it (li_br F 12) i ((1 : Int32) <<< (nI b &&& 31))) 12 _ rfl ?_ ?_
  · intro n a e
    subst e
    exact br_t (nI_le (a := 12) (b := 12) (Nat.le_refl _) (by decide)) h
  · intro n i a hi e k
    subst e
    exact br_f (nI_ge (b := 12) hi (by decide)) (li_xBehindIn (k _ rfl))
theorem li_xLiveBlocks {post : Int32 → Prop} {v : Nat} (hv : v < 20) (h : post (li_bs (fun b => bt (L b) v) 12)) : ∃ n, wX_liveBlocks_14 post (nI v) T F U S L n 0 0 := by
  refine loop_0 (fun n i a => wX_liveBlocks_14 post (nI v) T F U S L n a (nI i)) (fun i a => a = li_bs (fun b => bt (L b) v) i) 12 0 rfl ?_ ?_
  · intro n a e
    subst e
    exact br_t (nI_le (a := 12) (b := 12) (Nat.le_refl _) (by decide)) h
  · intro n i a hi e k
    subst e
    have ci : (nI i).toNatClampNeg = i := nI_clamp (by omega)
    refine br_f (nI_ge (b := 12) hi (by decide)) (And.intro (vp_in_nI hi (by decide)) ?_)
    rw [ci]
    exact li_if (by omega) (fun c => nm_e (nm_r (nI_1 i) (k _ (li_bs_p (p := fun b => bt (L b) v) c).symm))) (fun c => nm_r (nI_1 i) (k _ (li_bs_n (p := fun b => bt (L b) v) c).symm))
/-- sets that come to nothing at block b -/
def li_id (T S L : Nat → Int32) (b : Nat) : Nat := li_ct (bt (S b &&& (li_ae (T b) L 12 ^^^ (-1)))) 20
theorem li_xIdle {post : Int32 → Prop} (h : post (nI (li_su (li_id T S L) 12))) : wpX_idleSets post (T, F, U, S, L) := by
  refine loop_0 (fun n i a => wX_idleSets_4 post T F U S L n a (nI i)) (fun i a => a = nI (li_su (li_id T S L) i)) 12 0 rfl ?_ ?_
  · intro n a e
    subst e
    exact br_t (nI_le (a := 12) (b := 12) (Nat.le_refl _) (by decide)) h
  · intro n i a hi e k
    subst e
    have ci : (nI i).toNatClampNeg = i := nI_clamp (by omega)
    refine br_f (nI_ge (b := 12) hi (by decide)) (li_xEnd hi (And.intro (vp_in_nI hi (by decide)) (li_xSize ?_)))
    rw [ci]
    exact nm_r (nI_add _ _) (nm_r (nI_1 i) (k _ rfl))
def li_sz (L : Nat → Int32) (b : Nat) : Nat := li_ct (bt (L b)) 20
theorem li_xPress {post : Int32 → Prop} (h : post (nI (li_mx (li_sz L) 12))) : wpX_pressure post (T, F, U, S, L) := by
  refine loop_0 (fun n i a => wX_pressure_4 post T F U S L n a (nI i)) (fun i a => a = nI (li_mx (li_sz L) i)) 12 0 rfl ?_ ?_
  · intro n a e
    subst e
    exact br_t (nI_le (a := 12) (b := 12) (Nat.le_refl _) (by decide)) h
  · intro n i a hi e k
    subst e
    have ci : (nI i).toNatClampNeg = i := nI_clamp (by omega)
    refine br_f (nI_ge (b := 12) hi (by decide)) (And.intro (vp_in_nI hi (by decide)) (li_xSize ?_))
    rw [ci]
    have h1 : li_sz L i ≤ 20 := li_ct_bd _ _
    have h2 : li_mx (li_sz L) i ≤ 20 := li_mx_bd fun _ _ => li_ct_bd _ _
    show (nI (li_sz L i) ≤ nI (li_mx (li_sz L) i) → _) ∧ (¬ nI (li_sz L i) ≤ nI (li_mx (li_sz L) i) → _)
    rw [nI_leI (by omega) (by omega)]
    exact br_c (fun c => nm_r (nI_1 i) (k _ (congrArg nI (li_mx_n c).symm))) (fun c => nm_r (nI_1 i) (k _ (congrArg nI (li_mx_p c).symm)))
theorem li_xCrowIn {post : Int32 → Prop} {J : Int32 → Int32 → Prop} {a : Int32} {v : Nat} (hv : v < 20) (h : J (a + nI (li_cx L v)) (nI (v + 1))) : ∃ n, wX_crowded_15 post J a (nI v) T F U S L n 0 0 := by
  refine loop_0 (fun n i s => wX_crowded_15 post J a (nI v) T F U S L n s (nI i)) (fun i s => s = li_tg L v i) 12 0 rfl ?_ ?_
  · intro n s e
    subst e
    refine br_t (nI_le (a := 12) (b := 12) (Nat.le_refl _) (by decide)) ?_
    rw [nI_1]
    exact li_xSize (nm_e (nm_e h))
  · intro n i s hi e k
    subst e
    have ci : (nI i).toNatClampNeg = i := nI_clamp (by omega)
    refine br_f (nI_ge (b := 12) hi (by decide)) (And.intro (vp_in_nI hi (by decide)) ?_)
    rw [ci]
    exact li_if (by omega) (fun c => And.intro (vp_in_nI hi (by decide)) (nm_e (nm_r (nI_1 i) (k _ (li_tg_p c).symm)))) (fun c => nm_r (nI_1 i) (k _ (li_tg_n c).symm))
theorem li_xCrow {post : Int32 → Prop} (h : post (nI (li_su (li_cx L) 20))) : wpX_crowded post (T, F, U, S, L) := by
  refine loop_0 (fun n i a => wX_crowded_4 post T F U S L n a (nI i)) (fun i a => a = nI (li_su (li_cx L) i)) 20 0 rfl ?_ ?_
  · intro n a e
    subst e
    exact br_t (nI_le (a := 20) (b := 20) (Nat.le_refl _) (by decide)) h
  · intro n i a hi e k
    subst e
    exact br_f (nI_ge (b := 20) hi (by decide)) (li_xCrowIn hi (k _ (nI_add _ _)))
/-! reaching -/
theorem li_xReachE {post : Int32 → Prop} {v : Nat} {seen : Int32} (hv : v < 20) (h : post (li_bs (fun x => bt seen x && bt (S x) v) 12)) : ∃ n, wX_reaching_124 post (nI v) seen T F U S L n 0 0 := by
  refine loop_0 (fun n i a => wX_reaching_124 post (nI v) seen T F U S L n a (nI i)) (fun i a => a = li_bs (fun x => bt seen x && bt (S x) v) i) 12 0 rfl ?_ ?_
  · intro n a e
    subst e
    exact br_t (nI_le (a := 12) (b := 12) (Nat.le_refl _) (by decide)) h
  · intro n i a hi e k
    subst e
    have ci : (nI i).toNatClampNeg = i := nI_clamp (by omega)
    refine br_f (nI_ge (b := 12) hi (by decide)) (li_if (by omega) (fun c => And.intro (vp_in_nI hi (by decide)) ?_) (fun c => nm_r (nI_1 i) (k _ (li_bs_n (p := fun x => bt seen x && bt (S x) v) ?_).symm)))
    · rw [ci]
      refine li_if (by omega) (fun d => nm_e (nm_r (nI_1 i) (k _ (li_bs_p (p := fun x => bt seen x && bt (S x) v) ?_).symm))) (fun d => nm_r (nI_1 i) (k _ (li_bs_n (p := fun x => bt seen x && bt (S x) v) ?_).symm))
      · show (bt seen i && bt (S i) v) = true
        rw [c, d]; rfl
      · show (bt seen i && bt (S i) v) = false
        rw [d, Bool.and_false]
    · show (bt seen i && bt (S i) v) = false
      rw [c, Bool.false_and]
theorem li_or0 (x : Int32) : x ||| 0 = x := b_ext fun i _ => by rw [b_or, b_0, Bool.or_false]
theorem li_ms_p {S G : Nat → Int32} {v x : Nat} (h : bt (S x) v = true) : li_ms S G v x = 0 := if_pos h
theorem li_ms_n {S G : Nat → Int32} {v x : Nat} (h : bt (S x) v = false) : li_ms S G v x = G x := if_neg (by rw [h]; decide)
theorem li_xReachR {post : Int32 → Prop} {J : Int32 → Int32 → Int32 → Prop} {v r : Nat} {seen op : Int32} (hv : v < 20) (h : J seen (li_ae op (li_ms S F v) 12 &&& (seen ^^^ (-1))) (nI (r + 1))) : ∃ n, wX_reaching_54 post J (nI v) seen op (nI r) T F U S L n 0 0 := by
  refine loop_0 (fun n i a => wX_reaching_54 post J (nI v) seen op (nI r) T F U S L n a (nI i)) (fun i a => a = li_ae op (li_ms S F v) i) 12 0 rfl ?_ ?_
  · intro n a e
    subst e
    exact br_t (nI_le (a := 12) (b := 12) (Nat.le_refl _) (by decide)) (nm_e (nm_r (nI_1 r) h))
  · intro n i a hi e k
    subst e
    have ci : (nI i).toNatClampNeg = i := nI_clamp (by omega)
    refine br_f (nI_ge (b := 12) hi (by decide)) (li_if (by omega) (fun c => And.intro (vp_in_nI hi (by decide)) ?_) (fun c => nm_r (nI_1 i) (k _ (li_ae_n c).symm)))
    rw [ci]
    refine li_if0 (by omega) (fun d => And.intro (vp_in_nI hi (by decide)) (nm_e (nm_r (nI_1 i) (k _ ?_)))) (fun d => nm_r (nI_1 i) (k _ ?_))
    · rw [li_ae_p c, li_ms_n d]
    · rw [li_ae_p c, li_ms_p d, li_or0]
theorem li_xReach {post : Int32 → Prop} {b v : Nat} (hb : b < 12) (hv : v < 20) (hF : li_Rg 12 F) (h : ∀ seen, (∀ y, bt seen y = true ↔ li_Bw (li_ms S F v) (F b) y) → post (li_bs (fun x => bt seen x && bt (S x) v) 12)) : ∃ n, wX_reaching_31 post (nI v) T F U S L n 0 (F b) 0 := by
  refine loop_0 (fun n i s => wX_reaching_31 post (nI v) T F U S L n s.1 s.2 (nI i)) (fun i s => li_QI (li_ms S F v) (F b) i s) 13 (0, F b) (li_QI_0 fun i hi => hF b i hb hi) ?_ ?_
  · rintro n ⟨seen, op⟩ q
    exact br_t (nI_lt (a := 12) (b := 13) (by decide) (by decide)) (li_xReachE hv (h seen (li_QI_e q (Or.inr (by decide)))))
  · rintro n i ⟨seen, op⟩ hi q k
    refine br_f (nI_nlt (a := 12) (b := i) (by omega) (by decide)) (br_c (fun z => li_xReachE hv (h seen (li_QI_e q (Or.inl z)))) (fun z => nm_e (li_xReachR hv ?_)))
    exact k (seen ||| op, _) (li_QI_s (li_ms_rg hF) q z)
end
end
section
/-! the component's spread and shrink -/
section
variable {T F U S L : Nat → Int32}
def li_Tr (T F : Nat → Int32) : Prop := ∀ a b, a < 12 → b < 12 → bt (T a) b = bt (F b) a
theorem li_xSpreadIn {post : SX → Prop} {J : Int32 → Int32 → (Nat → Int32) → (Nat → Int32) → (Nat → Int32) → (Nat → Int32) → (Nat → Int32) → Prop} {op : Int32} {r : Nat} (hU : li_Rg 20 U) (tr : li_Tr T F) (h0 : li_SI T U S op L 0 (0, L))
    (h : ∀ s : Int32 × (Nat → Int32), li_SI T U S op L 12 s → J s.1 (nI (r + 1)) T F U S s.2) : ∃ n, wX_spread_23 post J op (nI r) n 0 0 T F U S L := by
  refine loop_0 (fun n i s => wX_spread_23 post J op (nI r) n s.1 (nI i) T F U S s.2) (fun i s => li_SI T U S op L i s) 12 (0, L) h0 ?_ ?_
  · intro n s hs
    exact br_t (nI_le (a := 12) (b := 12) (Nat.le_refl _) (by decide)) (nm_r (nI_1 r) (h s hs))
  · rintro n i ⟨nx, M⟩ hi hs k
    have ci : (nI i).toNatClampNeg = i := nI_clamp (by omega)
    have hv : vp_in (nI i) 12 := vp_in_nI hi (by decide)
    refine br_f (nI_ge (b := 12) hi (by decide)) (li_if (by omega) (fun c => li_xDue hi (And.intro hv ?_)) (fun c => nm_r (nI_1 i) (k (nx, M) (li_SI_n hs c))))
    rw [ci]
    exact br_c (fun z => nm_r (nI_1 i) (k (nx, M) (li_SI_z hs z))) (fun z => And.intro hv (And.intro hv (nm_e (And.intro hv (nm_e (nm_r (nI_1 i) (k (nx ||| F i, upd M i (M i ||| li_du T U S M i)) (li_SI_p hi hU tr hs z))))))))
theorem li_xSpread {post : SX → Prop} {b : Nat} (hb : b < 12) (hU : li_Rg 20 U) (tr : li_Tr T F) (g : li_Go T U S L)
    (vi : ∀ x v, x < 12 → v < 20 → x ≠ b → li_due T U S (li_on L) x v → li_on L x v) (h : ∀ M, li_Ok T U S M → post (T, F, U, S, M)) : wpX_spread post (T, F, U, S, L) (nI b) := by
  refine nm_e ?_
  refine loop_0 (fun n i s => wX_spread_6 post n s.1 (nI i) T F U S s.2)
    (fun i s => li_Go T U S s.2 ∧ (∀ y v, y < 12 → v < 20 → li_due T U S (li_on s.2) y v → li_on s.2 y v ∨ bt s.1 y = true) ∧ (s.1 = 0 ∨ i ≤ li_c2 s.2)) 241 ((1 : Int32) <<< (nI b &&& 31), L) ?_ ?_ ?_
  · refine ⟨g, fun y v hy hv d => ?_, Or.inr (Nat.zero_le _)⟩
    by_cases e : y = b
    · refine Or.inr ?_
      show bt ((1 : Int32) <<< (nI b &&& 31)) y = true
      rw [li_bit (by omega), decide_eq_true e]
    · exact Or.inl (vi y v hy hv e d)
  · rintro n ⟨op, M⟩ ⟨g, vi, c⟩
    refine br_t (nI_le (a := 241) (b := 241) (Nat.le_refl _) (by decide)) (h M ⟨fun y v hy hv d => ?_, g⟩)
    have z : op = 0 := by
      rcases c with c | c
      · exact c
      · have c : 241 ≤ li_c2 M := c
        have := li_c2_bd M
        omega
    exact (vi y v hy hv d).elim id fun q => li_tf q (li_z z y)
  · rintro n i ⟨op, M⟩ hi ⟨g, vi, c⟩ k
    refine br_f (nI_ge (b := 241) hi (by decide)) (br_c (fun z => h M ⟨fun y v hy hv d => ?_, g⟩) (fun z => ?_))
    · exact (vi y v hy hv d).elim id fun q => li_tf q (li_z z y)
    · have c : i ≤ li_c2 M := c.resolve_left z
      refine li_xSpreadIn hU tr ⟨g, fun y v hy hv d => ?_, Nat.le_refl _, Or.inl rfl⟩ fun s hs => k s ⟨hs.1, fun y v hy hv d => ?_, ?_⟩
      · exact (vi y v hy hv d).elim Or.inl fun q => Or.inr (Or.inr ⟨q, Nat.zero_le _⟩)
      · rcases hs.2.1 y v hy hv d with q | q | q
        · exact Or.inl q
        · exact Or.inr q
        · exact absurd q.2 (by omega)
      · rcases hs.2.2.2 with q | q
        · exact Or.inl q
        · exact Or.inr (Nat.lt_of_le_of_lt c q)
/-! shrink -/
theorem li_xFillIn {post : SX → Prop} {J : Int32 → Int32 → (Nat → Int32) → (Nat → Int32) → (Nat → Int32) → (Nat → Int32) → (Nat → Int32) → Prop} {LA : Nat → Int32} {reg lost : Int32} {r : Nat} (hU : li_Rg 20 U) (h0 : li_HI T U S LA reg lost L 12 (0, L))
    (h : ∀ s : Int32 × (Nat → Int32), li_HI T U S LA reg lost L 0 s → J s.1 (nI (r + 1)) T F U S s.2) : ∃ n, wX_shrink_92 post J lost reg (nI r) n 0 11 T F U S L := by
  have key : ∀ (j : Nat), j ≤ 12 → ∀ s : Int32 × (Nat → Int32), li_HI T U S LA reg lost L j s → wX_shrink_92 post J lost reg (nI r) (j + 1) s.1 (nI j + (-1)) T F U S s.2 := by
    intro j
    induction j with
    | zero =>
      intro _ s hs
      exact br_t (by decide : nI 0 + (-1) < 0) (nm_r (nI_1 r) (h s hs))
    | succ j ih =>
      rintro hj ⟨m, M⟩ hs
      have hj : j < 12 := by omega
      have ih := ih (by omega)
      rw [pk_m1]
      have cj : (nI j).toNatClampNeg = j := nI_clamp (by omega)
      have hv : vp_in (nI j) 12 := vp_in_nI hj (by decide)
      refine br_f (nI_pos (by omega)) (li_if (by omega) (fun c => li_xDue hj (nm_e (And.intro hv ?_))) (fun c => nm_e (ih (m, M) (li_HI_n hs c))))
      rw [cj]
      exact br_c (fun z => nm_e (ih (m, M) (li_HI_z hs z))) (fun z => And.intro hv (And.intro hv (nm_e (nm_e (ih (1, upd M j (M j ||| (li_du T U S M j &&& lost))) (li_HI_p hj hU c hs z))))))
  exact ⟨13, key 12 (Nat.le_refl _) (0, L) h0⟩
theorem li_xFill {post : SX → Prop} {LA : Nat → Int32} {reg lost : Int32} (hU : li_Rg 20 U) (g : li_Go T U S L) (ag : ∀ x v, x < 12 → ¬ (bt reg x = true ∧ bt lost v = true) → bt (L x) v = bt (LA x) v)
    (h : ∀ M, li_Go T U S M → (∀ x v, x < 12 → ¬ (bt reg x = true ∧ bt lost v = true) → bt (M x) v = bt (LA x) v) →
      (∀ x v, x < 12 → bt reg x = true → bt lost v = true → li_due T U S (li_on M) x v → li_on M x v) → post (T, F, U, S, M)) : ∃ n, wX_shrink_72 post lost reg n 1 0 T F U S L := by
  refine loop_0 (fun n i s => wX_shrink_72 post lost reg n s.1 (nI i) T F U S s.2)
    (fun i s => li_Go T U S s.2 ∧ (∀ x v, x < 12 → ¬ (bt reg x = true ∧ bt lost v = true) → bt (s.2 x) v = bt (LA x) v) ∧
      ((s.1 = 0 ∧ ∀ x v, x < 12 → bt reg x = true → bt lost v = true → li_due T U S (li_on s.2) x v → li_on s.2 x v) ∨ (s.1 = 1 ∧ i ≤ li_c2 s.2))) 241 (1, L) ⟨g, ag, Or.inr ⟨rfl, Nat.zero_le _⟩⟩ ?_ ?_
  · rintro n ⟨m, M⟩ ⟨g, ag, c⟩
    refine br_t (nI_le (a := 241) (b := 241) (Nat.le_refl _) (by decide)) (h M g ag ?_)
    rcases c with c | ⟨_, c⟩
    · exact c.2
    · have c : 241 ≤ li_c2 M := c
      have := li_c2_bd M
      omega
  · rintro n i ⟨m, M⟩ hi ⟨g, ag, c⟩ k
    refine br_f (nI_ge (b := 241) hi (by decide)) (br_c (fun z => h M g ag ?_) (fun z => ?_))
    · rcases c with c | ⟨c, _⟩
      · exact c.2
      · exact absurd (c.symm.trans z) (by decide)
    · have c : i ≤ li_c2 M := by
        rcases c with c | c
        · exact absurd c.1 z
        · exact c.2
      refine li_xFillIn hU ⟨g, ag, Or.inl ⟨rfl, rfl, fun y v h1 h2 => absurd h1 (by omega)⟩⟩ fun s hs => k s ⟨hs.1, hs.2.1, ?_⟩
      rcases hs.2.2 with ⟨h1, h2, h3⟩ | ⟨h1, h2⟩
      · refine Or.inl ⟨h1, ?_⟩
        rw [h2]
        exact fun x v hx hr hl d => h3 x v (Nat.zero_le _) hx hr hl d
      · exact Or.inr ⟨h1, Nat.lt_of_le_of_lt c h2⟩
theorem li_xCut {post : SX → Prop} {reg lost : Int32} (h : ∃ n, wX_shrink_72 post lost reg n 1 0 T F U S (li_cu L reg lost 12)) : ∃ n, wX_shrink_24 post lost reg n 0 T F U S L := by
  refine loop_0 (fun n i s => wX_shrink_24 post lost reg n (nI i) T F U S s) (fun i s => s = li_cu L reg lost i) 12 L (li_cu_0 L reg lost).symm ?_ ?_
  · intro n s e
    subst e
    exact br_t (nI_le (a := 12) (b := 12) (Nat.le_refl _) (by decide)) h
  · intro n i s hi e k
    subst e
    have ci : (nI i).toNatClampNeg = i := nI_clamp (by omega)
    have hv : vp_in (nI i) 12 := vp_in_nI hi (by decide)
    refine br_f (nI_ge (b := 12) hi (by decide)) (li_if (by omega) (fun c => And.intro hv (And.intro hv (nm_r (e' := li_cu L reg lost (i + 1)) ?_ (nm_r (nI_1 i) (k _ rfl))))) (fun c => nm_r (nI_1 i) (k _ (li_cu_n c).symm)))
    rw [ci, li_cu_p c]
theorem li_xShrink {post : SX → Prop} {T0 U0 S0 : Nat → Int32} {b : Nat} {some : Int32} (hb : b < 12) (hU : li_Rg 20 U) (hF : li_Rg 12 F) (tr : li_Tr T F) (ok : li_Ok T0 U0 S0 L)
    (same : ∀ x, x < 12 → x ≠ b → T x = T0 x ∧ U x = U0 x ∧ S x = S0 x)
    (hs : ∀ v, v < 20 → bt some v = false → ∀ R : Nat → Nat → Prop, li_due T0 U0 S0 R b v → li_due T U S R b v)
    (h : ∀ M, li_Go T U S M → (∀ x v, x < 12 → v < 20 → (∀ R : Nat → Nat → Prop, li_due T U S R x v → li_due T0 U0 S0 R x v) → li_due T U S (li_on M) x v → li_on M x v) → post (T, F, U, S, M)) :
    wpX_shrink post (T, F, U, S, L) (nI b) some := by
  have cb : (nI b).toNatClampNeg = b := nI_clamp (by omega)
  refine And.intro (vp_in_nI hb (by decide)) (nm_r (e' := some &&& L b) (by rw [cb]) ?_)
  refine br_c (fun z => h L ⟨?_, ok.2.2⟩ fun x v hx hv hd d => ?_) (fun z => li_xBehind (li_xCut ?_))
  · refine li_cut_So ok.1 ok.2.1 same (fun v => bt some v = true) (fun v hv hn => hs v hv (li_nt hn)) (fun _ => True) trivial (fun _ _ _ _ _ _ => trivial) fun x v hx hv hl => ⟨hl, fun q => ?_⟩
    have e := li_z z v
    rw [b_and, q.2.1, show bt (L b) v = true from q.2.2] at e
    exact nomatch e
  · exact li_refill (reg := 0) (lost := 0) hx hv hd ok.1 (fun _ c _ _ q _ => li_tf q (b_0 c)) (fun _ _ _ _ => rfl) (fun y _ _ q _ _ => li_tf q (b_0 y)) d
  · have rb : bt (li_it (li_br F 12) 12 ((1 : Int32) <<< (nI b &&& 31))) b = true := li_bi_mono (by rw [li_bit (by omega), decide_eq_true rfl])
    have rc : ∀ x c, x < 12 → c < 12 → bt (li_it (li_br F 12) 12 ((1 : Int32) <<< (nI b &&& 31))) c = true → bt (T x) c = true → bt (li_it (li_br F 12) 12 ((1 : Int32) <<< (nI b &&& 31))) x = true := by
      intro x c hx hc hr ht
      rw [tr x c hx hc] at ht
      exact li_bi_cl hF _ c x hc hr ht
    generalize li_it (li_br F 12) 12 ((1 : Int32) <<< (nI b &&& 31)) = reg at rb rc
    have hl : ∀ v, bt (some &&& L b) v = true ↔ bt some v = true ∧ li_on L b v := fun v => by rw [b_and, Bool.and_eq_true]; rfl
    refine li_xFill (LA := L) hU (li_Go_dn ok.2.2.1 ok.2.2.2 (fun x v q => (li_cu_on.mp q).1) ?_) (fun x v hx hn => ?_) fun M g ag cl => h M g fun x v hx hv hd d => li_refill hx hv hd ok.1 rc ag cl d
    · refine li_cut_So ok.1 ok.2.1 same (fun v => bt some v = true) (fun v hv hn => hs v hv (li_nt hn)) (fun x => bt reg x = true) rb rc fun x v hx hv q => ?_
      obtain ⟨q1, q2⟩ := li_cu_on.mp q
      exact ⟨q1, fun w => q2 ⟨hx, w.1, (hl v).mpr w.2⟩⟩
    · exact li_beq ⟨fun q => (li_cu_on.mp q).1, fun q => li_cu_on.mpr ⟨q, fun w => hn w.2⟩⟩
end
end
section
/-! the component's join, part, change, cutOff, takeOver -/
section
variable {T F U S L : Nat → Int32}
def li_Inv (T F U S L : Nat → Int32) : Prop := li_Rg 12 T ∧ li_Rg 12 F ∧ li_Tr T F ∧ li_Rg 20 U ∧ li_Ok T U S L
theorem li_clr (A : Nat → Int32) (k : Nat) {j : Nat} (hj : j < 32) (x i : Nat) : bt (upd A k (A k &&& (((1 : Int32) <<< (nI j &&& 31)) ^^^ (-1))) x) i = (bt (A x) i && !(decide (x = k) && decide (i = j))) := by
  rw [li_ub, li_an, li_bit hj]
  by_cases h : x = k
  · rw [if_pos h, h, decide_eq_true rfl, Bool.true_and]
  · rw [if_neg h, decide_eq_false h, Bool.false_and, Bool.not_false, Bool.and_true]
theorem li_put (A : Nat → Int32) (k : Nat) {j : Nat} (hj : j < 32) (x i : Nat) : bt (upd A k (A k ||| ((1 : Int32) <<< (nI j &&& 31))) x) i = (bt (A x) i || (decide (x = k) && decide (i = j))) := by
  rw [li_ub, b_or, li_bit hj]
  by_cases h : x = k
  · rw [if_pos h, h, decide_eq_true rfl, Bool.true_and]
  · rw [if_neg h, decide_eq_false h, Bool.false_and, Bool.or_false]
theorem li_xPart {post : SX → Prop} {a b : Nat} (ha : a < 12) (hb : b < 12) (I : li_Inv T F U S L)
    (h : ∀ T1 F1 L1 : Nat → Int32, li_Inv T1 F1 U S L1 → (∀ x i, bt (T1 x) i = (bt (T x) i && !(decide (x = a) && decide (i = b)))) → post (T1, F1, U, S, L1)) : wpX_part post (T, F, U, S, L) (nI a) (nI b) := by
  have ca : (nI a).toNatClampNeg = a := nI_clamp (by omega)
  have cb : (nI b).toNatClampNeg = b := nI_clamp (by omega)
  have va : vp_in (nI a) 12 := vp_in_nI ha (by decide)
  have vb : vp_in (nI b) 12 := vp_in_nI hb (by decide)
  obtain ⟨rT, rF, tr, rU, ok⟩ := I
  refine And.intro va ?_
  rw [ca, cb]
  refine li_if (by omega) (fun c => And.intro va (And.intro va (nm_e (And.intro vb (And.intro vb (nm_e ?_)))))) (fun c => h T F L ⟨rT, rF, tr, rU, ok⟩ fun x i => ?_)
  · have eT := li_clr T a (j := b) (by omega)
    have eF := li_clr F b (j := a) (by omega)
    generalize upd T a (T a &&& (((1 : Int32) <<< (nI b &&& 31)) ^^^ (-1))) = T1 at eT
    generalize upd F b (F b &&& (((1 : Int32) <<< (nI a &&& 31)) ^^^ (-1))) = F1 at eF
    have rT1 : li_Rg 12 T1 := fun x i hx hi => by rw [eT, rT x i hx hi, Bool.false_and]
    have rF1 : li_Rg 12 F1 := fun x i hx hi => by rw [eF, rF x i hx hi, Bool.false_and]
    have tr1 : li_Tr T1 F1 := fun x y hx hy => by rw [eT, eF, tr x y hx hy, Bool.and_comm (decide (y = b))]
    have sm : ∀ x, x < 12 → x ≠ a → T1 x = T x ∧ U x = U x ∧ S x = S x := fun x _ hx => ⟨b_ext fun i _ => by rw [eT, decide_eq_false hx, Bool.false_and, Bool.not_false, Bool.and_true], rfl, rfl⟩
    have up : ∀ (R : Nat → Nat → Prop) (x v : Nat), li_due T1 U S R x v → li_due T U S R x v := by
      intro R x v d
      rcases d with d | ⟨d1, c, hc, ht, d2⟩
      · exact Or.inl d
      · rw [eT, Bool.and_eq_true] at ht
        exact Or.inr ⟨d1, c, hc, ht.1, d2⟩
    refine li_xShrink ha rU rF1 tr1 ok sm (fun v hv hn => ?_) fun M g cl => h T1 F1 M ⟨rT1, rF1, tr1, rU, fun x v hx hv d => cl x v hx hv (fun R => up R x v) d, g⟩ eT
    rw [li_all v (by omega), decide_eq_true hv] at hn
    exact nomatch hn
  · by_cases e : x = a ∧ i = b
    · obtain ⟨rfl, rfl⟩ := e
      rw [c]; rfl
    · have : (decide (x = a) && decide (i = b)) = false := by
        rw [← Bool.decide_and]; exact decide_eq_false e
      rw [this, Bool.not_false, Bool.and_true]
theorem li_xJoin {post : SX → Prop} {a b : Nat} (ha : a < 12) (hb : b < 12) (I : li_Inv T F U S L)
    (h : ∀ T1 F1 L1 : Nat → Int32, li_Inv T1 F1 U S L1 → (∀ x i, bt (T1 x) i = (bt (T x) i || (decide (x = a) && decide (i = b)))) → post (T1, F1, U, S, L1)) : wpX_join post (T, F, U, S, L) (nI a) (nI b) := by
  have ca : (nI a).toNatClampNeg = a := nI_clamp (by omega)
  have cb : (nI b).toNatClampNeg = b := nI_clamp (by omega)
  have va : vp_in (nI a) 12 := vp_in_nI ha (by decide)
  have vb : vp_in (nI b) 12 := vp_in_nI hb (by decide)
  obtain ⟨rT, rF, tr, rU, ok⟩ := I
  refine And.intro va ?_
  rw [ca, cb]
  refine li_if0 (by omega) (fun c => And.intro va (And.intro va (nm_e (And.intro vb (And.intro vb (nm_e ?_)))))) (fun c => h T F L ⟨rT, rF, tr, rU, ok⟩ fun x i => ?_)
  · have eT := li_put T a (j := b) (by omega)
    have eF := li_put F b (j := a) (by omega)
    generalize upd T a (T a ||| ((1 : Int32) <<< (nI b &&& 31))) = T1 at eT
    generalize upd F b (F b ||| ((1 : Int32) <<< (nI a &&& 31))) = F1 at eF
    have rT1 : li_Rg 12 T1 := fun x i hx hi => by rw [eT, rT x i hx hi, decide_eq_false (show ¬ i = b by omega), Bool.and_false]; rfl
    have rF1 : li_Rg 12 F1 := fun x i hx hi => by rw [eF, rF x i hx hi, decide_eq_false (show ¬ i = a by omega), Bool.and_false]; rfl
    have tr1 : li_Tr T1 F1 := fun x y hx hy => by rw [eT, eF, tr x y hx hy, Bool.and_comm (decide (y = b))]
    have up : ∀ (R : Nat → Nat → Prop) (x v : Nat), li_due T U S R x v → li_due T1 U S R x v := by
      intro R x v d
      rcases d with d | ⟨d1, c, hc, ht, d2⟩
      · exact Or.inl d
      · exact Or.inr ⟨d1, c, hc, by rw [eT, ht, Bool.true_or], d2⟩
    obtain ⟨cl, so, rz⟩ := ok
    refine li_xSpread ha rU tr1 ⟨fun R hR x v hx hv q => so R (fun y w hy hw d => hR y w hy hw (up R y w d)) x v hx hv q, rz⟩ (fun x v hx hv hn d => cl x v hx hv ?_) fun M ok1 => h T1 F1 M ⟨rT1, rF1, tr1, rU, ok1⟩ eT
    have e : T1 x = T x := b_ext fun i _ => by rw [eT, decide_eq_false hn, Bool.false_and, Bool.or_false]
    exact (li_same_due ⟨e, rfl, rfl⟩).mp d
  · by_cases e : x = a ∧ i = b
    · obtain ⟨rfl, rfl⟩ := e
      rw [c]; rfl
    · have : (decide (x = a) && decide (i = b)) = false := by
        rw [← Bool.decide_and]; exact decide_eq_false e
      rw [this, Bool.or_false]
theorem li_xChange {post : SX → Prop} {b : Nat} {nu ns : Int32} (hb : b < 12) (hn : ∀ i, 20 ≤ i → bt nu i = false) (I : li_Inv T F U S L)
    (h : ∀ M : Nat → Int32, li_Inv T F (upd U b nu) (upd S b ns) M → post (T, F, upd U b nu, upd S b ns, M)) : wpX_change post (T, F, U, S, L) (nI b) nu ns := by
  have cb : (nI b).toNatClampNeg = b := nI_clamp (by omega)
  have vb : vp_in (nI b) 12 := vp_in_nI hb (by decide)
  obtain ⟨rT, rF, tr, rU, ok⟩ := I
  have rU1 : li_Rg 20 (upd U b nu) := fun x i hx hi => by
    rw [li_ub]
    by_cases e : x = b
    · rw [if_pos e]; exact hn i hi
    · rw [if_neg e]; exact rU x i hx hi
  refine And.intro vb (And.intro vb ?_)
  rw [cb]
  refine nm_e (And.intro vb (nm_e (And.intro vb (nm_e ?_))))
  refine li_xShrink hb rU1 rF tr ok (fun x hx hne => ⟨rfl, pk_un hne, pk_un hne⟩) (fun v hv hs R d => ?_) fun M g cl => li_xSpread hb rU1 tr g (fun x v hx hv hne d => ?_) fun M ok1 => h M ⟨rT, rF, tr, rU1, ok1⟩
  · rw [b_or, li_an, li_an, Bool.or_eq_false_iff] at hs
    unfold li_due
    rw [pk_us, pk_us]
    rcases d with d | ⟨d1, d2⟩
    · rw [d, Bool.true_and, Bool.not_eq_false'] at hs
      exact Or.inl hs.1
    · rw [d1, Bool.not_false, Bool.and_true] at hs
      exact Or.inr ⟨hs.2, d2⟩
  · exact cl x v hx hv (fun R q => (li_same_due ⟨rfl, pk_un hne, pk_un hne⟩).mp q) d
end
end
section
/-! the component's cutOff and takeOver -/
section
variable {T F U S L : Nat → Int32}
theorem li_dlt (i d : Nat) : decide (i < d + 1) = (decide (i < d) || decide (i = d)) := by
  rw [← Bool.decide_or]
  exact decide_eq_decide.mpr (by omega)
/-- arcs at b with the blocks below c taken off -/
def li_CI (T : Nat → Int32) (b c : Nat) (T1 : Nat → Int32) : Prop :=
  ∀ x i, bt (T1 x) i = (bt (T x) i && !((decide (x = b) && decide (i < c)) || (decide (i = b) && decide (x < c))))
def li_cn (T : Nat → Int32) (b c : Nat) : Nat := li_ct (bt (T b)) c + li_ct (fun a => !decide (a = b) && bt (T a) b) c
theorem li_xCutIn {post : Int32 → SX → Prop} {b : Nat} (hb : b < 12) (I : li_Inv T F U S L)
    (h : ∀ T1 F1 L1 : Nat → Int32, li_Inv T1 F1 U S L1 → li_CI T b 12 T1 → post (nI (li_cn T b 12)) (T1, F1, U, S, L1)) : ∃ n, wX_cutOff_14 post (nI b) n 0 0 T F U S L := by
  have cb : (nI b).toNatClampNeg = b := nI_clamp (by omega)
  have vb : vp_in (nI b) 12 := vp_in_nI hb (by decide)
  refine loop_0 (fun n i s => wX_cutOff_14 post (nI b) n s.1 (nI i) s.2.1 s.2.2.1 U S s.2.2.2)
    (fun i (s : Int32 × (Nat → Int32) × (Nat → Int32) × (Nat → Int32)) => s.1 = nI (li_cn T b i) ∧ li_Inv s.2.1 s.2.2.1 U S s.2.2.2 ∧ li_CI T b i s.2.1) 12 (0, T, F, L) ⟨rfl, I, fun x i => ?_⟩ ?_ ?_
  · rw [decide_eq_false (Nat.not_lt_zero i), decide_eq_false (Nat.not_lt_zero x), Bool.and_false, Bool.and_false, Bool.or_false, Bool.not_false, Bool.and_true]
  · rintro n ⟨a, T1, F1, L1⟩ ⟨e, I1, c1⟩
    have e : a = nI (li_cn T b 12) := e
    subst e
    exact br_t (nI_le (a := 12) (b := 12) (Nat.le_refl _) (by decide)) (h T1 F1 L1 I1 c1)
  · rintro n c ⟨a, T1, F1, L1⟩ hc ⟨e, I1, c1⟩ k
    have e : a = nI (li_cn T b c) := e
    subst e
    have cc : (nI c).toNatClampNeg = c := nI_clamp (by omega)
    have vc : vp_in (nI c) 12 := vp_in_nI hc (by decide)
    have c1 : li_CI T b c T1 := c1
    refine br_f (nI_ge (b := 12) hc (by decide)) (And.intro vb (nm_e (li_xPart hb hc I1 fun T2 F2 L2 I2 c2 => And.intro vc (nm_r (e' := nI (li_cn T b (c + 1))) ?_ (li_xPart hc hb I2 fun T3 F3 L3 I3 c3 => nm_r (nI_1 c) (k (_, T3, F3, L3) ⟨rfl, I3, fun x i => ?_⟩))))))
    · rw [cb, cc, li_val _ (by omega), li_val _ (by omega), nI_add, nI_add, c2 c b, c1 c b, c1 b c]
      refine congrArg nI ?_
      show li_cn T b c + _ + _ = (li_ct (bt (T b)) c + (bt (T b) c).toNat) + (li_ct (fun a => !decide (a = b) && bt (T a) b) c + (!decide (c = b) && bt (T c) b).toNat)
      have e1 : (bt (T b) c && !((decide (b = b) && decide (c < c)) || (decide (c = b) && decide (b < c)))) = bt (T b) c := by
        rw [decide_eq_false (Nat.lt_irrefl c), Bool.and_false, Bool.false_or, show (decide (c = b) && decide (b < c)) = false by rw [← Bool.decide_and]; exact decide_eq_false (by omega), Bool.not_false, Bool.and_true]
      have e2 : ((bt (T c) b && !((decide (c = b) && decide (b < c)) || (decide (b = b) && decide (c < c)))) && !(decide (c = b) && decide (b = c))) = (!decide (c = b) && bt (T c) b) := by
        rw [decide_eq_false (Nat.lt_irrefl c), Bool.and_false, Bool.or_false, show (decide (c = b) && decide (b < c)) = false by rw [← Bool.decide_and]; exact decide_eq_false (by omega), Bool.not_false, Bool.and_true]
        by_cases q : c = b
        · subst q; rw [decide_eq_true rfl]; cases bt (T c) c <;> rfl
        · rw [decide_eq_false q]; cases bt (T c) b <;> rfl
      rw [e1, e2]
      unfold li_cn
      omega
    · show bt (T3 x) i = _
      rw [c3, c2, c1, li_dlt, li_dlt]
      cases bt (T x) i <;> cases decide (x = b) <;> cases decide (i = b) <;> cases decide (i < c) <;> cases decide (i = c) <;> cases decide (x < c) <;> cases decide (x = c) <;> rfl
/-- arcs of c to the blocks below d now go out of b -/
def li_TI (T : Nat → Int32) (b c d : Nat) (T1 : Nat → Int32) : Prop :=
  ∀ x i, bt (T1 x) i = if x = c then bt (T c) i && !decide (i < d) else if x = b then bt (T b) i || (decide (i < d) && bt (T c) i) else bt (T x) i
def li_tn (T : Nat → Int32) (b c d : Nat) : Nat := li_ct (fun i => bt (T c) i && !bt (T b) i) d
theorem li_xTakeIn {post : Int32 → SX → Prop} {b c : Nat} (hb : b < 12) (hc : c < 12) (hbc : b ≠ c) (I : li_Inv T F U S L)
    (h : ∀ T1 F1 L1 : Nat → Int32, li_Inv T1 F1 U S L1 → li_TI T b c 12 T1 → post (nI (li_tn T b c 12)) (T1, F1, U, S, L1)) : ∃ n, wX_takeOver_28 post (nI b) (nI c) n 0 0 T F U S L := by
  have cb : (nI b).toNatClampNeg = b := nI_clamp (by omega)
  have vb : vp_in (nI b) 12 := vp_in_nI hb (by decide)
  have cc : (nI c).toNatClampNeg = c := nI_clamp (by omega)
  have vc : vp_in (nI c) 12 := vp_in_nI hc (by decide)
  refine loop_0 (fun n i s => wX_takeOver_28 post (nI b) (nI c) n s.1 (nI i) s.2.1 s.2.2.1 U S s.2.2.2)
    (fun i (s : Int32 × (Nat → Int32) × (Nat → Int32) × (Nat → Int32)) => s.1 = nI (li_tn T b c i) ∧ li_Inv s.2.1 s.2.2.1 U S s.2.2.2 ∧ li_TI T b c i s.2.1) 12 (0, T, F, L) ⟨rfl, I, fun x i => ?_⟩ ?_ ?_
  · rw [decide_eq_false (Nat.not_lt_zero i), Bool.not_false, Bool.and_true, Bool.false_and, Bool.or_false]
    by_cases e1 : x = c
    · rw [if_pos e1, e1]
    · rw [if_neg e1]
      by_cases e2 : x = b
      · rw [if_pos e2, e2]
      · rw [if_neg e2]
  · rintro n ⟨a, T1, F1, L1⟩ ⟨e, I1, c1⟩
    have e : a = nI (li_tn T b c 12) := e
    subst e
    exact br_t (nI_le (a := 12) (b := 12) (Nat.le_refl _) (by decide)) (h T1 F1 L1 I1 c1)
  · rintro n d ⟨a, T1, F1, L1⟩ hd ⟨e, I1, c1⟩ k
    have e : a = nI (li_tn T b c d) := e
    subst e
    have c1 : li_TI T b c d T1 := c1
    have tc : bt (T1 c) d = bt (T c) d := by rw [c1, if_pos rfl, decide_eq_false (Nat.lt_irrefl d), Bool.not_false, Bool.and_true]
    have tb : bt (T1 b) d = bt (T b) d := by rw [c1, if_neg hbc, if_pos rfl, decide_eq_false (Nat.lt_irrefl d), Bool.false_and, Bool.or_false]
    refine br_f (nI_ge (b := 12) hd (by decide)) (And.intro vc ?_)
    rw [cc]
    refine li_if (by omega) (fun q => li_xPart hc hd I1 fun T2 F2 L2 I2 c2 => And.intro vb (nm_r (e' := nI (li_tn T b c (d + 1))) ?_ (li_xJoin hb hd I2 fun T3 F3 L3 I3 c3 => nm_r (nI_1 d) (k (_, T3, F3, L3) ⟨rfl, I3, fun x i => ?_⟩)))) (fun q => nm_r (nI_1 d) (k (_, T1, F1, L1) ⟨?_, I1, fun x i => ?_⟩))
    · have q : bt (T1 c) d = true := q
      have e2 : bt (T2 b) d = bt (T b) d := by rw [c2, tb, decide_eq_false hbc, Bool.false_and, Bool.not_false, Bool.and_true]
      show nI (li_tn T b c d) + 1 - ((T2 (nI b).toNatClampNeg >>> (nI d &&& 31)) &&& 1) = nI (li_ct (fun i => bt (T c) i && !bt (T b) i) d + (bt (T c) d && !bt (T b) d).toNat)
      rw [cb, li_val _ (by omega), nI_1, e2, ← tc, q, Bool.true_and, pk_sub (Nat.le_trans (li_tn_le _) (Nat.le_add_left 1 _))]
      refine congrArg nI ?_
      cases bt (T b) d
      · exact rfl
      · exact rfl
    · have q : bt (T1 c) d = true := q
      rw [tc] at q
      show bt (T3 x) i = _
      rw [c3, c2, c1, li_dlt]
      by_cases e1 : x = c
      · have e3 : ¬ x = b := fun z => hbc (z.symm.trans e1)
        rw [if_pos e1, if_pos e1, decide_eq_true e1, decide_eq_false e3]
        cases bt (T c) i <;> cases decide (i < d) <;> cases decide (i = d) <;> rfl
      · rw [if_neg e1, if_neg e1, decide_eq_false e1]
        by_cases e2 : x = b
        · rw [if_pos e2, if_pos e2, decide_eq_true e2]
          by_cases e4 : i = d
          · rw [e4, q, decide_eq_true rfl]
            cases bt (T b) d <;> cases decide (d < d) <;> rfl
          · rw [decide_eq_false e4]
            cases bt (T b) i <;> cases bt (T c) i <;> cases decide (i < d) <;> rfl
        · rw [if_neg e2, if_neg e2, decide_eq_false e2]
          cases bt (T x) i <;> cases decide (i = d) <;> rfl
    · have q : bt (T1 c) d = false := q
      rw [tc] at q
      show nI (li_tn T b c d) = nI (li_ct (fun i => bt (T c) i && !bt (T b) i) d + (bt (T c) d && !bt (T b) d).toNat)
      rw [q]
      rfl
    · have q : bt (T1 c) d = false := q
      rw [tc] at q
      show bt (T1 x) i = _
      rw [c1, li_dlt]
      by_cases e4 : i = d
      · rw [e4, q, decide_eq_true rfl]
        by_cases e1 : x = c
        · rw [if_pos e1, if_pos e1]; rfl
        · rw [if_neg e1, if_neg e1, Bool.and_false, Bool.and_false]
      · rw [decide_eq_false e4, Bool.or_false]
end
end
section
/-! the reference -/
section
variable {T U S M L : Nat → Int32}
theorem li_yBlk {post : Int32 → Prop} {b : Nat} (hb : b < 12) (h : post 1) : wpY_isBlock post (T, U, S, M) (nI b) :=
  br_f (nI_pos (by omega)) (br_f (nI_nlt (a := 11) (by omega) (by decide)) h)
theorem li_yBlkN {post : Int32 → Prop} {x : Int32} (hx : li_out 12 x) (h : post 0) : wpY_isBlock post (T, U, S, M) x := by
  rcases hx with c | ⟨c, j, hj, hj2, rfl⟩
  · exact br_t c h
  · exact br_f c (br_t (nI_lt (a := 11) (by omega) hj2) h)
theorem li_yVar {post : Int32 → Prop} {b : Nat} (hb : b < 20) (h : post 1) : wpY_isVariable post (T, U, S, M) (nI b) :=
  br_f (nI_pos (by omega)) (br_f (nI_nlt (a := 19) (by omega) (by decide)) h)
theorem li_yVarN {post : Int32 → Prop} {x : Int32} (hx : li_out 20 x) (h : post 0) : wpY_isVariable post (T, U, S, M) x := by
  rcases hx with c | ⟨c, j, hj, hj2, rfl⟩
  · exact br_t c h
  · exact br_f c (br_t (nI_lt (a := 19) (by omega) hj2) h)
theorem li_yH {A B : Prop} {s : Int32} {i : Nat} (hi : i < 32) (f : bt s i = true → B) (g : bt s i = false → A) : wpY_has (fun r => (r = 0 → A) ∧ (¬ r = 0 → B)) (T, U, S, M) s (nI i) :=
  li_if hi (fun c => br_f (by decide) (f c)) (fun c => br_t rfl (g c))
theorem li_ySize {post : Int32 → Prop} {s : Int32} (h : post (nI (li_ct (bt s) 20))) : wpY_sizeOf post (T, U, S, M) s := by
  refine loop_0 (fun n i a => wY_sizeOf_4 post s T U S M n a (nI i)) (fun i a => a = nI (li_ct (bt s) i)) 20 0 rfl ?_ ?_
  · intro n a e
    subst e
    exact br_t (nI_le (a := 20) (b := 20) (Nat.le_refl _) (by decide)) h
  · intro n i a hi e k
    subst e
    refine br_f (nI_ge (b := 20) hi (by decide)) (li_yH (by omega) (fun c => nm_r (nI_1 _) (nm_r (nI_1 i) (k _ ?_))) (fun c => nm_r (nI_1 i) (k _ ?_)))
    · rw [li_ct_s, c]; rfl
    · rw [li_ct_s, c]; rfl
theorem li_yEnd {post : Int32 → Prop} {b : Nat} (hb : b < 12) (h : post (li_ae (T b) M 12)) : wpY_behind post (T, U, S, M) (nI b) := by
  have cb : (nI b).toNatClampNeg = b := nI_clamp (by omega)
  refine loop_0 (fun n i a => wY_behind_4 post (nI b) T U S M n a (nI i)) (fun i a => a = li_ae (T b) M i) 12 0 rfl ?_ ?_
  · intro n a e
    subst e
    exact br_t (nI_le (a := 12) (b := 12) (Nat.le_refl _) (by decide)) h
  · intro n i a hi e k
    subst e
    have ci : (nI i).toNatClampNeg = i := nI_clamp (by omega)
    refine br_f (nI_ge (b := 12) hi (by decide)) (And.intro (vp_in_nI hb (by decide)) ?_)
    rw [cb, ci]
    exact li_yH (by omega) (fun c => And.intro (vp_in_nI hi (by decide)) (nm_e (nm_r (nI_1 i) (k _ (li_ae_p c).symm)))) (fun c => nm_r (nI_1 i) (k _ (li_ae_n c).symm))
theorem li_ySpreadIn {post : SY → Prop} {J : Int32 → (Nat → Int32) → (Nat → Int32) → (Nat → Int32) → (Nat → Int32) → Prop} {r : Nat} (h : J (nI (r + 1)) T U S (li_sr T S 12 M)) : ∃ n, wY_spread_36 post J (nI r) n 0 T U S M := by
  refine loop_0 (fun n i s => wY_spread_36 post J (nI r) n (nI i) T U S s) (fun i s => s = li_sr T S i M) 12 M rfl ?_ ?_
  · intro n s e
    subst e
    exact br_t (nI_le (a := 12) (b := 12) (Nat.le_refl _) (by decide)) (nm_r (nI_1 r) h)
  · intro n i s hi e k
    subst e
    have ci : (nI i).toNatClampNeg = i := nI_clamp (by omega)
    have vi : vp_in (nI i) 12 := vp_in_nI hi (by decide)
    refine br_f (nI_ge (b := 12) hi (by decide)) (And.intro vi (li_yEnd hi (And.intro vi (And.intro vi ?_))))
    rw [ci]
    exact nm_e (nm_r (nI_1 i) (k _ rfl))
theorem li_ySpreadR {post : SY → Prop} (h : post (T, U, S, li_it (li_sr T S 12) 12 M)) : ∃ n, wY_spread_28 post n 0 T U S M := by
  refine loop_0 (fun n i s => wY_spread_28 post n (nI i) T U S s) (fun i s => s = li_it (li_sr T S 12) i M) 12 M rfl ?_ ?_
  · intro n s e
    subst e
    exact br_t (nI_le (a := 12) (b := 12) (Nat.le_refl _) (by decide)) h
  · intro n i s hi e k
    subst e
    exact br_f (nI_ge (b := 12) hi (by decide)) (li_ySpreadIn (k _ rfl))
def li_ui (U M : Nat → Int32) (n : Nat) : Nat → Int32 := fun x => if x < n then U x else M x
theorem li_ui_s (U M : Nat → Int32) (n : Nat) : li_ui U M (n + 1) = upd (li_ui U M n) n (U n) := by
  funext x
  by_cases e : x = n
  · subst e
    rw [pk_us]
    exact if_pos (Nat.lt_succ_self x)
  · rw [pk_un e]
    unfold li_ui
    by_cases h : x < n
    · rw [if_pos h, if_pos (by omega)]
    · rw [if_neg h, if_neg (by omega)]
theorem li_ySpread {post : SY → Prop} (rU : li_Rg 20 U) (z : li_Zr M) (ok : li_Ok T U S L) (h : post (T, U, S, L)) : wpY_spread post (T, U, S, M) := by
  refine loop_0 (fun n i s => wY_spread_2 post n (nI i) T U S s) (fun i s => s = li_ui U M i) 12 M (funext fun x => ?_) ?_ ?_
  · exact (if_neg (Nat.not_lt_zero x)).symm
  · intro n s e
    subst e
    refine br_t (nI_le (a := 12) (b := 12) (Nat.le_refl _) (by decide)) (li_ySpreadR ?_)
    have ok2 : li_Ok T U S (li_it (li_sr T S 12) 12 (li_ui U M 12)) := li_si_ok rU (fun x hx => if_pos hx) fun x hx => (if_neg (by omega)).trans (z x hx)
    rw [li_uni ok2 ok]
    exact h
  · intro n i s hi e k
    subst e
    have ci : (nI i).toNatClampNeg = i := nI_clamp (by omega)
    have vi : vp_in (nI i) 12 := vp_in_nI hi (by decide)
    refine br_f (nI_ge (b := 12) hi (by decide)) (And.intro vi (And.intro vi ?_))
    rw [ci]
    exact nm_e (nm_r (nI_1 i) (k _ (li_ui_s U M i).symm))
/-! questions, over a filled table -/
theorem li_yLiveBlocks {post : Int32 → SY → Prop} {v : Nat} (hv : v < 20) (h : post (li_bs (fun b => bt (L b) v) 12) (T, U, S, L)) : ∃ n, wY_liveBlocks_18 post (nI v) T U S L n 0 0 := by
  refine loop_0 (fun n i a => wY_liveBlocks_18 post (nI v) T U S L n a (nI i)) (fun i a => a = li_bs (fun b => bt (L b) v) i) 12 0 rfl ?_ ?_
  · intro n a e
    subst e
    exact br_t (nI_le (a := 12) (b := 12) (Nat.le_refl _) (by decide)) h
  · intro n i a hi e k
    subst e
    have ci : (nI i).toNatClampNeg = i := nI_clamp (by omega)
    refine br_f (nI_ge (b := 12) hi (by decide)) (And.intro (vp_in_nI hi (by decide)) ?_)
    rw [ci]
    exact li_yH (by omega) (fun c => nm_e (nm_r (nI_1 i) (k _ (li_bs_p (p := fun b => bt (L b) v) c).symm))) (fun c => nm_r (nI_1 i) (k _ (li_bs_n (p := fun b => bt (L b) v) c).symm))
theorem li_yIdle {post : Int32 → SY → Prop} (h : post (nI (li_su (li_id T S L) 12)) (T, U, S, L)) : ∃ n, wY_idleSets_8 post T U S L n 0 0 := by
  refine loop_0 (fun n i a => wY_idleSets_8 post T U S L n a (nI i)) (fun i a => a = nI (li_su (li_id T S L) i)) 12 0 rfl ?_ ?_
  · intro n a e
    subst e
    exact br_t (nI_le (a := 12) (b := 12) (Nat.le_refl _) (by decide)) h
  · intro n i a hi e k
    subst e
    have ci : (nI i).toNatClampNeg = i := nI_clamp (by omega)
    refine br_f (nI_ge (b := 12) hi (by decide)) (li_yEnd hi (And.intro (vp_in_nI hi (by decide)) (li_ySize ?_)))
    rw [ci]
    exact nm_r (nI_add _ _) (nm_r (nI_1 i) (k _ rfl))
theorem li_yPress {post : Int32 → SY → Prop} (h : post (nI (li_mx (li_sz L) 12)) (T, U, S, L)) : ∃ n, wY_pressure_8 post T U S L n 0 0 := by
  refine loop_0 (fun n i a => wY_pressure_8 post T U S L n a (nI i)) (fun i a => a = nI (li_mx (li_sz L) i)) 12 0 rfl ?_ ?_
  · intro n a e
    subst e
    exact br_t (nI_le (a := 12) (b := 12) (Nat.le_refl _) (by decide)) h
  · intro n i a hi e k
    subst e
    have ci : (nI i).toNatClampNeg = i := nI_clamp (by omega)
    refine br_f (nI_ge (b := 12) hi (by decide)) (And.intro (vp_in_nI hi (by decide)) (li_ySize ?_))
    rw [ci]
    have h1 : li_sz L i ≤ 20 := li_ct_bd _ _
    have h2 : li_mx (li_sz L) i ≤ 20 := li_mx_bd fun _ _ => li_ct_bd _ _
    show (nI (li_sz L i) ≤ nI (li_mx (li_sz L) i) → _) ∧ (¬ nI (li_sz L i) ≤ nI (li_mx (li_sz L) i) → _)
    rw [nI_leI (by omega) (by omega)]
    exact br_c (fun c => nm_r (nI_1 i) (k _ (congrArg nI (li_mx_n c).symm))) (fun c => nm_r (nI_1 i) (k _ (congrArg nI (li_mx_p c).symm)))
theorem li_yBes {post : Int32 → Prop} {v : Nat} (hv : v < 20) (h : post (li_tg L v 12 &&& (((1 : Int32) <<< (nI v &&& 31)) ^^^ (-1)))) : wpY_besides post (T, U, S, L) (nI v) := by
  refine loop_0 (fun n i s => wY_besides_4 post (nI v) T U S L n s (nI i)) (fun i s => s = li_tg L v i) 12 0 rfl ?_ ?_
  · intro n s e
    subst e
    exact br_t (nI_le (a := 12) (b := 12) (Nat.le_refl _) (by decide)) h
  · intro n i s hi e k
    subst e
    have ci : (nI i).toNatClampNeg = i := nI_clamp (by omega)
    refine br_f (nI_ge (b := 12) hi (by decide)) (And.intro (vp_in_nI hi (by decide)) ?_)
    rw [ci]
    exact li_yH (by omega) (fun c => And.intro (vp_in_nI hi (by decide)) (nm_e (nm_r (nI_1 i) (k _ (li_tg_p c).symm)))) (fun c => nm_r (nI_1 i) (k _ (li_tg_n c).symm))
theorem li_yCrow {post : Int32 → SY → Prop} (h : post (nI (li_su (li_cy L) 20) / 2) (T, U, S, L)) : ∃ n, wY_crowded_8 post T U S L n 0 0 := by
  refine loop_0 (fun n i a => wY_crowded_8 post T U S L n a (nI i)) (fun i a => a = nI (li_su (li_cy L) i)) 20 0 rfl ?_ ?_
  · intro n a e
    subst e
    exact br_t (nI_le (a := 20) (b := 20) (Nat.le_refl _) (by decide)) (And.intro (by decide) h)
  · intro n i a hi e k
    subst e
    exact br_f (nI_ge (b := 20) hi (by decide)) (li_yBes hi (li_ySize (nm_r (nI_add _ _) (nm_r (nI_1 i) (k _ rfl)))))
theorem li_yFarIn {post : Int32 → Prop} {J : Int32 → Int32 → Prop} {s : Int32} {v r : Nat} (hv : v < 20) (h : J (li_br (li_ms S T v) 12 s) (nI (r + 1))) : ∃ n, wY_far_20 post J (nI v) (nI r) T U S M n s 0 := by
  refine loop_0 (fun n i a => wY_far_20 post J (nI v) (nI r) T U S M n a (nI i)) (fun i a => a = li_br (li_ms S T v) i s) 12 s rfl ?_ ?_
  · intro n a e
    subst e
    exact br_t (nI_le (a := 12) (b := 12) (Nat.le_refl _) (by decide)) (nm_r (nI_1 r) h)
  · intro n i a hi e k
    subst e
    have ci : (nI i).toNatClampNeg = i := nI_clamp (by omega)
    have vi : vp_in (nI i) 12 := vp_in_nI hi (by decide)
    refine br_f (nI_ge (b := 12) hi (by decide)) (li_yH (by omega) (fun c => And.intro vi ?_) (fun c => nm_r (nI_1 i) (k _ (li_br_n c).symm)))
    rw [ci]
    refine li_yH (by omega) (fun d => nm_r (nI_1 i) (k _ ?_)) (fun d => And.intro vi (nm_e (nm_r (nI_1 i) (k _ ?_))))
    · rw [li_br_p c, li_ms_p d, li_or0]
    · rw [li_br_p c, li_ms_n d]
theorem li_yFar {post : Int32 → Prop} {a v : Nat} (ha : a < 12) (hv : v < 20) (h : post (li_it (li_br (li_ms S T v) 12) 12 (T a))) : wpY_far post (T, U, S, M) (nI a) (nI v) := by
  have ca : (nI a).toNatClampNeg = a := nI_clamp (by omega)
  refine And.intro (vp_in_nI ha (by decide)) (nm_r (e' := T a) (by rw [ca]) ?_)
  refine loop_0 (fun n i s => wY_far_10 post (nI v) T U S M n s (nI i)) (fun i s => s = li_it (li_br (li_ms S T v) 12) i (T a)) 12 (T a) rfl ?_ ?_
  · intro n s e
    subst e
    exact br_t (nI_le (a := 12) (b := 12) (Nat.le_refl _) (by decide)) h
  · intro n i s hi e k
    subst e
    exact br_f (nI_ge (b := 12) hi (by decide)) (li_yFarIn hv (k _ rfl))
theorem li_yReach {post : Int32 → Prop} {b v : Nat} (hb : b < 12) (hv : v < 20) (h : post (li_bs (fun a => bt (S a) v && bt (li_it (li_br (li_ms S T v) 12) 12 (T a)) b) 12)) : ∃ n, wY_reaching_23 post (nI b) (nI v) T U S M n 0 0 := by
  refine loop_0 (fun n i a => wY_reaching_23 post (nI b) (nI v) T U S M n a (nI i)) (fun i a => a = li_bs (fun a => bt (S a) v && bt (li_it (li_br (li_ms S T v) 12) 12 (T a)) b) i) 12 0 rfl ?_ ?_
  · intro n a e
    subst e
    exact br_t (nI_le (a := 12) (b := 12) (Nat.le_refl _) (by decide)) h
  · intro n i a hi e k
    subst e
    have ci : (nI i).toNatClampNeg = i := nI_clamp (by omega)
    refine br_f (nI_ge (b := 12) hi (by decide)) (li_yFar hi hv (And.intro (vp_in_nI hi (by decide)) ?_))
    rw [ci]
    refine li_yH (by omega) (fun c => li_yH (by omega) (fun d => nm_e (nm_r (nI_1 i) (k _ (li_bs_p (p := fun a => bt (S a) v && bt (li_it (li_br (li_ms S T v) 12) 12 (T a)) b) ?_).symm))) (fun d => nm_r (nI_1 i) (k _ (li_bs_n (p := fun a => bt (S a) v && bt (li_it (li_br (li_ms S T v) 12) 12 (T a)) b) ?_).symm))) (fun c => nm_r (nI_1 i) (k _ (li_bs_n (p := fun a => bt (S a) v && bt (li_it (li_br (li_ms S T v) 12) 12 (T a)) b) ?_).symm))
    · show (bt (S i) v && bt (li_it (li_br (li_ms S T v) 12) 12 (T i)) b) = true
      rw [c, d]; rfl
    · show (bt (S i) v && bt (li_it (li_br (li_ms S T v) 12) 12 (T i)) b) = false
      rw [d, Bool.and_false]
    · show (bt (S i) v && bt (li_it (li_br (li_ms S T v) 12) 12 (T i)) b) = false
      rw [c, Bool.false_and]
/-! cutOff -/
theorem li_ct_cut {p : Nat → Bool} (h : ∀ i, 12 ≤ i → p i = false) : li_ct p 20 = li_ct p 12 := by
  have e := li_su_app (f := fun i => (p i).toNat) (n := 12) (m := 8)
  have z : li_su (fun i => (p (12 + i)).toNat) 8 = 0 := by
    refine (li_su_eq fun i _ => ?_).trans (li_su_0 (n := 8))
    rw [h (12 + i) (by omega)]; rfl
  exact e.trans (congrArg (fun w => li_su (fun i => (p i).toNat) 12 + w) z)
def li_YI (T : Nat → Int32) (b c : Nat) (T1 : Nat → Int32) : Prop := ∀ x i, bt (T1 x) i = (bt (T x) i && !(decide (x = b) || (decide (i = b) && decide (x < c))))
theorem li_yCutIn {post : Int32 → SY → Prop} {b : Nat} {r : Int32} (hb : b < 12) (hr : r = nI (li_ct (bt (T b)) 12))
    (h : ∀ T1 : Nat → Int32, li_YI T b 12 T1 → post (nI (li_cn T b 12)) (T1, U, S, M)) : ∃ n, wY_cutOff_30 post (nI b) n r 0 (upd T b 0) U S M := by
  refine loop_0 (fun n i s => wY_cutOff_30 post (nI b) n s.1 (nI i) s.2 U S M)
    (fun i (s : Int32 × (Nat → Int32)) => s.1 = nI (li_ct (bt (T b)) 12 + li_ct (fun a => !decide (a = b) && bt (T a) b) i) ∧ li_YI T b i s.2) 12 (r, upd T b 0) ⟨hr, fun x i => ?_⟩ ?_ ?_
  · show bt (upd T b 0 x) i = _
    rw [li_ub, decide_eq_false (Nat.not_lt_zero x), Bool.and_false, Bool.or_false]
    by_cases e : x = b
    · rw [if_pos e, b_0, decide_eq_true e, Bool.not_true, Bool.and_false]
    · rw [if_neg e, decide_eq_false e, Bool.not_false, Bool.and_true]
  · rintro n ⟨a, T1⟩ ⟨e, c1⟩
    have e : a = nI (li_cn T b 12) := e
    subst e
    exact br_t (nI_le (a := 12) (b := 12) (Nat.le_refl _) (by decide)) (h T1 c1)
  · rintro n c ⟨a, T1⟩ hc ⟨e, c1⟩ k
    have e : a = nI (li_ct (bt (T b)) 12 + li_ct (fun a => !decide (a = b) && bt (T a) b) c) := e
    subst e
    have cc : (nI c).toNatClampNeg = c := nI_clamp (by omega)
    have vc : vp_in (nI c) 12 := vp_in_nI hc (by decide)
    have c1 : li_YI T b c T1 := c1
    have e1 : bt (T1 c) b = (!decide (c = b) && bt (T c) b) := by
      rw [c1, decide_eq_false (Nat.lt_irrefl c), Bool.and_false, Bool.or_false, Bool.and_comm]
    have fin : li_YI T b (c + 1) (upd T1 c (T1 c &&& (((1 : Int32) <<< (nI b &&& 31)) ^^^ (-1)))) := fun x i => by
      rw [li_clr T1 c (by omega), c1, li_dlt]
      cases bt (T x) i <;> cases decide (x = b) <;> cases decide (i = b) <;> cases decide (x < c) <;> cases decide (x = c) <;> rfl
    refine br_f (nI_ge (b := 12) hc (by decide)) (And.intro vc ?_)
    rw [cc]
    refine li_yH (by omega) (fun q => And.intro vc (And.intro vc ?_)) (fun q => And.intro vc (And.intro vc ?_))
    · rw [cc]
      refine nm_e (nm_r (nI_1 c) (k (_, _) ⟨?_, fin⟩))
      show nI _ + 1 = nI (_ + (_ + (!decide (c = b) && bt (T c) b).toNat))
      rw [← e1, q, nI_1]
      rfl
    · rw [cc]
      refine nm_e (nm_r (nI_1 c) (k (_, _) ⟨?_, fin⟩))
      show nI _ = nI (_ + (_ + (!decide (c = b) && bt (T c) b).toNat))
      rw [← e1, q]
      rfl
end
end
section
/-! what is owed -/
/-- the same arcs, uses and sets; the component's table is the least one, its arcs back are the arcs turned round; the reference's table holds nothing beyond its twelve cells -/
def i_Rel (k : Nat) (u : SX) (v : SY) : Prop :=
  v.1 = u.1 ∧ v.2.1 = u.2.2.1 ∧ v.2.2.1 = u.2.2.2.1 ∧ li_Inv u.1 u.2.1 u.2.2.1 u.2.2.2.1 u.2.2.2.2 ∧ li_Zr v.2.2.2
theorem li_mk {k : Nat} {T F U S L M : Nat → Int32} (I : li_Inv T F U S L) (z : li_Zr M) : i_Rel k (T, F, U, S, L) (T, U, S, M) := And.intro rfl (And.intro rfl (And.intro rfl (And.intro I z)))
theorem li_el {P : SX → SY → Prop} {k : Nat} {u : SX} {v : SY} (I : i_Rel k u v) (h : ∀ T F U S L M : Nat → Int32, li_Inv T F U S L → li_Zr M → P (T, F, U, S, L) (T, U, S, M)) : P u v := by
  obtain ⟨T, F, U, S, L⟩ := u
  obtain ⟨T', U', S', M⟩ := v
  obtain ⟨h1, h2, h3, I, z⟩ := I
  have h1 : T' = T := h1
  have h2 : U' = U := h2
  have h3 : S' = S := h3
  subst h1 h2 h3
  exact h _ _ _ _ _ _ I z
theorem li_Inv_z {T F U S L : Nat → Int32} (I : li_Inv T F U S L) : li_Zr L := I.2.2.2.2.2.2.2
theorem i_up {k : Nat} {u : SX} {v : SY} (h : i_Rel k u v) : i_Rel (k + 4) u v := h
theorem li_rg0 (n : Nat) : li_Rg n (fun _ => 0) := fun _ i _ _ => b_0 i
theorem i_vc0 : wpX_init (fun u => wpY_init (fun v => i_Rel 0 u v)) := by
  refine li_mk (k := 0) ⟨li_rg0 12, li_rg0 12, fun a b _ _ => (b_0 b).trans (b_0 a).symm, li_rg0 20, fun x v _ _ d => ?_, fun R _ x v _ _ h => li_tf h (b_0 v), li_rg0 20, fun _ _ => rfl⟩ fun _ _ => rfl
  rcases d with d | ⟨_, c, _, d, _⟩
  · exact li_tf d (b_0 v)
  · exact li_tf d (b_0 c)
theorem i_vc_arc {k : Nat} {u : SX} {v : SY} (I : i_Rel k u v) (hk : k + 4 ≤ 2048) (v1 : Int32) (v2 : Int32) (v3 : Int32) : wpX_arc (fun r u' => wpY_arc (fun r' v' => r' = r ∧ i_Rel (k + 4) u' v') v v1 v2 v3) u v1 v2 v3 := by
  refine li_el (P := fun u v => wpX_arc (fun r u' => wpY_arc (fun r' v' => r' = r ∧ i_Rel (k + 4) u' v') v v1 v2 v3) u v1 v2 v3) I ?_
  intro T F U S L M I z
  unfold wpX_arc wpY_arc
  dsimp only
  rcases li_io v1 12 (by decide) with o | ⟨a, ha, rfl⟩
  · exact li_xBadN o (br_f (by decide) (li_yBlkN o (br_t rfl (And.intro rfl (li_mk I z)))))
  · rcases li_io v2 12 (by decide) with o | ⟨b, hb, rfl⟩
    · exact li_xBad ha (br_t rfl (li_xBadN o (br_f (by decide) (li_yBlk ha (br_f (by decide) (li_yBlkN o (br_t rfl (And.intro rfl (li_mk I z)))))))))
    · have va : vp_in (nI a) 12 := vp_in_nI ha (by decide)
      have ca : (nI a).toNatClampNeg = a := nI_clamp (by omega)
      refine li_xBad ha (br_t rfl (li_xBad hb (br_t rfl (And.intro va ?_))))
      rw [ca]
      refine nm_e (br_c (fun q => li_xPart ha hb I fun T1 F1 L1 I1 e => ?_) (fun q => li_xJoin ha hb I fun T1 F1 L1 I1 e => ?_))
      · have eT : upd T a (T a &&& (((1 : Int32) <<< (nI b &&& 31)) ^^^ (-1))) = T1 := li_fx fun x i => (li_clr T a (by omega) x i).trans (e x i).symm
        exact li_yBlk ha (br_f (by decide) (li_yBlk hb (br_f (by decide) (And.intro va (nm_e (br_t q (And.intro va (And.intro va (nm_r eT (And.intro rfl (li_mk I1 z)))))))))))
      · have eT : upd T a (T a ||| ((1 : Int32) <<< (nI b &&& 31))) = T1 := li_fx fun x i => (li_put T a (by omega) x i).trans (e x i).symm
        exact li_yBlk ha (br_f (by decide) (li_yBlk hb (br_f (by decide) (And.intro va (nm_e (br_f q (And.intro va (And.intro va (nm_r eT (And.intro rfl (li_mk I1 z)))))))))))
theorem i_vc_hasArc {k : Nat} {u : SX} {v : SY} (I : i_Rel k u v) (hk : k + 4 ≤ 2048) (v1 : Int32) (v2 : Int32) : wpX_hasArc (fun r => wpY_hasArc (fun r' => r' = r ∧ i_Rel (k + 4) u v) v v1 v2) u v1 v2 := by
  refine li_el (P := fun u v => wpX_hasArc (fun r => wpY_hasArc (fun r' => r' = r ∧ i_Rel (k + 4) u v) v v1 v2) u v1 v2) I ?_
  intro T F U S L M I z
  unfold wpX_hasArc wpY_hasArc
  dsimp only
  rcases li_io v1 12 (by decide) with o | ⟨a, ha, rfl⟩
  · exact li_xBadN o (br_f (by decide) (li_yBlkN o (br_t rfl (And.intro rfl (li_mk I z)))))
  · rcases li_io v2 12 (by decide) with o | ⟨b, hb, rfl⟩
    · exact li_xBad ha (br_t rfl (li_xBadN o (br_f (by decide) (li_yBlk ha (br_f (by decide) (li_yBlkN o (br_t rfl (And.intro rfl (li_mk I z)))))))))
    · have va : vp_in (nI a) 12 := vp_in_nI ha (by decide)
      have ca : (nI a).toNatClampNeg = a := nI_clamp (by omega)
      refine li_xBad ha (br_t rfl (li_xBad hb (br_t rfl (And.intro va ?_))))
      rw [ca]
      refine li_if (by omega) (fun c => li_yBlk ha (br_f (by decide) (li_yBlk hb (br_f (by decide) (And.intro va ?_))))) (fun c => li_yBlk ha (br_f (by decide) (li_yBlk hb (br_f (by decide) (And.intro va ?_)))))
      · exact li_yH (by omega) (fun _ => And.intro rfl (li_mk I z)) (fun d => li_tf c d)
      · exact li_yH (by omega) (fun d => li_tf d c) (fun _ => And.intro rfl (li_mk I z))
theorem li_bit20 {x : Int32} {v i : Nat} (hx : bt x i = false) (hv : v < 20) (hi : 20 ≤ i) : bt (x ||| ((1 : Int32) <<< (nI v &&& 31))) i = false := by
  rw [b_or, hx, li_bit (by omega), decide_eq_false (by omega)]; rfl
theorem li_rest (x : Int32) {v : Nat} (hv : v < 32) : (x &&& (((1 : Int32) <<< (nI v &&& 31)) ^^^ (-1))) ||| ((1 : Int32) <<< (nI v &&& 31)) = x ||| ((1 : Int32) <<< (nI v &&& 31)) := by
  refine b_ext fun i _ => ?_
  rw [b_or, b_or, li_an]
  cases bt x i <;> cases bt ((1 : Int32) <<< (nI v &&& 31)) i <;> rfl
theorem i_vc_use {k : Nat} {u : SX} {v : SY} (I : i_Rel k u v) (hk : k + 4 ≤ 2048) (v1 : Int32) (v2 : Int32) (v3 : Int32) : wpX_use (fun r u' => wpY_use (fun r' v' => r' = r ∧ i_Rel (k + 4) u' v') v v1 v2 v3) u v1 v2 v3 := by
  refine li_el (P := fun u v => wpX_use (fun r u' => wpY_use (fun r' v' => r' = r ∧ i_Rel (k + 4) u' v') v v1 v2 v3) u v1 v2 v3) I ?_
  intro T F U S L M I z
  unfold wpX_use wX_use_61 wpY_use
  dsimp only
  rcases li_io v1 12 (by decide) with o | ⟨b, hb, rfl⟩
  · exact li_xBadN o (br_f (by decide) (li_yBlkN o (br_t rfl (And.intro rfl (li_mk I z)))))
  · rcases li_io v2 20 (by decide) with o | ⟨w, hw, rfl⟩
    · exact li_xBad hb (br_t rfl (li_xBadVN o (br_f (by decide) (li_yBlk hb (br_f (by decide) (li_yVarN o (br_t rfl (And.intro rfl (li_mk I z)))))))))
    · have vb : vp_in (nI b) 12 := vp_in_nI hb (by decide)
      have cb : (nI b).toNatClampNeg = b := nI_clamp (by omega)
      have rU := I.2.2.2.1
      have r0 : ∀ i, 20 ≤ i → bt (U b &&& (((1 : Int32) <<< (nI w &&& 31)) ^^^ (-1))) i = false := fun i hi => by rw [li_an, rU b i hb hi, Bool.false_and]
      refine li_xBad hb (br_t rfl (li_xBadV hw (br_t rfl (And.intro vb ?_))))
      rw [cb]
      refine nm_e (And.intro vb (nm_e (br_c (fun q => And.intro vb (li_xChange hb r0 I fun L1 I1 => ?_)) (fun q => And.intro vb (li_xChange hb (fun i hi => li_bit20 (r0 i hi) hw hi) I fun L1 I1 => ?_)))))
      · rw [li_us] at I1
        rw [li_us]
        exact li_yBlk hb (br_f (by decide) (li_yVar hw (br_f (by decide) (And.intro vb (nm_e (br_t q (And.intro vb (And.intro vb (nm_e (And.intro rfl (li_mk I1 z)))))))))))
      · rw [li_us, li_rest _ (by omega)] at I1
        rw [li_us, li_rest _ (by omega)]
        exact li_yBlk hb (br_f (by decide) (li_yVar hw (br_f (by decide) (And.intro vb (nm_e (br_f q (And.intro vb (And.intro vb (nm_e (And.intro rfl (li_mk I1 z)))))))))))
theorem i_vc_set {k : Nat} {u : SX} {v : SY} (I : i_Rel k u v) (hk : k + 4 ≤ 2048) (v1 : Int32) (v2 : Int32) (v3 : Int32) : wpX_set (fun r u' => wpY_set (fun r' v' => r' = r ∧ i_Rel (k + 4) u' v') v v1 v2 v3) u v1 v2 v3 := by
  refine li_el (P := fun u v => wpX_set (fun r u' => wpY_set (fun r' v' => r' = r ∧ i_Rel (k + 4) u' v') v v1 v2 v3) u v1 v2 v3) I ?_
  intro T F U S L M I z
  unfold wpX_set wX_set_67 wpY_set
  dsimp only
  rcases li_io v1 12 (by decide) with o | ⟨b, hb, rfl⟩
  · exact li_xBadN o (br_f (by decide) (li_yBlkN o (br_t rfl (And.intro rfl (li_mk I z)))))
  · rcases li_io v2 20 (by decide) with o | ⟨w, hw, rfl⟩
    · exact li_xBad hb (br_t rfl (li_xBadVN o (br_f (by decide) (li_yBlk hb (br_f (by decide) (li_yVarN o (br_t rfl (And.intro rfl (li_mk I z)))))))))
    · have vb : vp_in (nI b) 12 := vp_in_nI hb (by decide)
      have cb : (nI b).toNatClampNeg = b := nI_clamp (by omega)
      have rU := I.2.2.2.1
      have r0 : ∀ i, 20 ≤ i → bt (U b) i = false := fun i hi => rU b i hb hi
      refine li_xBad hb (br_t rfl (li_xBadV hw (br_t rfl (And.intro vb ?_))))
      rw [cb]
      refine nm_e (And.intro vb (nm_e (And.intro vb (br_c (fun q => li_xChange hb r0 I fun L1 I1 => ?_) (fun q => li_xChange hb r0 I fun L1 I1 => ?_)))))
      · rw [li_us] at I1
        rw [li_us]
        exact li_yBlk hb (br_f (by decide) (li_yVar hw (br_f (by decide) (And.intro vb (nm_e (br_t q (And.intro vb (And.intro vb (nm_e (And.intro rfl (li_mk I1 z)))))))))))
      · rw [li_us, li_rest _ (by omega)] at I1
        rw [li_us, li_rest _ (by omega)]
        exact li_yBlk hb (br_f (by decide) (li_yVar hw (br_f (by decide) (And.intro vb (nm_e (br_f q (And.intro vb (And.intro vb (nm_e (And.intro rfl (li_mk I1 z)))))))))))
theorem i_vc_block {k : Nat} {u : SX} {v : SY} (I : i_Rel k u v) (hk : k + 4 ≤ 2048) (v1 : Int32) (v2 : Int32) (v3 : Int32) : wpX_block (fun r u' => wpY_block (fun r' v' => r' = r ∧ i_Rel (k + 4) u' v') v v1 v2 v3) u v1 v2 v3 := by
  refine li_el (P := fun u v => wpX_block (fun r u' => wpY_block (fun r' v' => r' = r ∧ i_Rel (k + 4) u' v') v v1 v2 v3) u v1 v2 v3) I ?_
  intro T F U S L M I z
  unfold wpX_block wpY_block
  dsimp only
  rcases li_io v1 12 (by decide) with o | ⟨b, hb, rfl⟩
  · exact li_xBadN o (br_f (by decide) (li_yBlkN o (br_t rfl (And.intro rfl (li_mk I z)))))
  · have vb : vp_in (nI b) 12 := vp_in_nI hb (by decide)
    have cb : (nI b).toNatClampNeg = b := nI_clamp (by omega)
    refine li_xBad hb (br_t rfl (br_c (fun q1 => ?_) (fun q1 => br_c (fun q2 => ?_) (fun q2 => br_c (fun q3 => ?_) (fun q3 => br_c (fun q4 => ?_) (fun q4 => ?_))))))
    · exact li_yBlk hb (br_f (by decide) (br_t q1 (And.intro rfl (li_mk I z))))
    · exact li_yBlk hb (br_f (by decide) (br_f q1 (br_t q2 (And.intro rfl (li_mk I z)))))
    · exact li_yBlk hb (br_f (by decide) (br_f q1 (br_f q2 (br_t q3 (And.intro rfl (li_mk I z))))))
    · refine li_xChange hb (fun i hi => li_rg q1 (Int32.not_lt.mp q2) hi) I fun L1 I1 => ?_
      refine li_yBlk hb (br_f (by decide) (br_f q1 (br_f q2 (br_f q3 (br_t q4 (And.intro vb ?_))))))
      rw [cb]
      exact nm_e (And.intro vb (nm_e (And.intro rfl (li_mk I1 z))))
    · exact li_yBlk hb (br_f (by decide) (br_f q1 (br_f q2 (br_f q3 (br_f q4 (And.intro rfl (li_mk I z)))))))
theorem i_vc_cutOff {k : Nat} {u : SX} {v : SY} (I : i_Rel k u v) (hk : k + 4 ≤ 2048) (v1 : Int32) : wpX_cutOff (fun r u' => wpY_cutOff (fun r' v' => r' = r ∧ i_Rel (k + 4) u' v') v v1) u v1 := by
  refine li_el (P := fun u v => wpX_cutOff (fun r u' => wpY_cutOff (fun r' v' => r' = r ∧ i_Rel (k + 4) u' v') v v1) u v1) I ?_
  intro T F U S L M I z
  unfold wpX_cutOff wpY_cutOff
  dsimp only
  rcases li_io v1 12 (by decide) with o | ⟨b, hb, rfl⟩
  · exact li_xBadN o (br_f (by decide) (li_yBlkN o (br_t rfl (And.intro rfl (li_mk I z)))))
  · have vb : vp_in (nI b) 12 := vp_in_nI hb (by decide)
    have cb : (nI b).toNatClampNeg = b := nI_clamp (by omega)
    have rT := I.1
    refine li_xBad hb (br_t rfl (li_xCutIn hb I fun T1 F1 L1 I1 c1 => ?_))
    refine li_yBlk hb (br_f (by decide) (And.intro vb (li_ySize (And.intro vb ?_))))
    rw [cb]
    refine nm_e (li_yCutIn hb (congrArg nI (li_ct_cut fun i hi => rT b i hb hi)) fun T2 c2 => And.intro rfl ?_)
    have e : T2 = T1 := li_fx fun x i => by
      rw [c2, c1]
      by_cases q : i < 12
      · rw [decide_eq_true q, Bool.and_true]
      · by_cases p : x = b
        · rw [p, rT b i hb (by omega), Bool.false_and, Bool.false_and]
        · rw [decide_eq_false p, Bool.false_and]
    rw [e]
    exact li_mk I1 z
theorem i_vc_takeOver {k : Nat} {u : SX} {v : SY} (I : i_Rel k u v) (hk : k + 4 ≤ 2048) (v1 : Int32) (v2 : Int32) : wpX_takeOver (fun r u' => wpY_takeOver (fun r' v' => r' = r ∧ i_Rel (k + 4) u' v') v v1 v2) u v1 v2 := by
  refine li_el (P := fun u v => wpX_takeOver (fun r u' => wpY_takeOver (fun r' v' => r' = r ∧ i_Rel (k + 4) u' v') v v1 v2) u v1 v2) I ?_
  intro T F U S L M I z
  unfold wpX_takeOver wpY_takeOver
  dsimp only
  rcases li_io v1 12 (by decide) with o | ⟨b, hb, rfl⟩
  · exact li_xBadN o (br_f (by decide) (li_yBlkN o (br_t rfl (And.intro rfl (li_mk I z)))))
  · rcases li_io v2 12 (by decide) with o | ⟨c, hc, rfl⟩
    · exact li_xBad hb (br_t rfl (li_xBadN o (br_f (by decide) (li_yBlk hb (br_f (by decide) (li_yBlkN o (br_t rfl (And.intro rfl (li_mk I z)))))))))
    · have vb : vp_in (nI b) 12 := vp_in_nI hb (by decide)
      have cb : (nI b).toNatClampNeg = b := nI_clamp (by omega)
      have vc : vp_in (nI c) 12 := vp_in_nI hc (by decide)
      have cc : (nI c).toNatClampNeg = c := nI_clamp (by omega)
      have rT := I.1
      refine li_xBad hb (br_t rfl (li_xBad hc (br_t rfl (br_c (fun q => ?_) (fun q => ?_)))))
      · exact li_yBlk hb (br_f (by decide) (li_yBlk hc (br_f (by decide) (br_t q (And.intro rfl (li_mk I z))))))
      · have hbc : b ≠ c := fun e => q (congrArg nI e)
        refine li_xTakeIn hb hc hbc I fun T1 F1 L1 I1 c1 => ?_
        refine li_yBlk hb (br_f (by decide) (li_yBlk hc (br_f (by decide) (br_f q (And.intro vc (And.intro vb (li_ySize (And.intro vb (And.intro vc (And.intro vb ?_))))))))))
        rw [cb, cc]
        have eT : upd (upd T b (T b ||| T c)) c 0 = T1 := li_fx fun x i => by
          rw [c1, li_ub, li_ub]
          by_cases q1 : x = c
          · rw [if_pos q1, if_pos q1, b_0]
            by_cases q2 : i < 12
            · rw [decide_eq_true q2, Bool.not_true, Bool.and_false]
            · rw [rT c i hc (by omega), Bool.false_and]
          · rw [if_neg q1, if_neg q1]
            by_cases q3 : x = b
            · rw [if_pos q3, if_pos q3, b_or]
              by_cases q2 : i < 12
              · rw [decide_eq_true q2, Bool.true_and]
              · rw [rT c i hc (by omega), Bool.and_false]
            · rw [if_neg q3, if_neg q3]
        refine nm_e (And.intro vc (nm_r eT (And.intro (congrArg nI ?_) (li_mk I1 z))))
        rw [li_ct_cut fun i hi => by rw [li_an, rT c i hc hi, Bool.false_and]]
        exact li_ct_eq fun i _ => li_an _ _ i
theorem i_vc_liveIn {k : Nat} {u : SX} {v : SY} (I : i_Rel k u v) (hk : k + 4 ≤ 2048) (v1 : Int32) : wpX_liveIn (fun r => wpY_liveIn (fun r' v' => r' = r ∧ i_Rel (k + 4) u v') v v1) u v1 := by
  refine li_el (P := fun u v => wpX_liveIn (fun r => wpY_liveIn (fun r' v' => r' = r ∧ i_Rel (k + 4) u v') v v1) u v1) I ?_
  intro T F U S L M I z
  unfold wpX_liveIn wpY_liveIn
  dsimp only
  rcases li_io v1 12 (by decide) with o | ⟨b, hb, rfl⟩
  · exact li_xBadN o (br_f (by decide) (li_yBlkN o (br_t rfl (And.intro rfl (li_mk I z)))))
  · have vb : vp_in (nI b) 12 := vp_in_nI hb (by decide)
    refine li_xBad hb (br_t rfl (And.intro vb (li_yBlk hb (br_f (by decide) (li_ySpread I.2.2.2.1 z I.2.2.2.2 ?_)))))
    exact And.intro vb (And.intro rfl (li_mk I (li_Inv_z I)))
theorem i_vc_liveOut {k : Nat} {u : SX} {v : SY} (I : i_Rel k u v) (hk : k + 4 ≤ 2048) (v1 : Int32) : wpX_liveOut (fun r => wpY_liveOut (fun r' v' => r' = r ∧ i_Rel (k + 4) u v') v v1) u v1 := by
  refine li_el (P := fun u v => wpX_liveOut (fun r => wpY_liveOut (fun r' v' => r' = r ∧ i_Rel (k + 4) u v') v v1) u v1) I ?_
  intro T F U S L M I z
  unfold wpX_liveOut wpY_liveOut
  dsimp only
  rcases li_io v1 12 (by decide) with o | ⟨b, hb, rfl⟩
  · exact li_xBadN o (br_f (by decide) (li_yBlkN o (br_t rfl (And.intro rfl (li_mk I z)))))
  · refine li_xBad hb (br_t rfl (li_xEnd hb (li_yBlk hb (br_f (by decide) (li_ySpread I.2.2.2.1 z I.2.2.2.2 ?_)))))
    exact li_yEnd hb (And.intro rfl (li_mk I (li_Inv_z I)))
theorem i_vc_liveBlocks {k : Nat} {u : SX} {v : SY} (I : i_Rel k u v) (hk : k + 4 ≤ 2048) (v1 : Int32) : wpX_liveBlocks (fun r => wpY_liveBlocks (fun r' v' => r' = r ∧ i_Rel (k + 4) u v') v v1) u v1 := by
  refine li_el (P := fun u v => wpX_liveBlocks (fun r => wpY_liveBlocks (fun r' v' => r' = r ∧ i_Rel (k + 4) u v') v v1) u v1) I ?_
  intro T F U S L M I z
  unfold wpX_liveBlocks wpY_liveBlocks
  dsimp only
  rcases li_io v1 20 (by decide) with o | ⟨w, hw, rfl⟩
  · exact li_xBadVN o (br_f (by decide) (li_yVarN o (br_t rfl (And.intro rfl (li_mk I z)))))
  · refine li_xBadV hw (br_t rfl (li_xLiveBlocks hw (li_yVar hw (br_f (by decide) (li_ySpread I.2.2.2.1 z I.2.2.2.2 ?_)))))
    exact li_yLiveBlocks hw (And.intro rfl (li_mk I (li_Inv_z I)))
theorem i_vc_idleSets {k : Nat} {u : SX} {v : SY} (I : i_Rel k u v) (hk : k + 4 ≤ 2048) : wpX_idleSets (fun r => wpY_idleSets (fun r' v' => r' = r ∧ i_Rel (k + 4) u v') v) u := by
  refine li_el (P := fun u v => wpX_idleSets (fun r => wpY_idleSets (fun r' v' => r' = r ∧ i_Rel (k + 4) u v') v) u) I ?_
  intro T F U S L M I z
  refine li_xIdle ?_
  unfold wpY_idleSets
  dsimp only
  refine li_ySpread I.2.2.2.1 z I.2.2.2.2 ?_
  exact li_yIdle (And.intro rfl (li_mk I (li_Inv_z I)))
theorem i_vc_pressure {k : Nat} {u : SX} {v : SY} (I : i_Rel k u v) (hk : k + 4 ≤ 2048) : wpX_pressure (fun r => wpY_pressure (fun r' v' => r' = r ∧ i_Rel (k + 4) u v') v) u := by
  refine li_el (P := fun u v => wpX_pressure (fun r => wpY_pressure (fun r' v' => r' = r ∧ i_Rel (k + 4) u v') v) u) I ?_
  intro T F U S L M I z
  refine li_xPress ?_
  unfold wpY_pressure
  dsimp only
  refine li_ySpread I.2.2.2.1 z I.2.2.2.2 ?_
  exact li_yPress (And.intro rfl (li_mk I (li_Inv_z I)))
theorem i_vc_reaching {k : Nat} {u : SX} {v : SY} (I : i_Rel k u v) (hk : k + 4 ≤ 2048) (v1 : Int32) (v2 : Int32) : wpX_reaching (fun r => wpY_reaching (fun r' => r' = r ∧ i_Rel (k + 4) u v) v v1 v2) u v1 v2 := by
  refine li_el (P := fun u v => wpX_reaching (fun r => wpY_reaching (fun r' => r' = r ∧ i_Rel (k + 4) u v) v v1 v2) u v1 v2) I ?_
  intro T F U S L M I z
  unfold wpX_reaching wpY_reaching
  dsimp only
  rcases li_io v1 12 (by decide) with o | ⟨b, hb, rfl⟩
  · exact li_xBadN o (br_f (by decide) (li_yBlkN o (br_t rfl (And.intro rfl (li_mk I z)))))
  · rcases li_io v2 20 (by decide) with o | ⟨w, hw, rfl⟩
    · exact li_xBad hb (br_t rfl (li_xBadVN o (br_f (by decide) (li_yBlk hb (br_f (by decide) (li_yVarN o (br_t rfl (And.intro rfl (li_mk I z)))))))))
    · have vb : vp_in (nI b) 12 := vp_in_nI hb (by decide)
      have cb : (nI b).toNatClampNeg = b := nI_clamp (by omega)
      refine li_xBad hb (br_t rfl (li_xBadV hw (br_t rfl (And.intro vb (nm_r (e' := F b) (by rw [cb]) ?_)))))
      refine li_xReach hb hw I.2.1 fun seen hs => li_yBlk hb (br_f (by decide) (li_yVar hw (br_f (by decide) (li_yReach hb hw (And.intro (li_bs_eq fun a ha => ?_) (li_mk I z))))))
      show (bt (S a) w && bt (li_it (li_br (li_ms S T w) 12) 12 (T a)) b) = (bt seen a && bt (S a) w)
      have e : bt (li_it (li_br (li_ms S T w) 12) 12 (T a)) b = bt seen a := by
        refine li_beq ((li_far_bw (li_ms_rg I.1)).trans (Iff.trans ⟨fun h => ?_, fun h => ?_⟩ (hs a).symm))
        · exact li_dual I.2.2.1 I.1 ha h
        · exact li_dual (fun x y hx hy => (I.2.2.1 y x hy hx).symm) I.2.1 hb h
      rw [e, Bool.and_comm]
theorem i_vc_crowded {k : Nat} {u : SX} {v : SY} (I : i_Rel k u v) (hk : k + 4 ≤ 2048) : wpX_crowded (fun r => wpY_crowded (fun r' v' => r' = r ∧ i_Rel (k + 4) u v') v) u := by
  refine li_el (P := fun u v => wpX_crowded (fun r => wpY_crowded (fun r' v' => r' = r ∧ i_Rel (k + 4) u v') v) u) I ?_
  intro T F U S L M I z
  refine li_xCrow ?_
  unfold wpY_crowded
  dsimp only
  refine li_ySpread I.2.2.2.1 z I.2.2.2.2 ?_
  refine li_yCrow (And.intro ?_ (li_mk I (li_Inv_z I)))
  have r : li_Rg 20 L := I.2.2.2.2.2.2.1
  have bd : li_su (li_cy L) 20 ≤ 20 * 20 := li_su_bd fun _ _ => li_ct_bd _ _
  have e := li_cr r
  show nI (li_su (li_cy L) 20) / nI 2 = nI (li_su (li_cx L) 20)
  rw [pk_div (by omega) (by decide) (by decide)]
  exact congrArg nI (by omega)
end
