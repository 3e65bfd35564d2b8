section
/-! bits of an Int32; the first rows (bt .. b_sshr, pk_us .. pk_shrN) are pasted from kit/rows -/
def bt (x : Int32) (i : Nat) : Bool := x.toBitVec.getLsbD i
theorem b_ext {x y : Int32} (h : ∀ i, i < 32 → bt x i = bt y i) : x = y := Int32.toBitVec_inj.mp (BitVec.eq_of_getLsbD_eq (fun i hi => h i hi))
theorem b_or (x y : Int32) (i : Nat) : bt (x ||| y) i = (bt x i || bt y i) := by unfold bt; rw [Int32.toBitVec_or, BitVec.getLsbD_or]
theorem b_and (x y : Int32) (i : Nat) : bt (x &&& y) i = (bt x i && bt y i) := by unfold bt; rw [Int32.toBitVec_and, BitVec.getLsbD_and]
theorem b_xor (x y : Int32) (i : Nat) : bt (x ^^^ y) i = (bt x i ^^ bt y i) := by unfold bt; rw [Int32.toBitVec_xor, BitVec.getLsbD_xor]
theorem b_big {x : Int32} {i : Nat} (h : 32 ≤ i) : bt x i = false := BitVec.getLsbD_of_ge _ _ h
theorem b_m1 : ∀ i, i < 32 → bt (-1) i = true := by decide +kernel
theorem b_0 (i : Nat) : bt 0 i = false := BitVec.getLsbD_zero
theorem s_l : ∀ n, n < 32 → ((nI n &&& 31).toBitVec.smod 32).toNat = n := by decide +kernel
theorem b_sshr (n : Nat) (hn : n < 32) (x : Int32) {i : Nat} (hi : i < 32) : bt (x >>> (nI n &&& 31)) i = if n + i < 32 then bt x (n + i) else bt x 31 := by
  unfold bt
  rw [Int32.toBitVec_shiftRight]
  show (x.toBitVec.sshiftRight ((nI n &&& 31).toBitVec.smod 32).toNat).getLsbD i = _
  rw [s_l n hn, BitVec.getLsbD_sshiftRight, BitVec.msb_eq_getLsbD_last]
  simp [hi]
theorem pk_us {f : Nat → Int32} {k : Nat} {x : Int32} : upd f k x k = x := if_pos rfl
theorem pk_un {f : Nat → Int32} {k j : Nat} {x : Int32} (h : j ≠ k) : upd f k x j = f j := if_neg h
theorem pk_m1 (n : Nat) : nI (n + 1) + (-1) = nI n := by
  rw [← nI_1, Int32.add_assoc, show (1 : Int32) + (-1) = 0 from rfl, Int32.add_zero]
theorem pk_mul (a b : Nat) : nI a * nI b = nI (a * b) := (Int32.ofNat_mul a b).symm
theorem pk_ix (x : Int32) {n : Nat} (hn : n < 2 ^ 31) : x < 0 ∨ nI n ≤ x ∨ ∃ j : Nat, j < n ∧ x = nI j := by
  by_cases h : x < 0
  · exact Or.inl h
  · obtain ⟨j, hj, rfl⟩ := nI_of h
    by_cases h2 : j < n
    · exact Or.inr (Or.inr ⟨j, h2, rfl⟩)
    · exact Or.inr (Or.inl (nI_le (by omega) hj))
/-! own rows on bits -/
theorem zb_1 (i : Nat) : bt 1 i = decide (i = 0) := by
  rcases Nat.lt_or_ge i 32 with h | h
  · exact (by decide +kernel : ∀ i, i < 32 → bt 1 i = decide (i = 0)) i h
  · rw [b_big h, decide_eq_false (by omega)]
theorem zb_lt {x : Int32} {i : Nat} (h : bt x i = true) : i < 32 := by
  rcases Nat.lt_or_ge i 32 with z | z
  · exact z
  · rw [b_big z] at h; exact absurd h (by decide)
theorem zb_not (x : Int32) {i : Nat} (h : i < 32) : bt (x ^^^ (-1)) i = !bt x i := by
  rw [b_xor, b_m1 i h]; cases bt x i <;> rfl
theorem zb_b1 {a : Nat} (ha : a < 32) (i : Nat) : bt ((1 : Int32) <<< (nI a &&& 31)) i = decide (i = a) := by
  rcases Nat.lt_or_ge i 32 with h | h
  · exact (by decide +kernel : ∀ a, a < 32 → ∀ i, i < 32 → bt ((1 : Int32) <<< (nI a &&& 31)) i = decide (i = a)) a ha i h
  · rw [b_big h, decide_eq_false (by omega)]
theorem zb_zero {x : Int32} : x = 0 ↔ ∀ i, bt x i = false :=
  ⟨fun h i => by rw [h]; exact b_0 i, fun h => b_ext (fun i _ => by rw [h i, b_0])⟩
theorem zb_nf {x : Bool} (h : ¬ x = false) : x = true := by cases x <;> first | rfl | exact absurd rfl h
theorem zb_nt {x : Bool} (h : ¬ x = true) : x = false := by cases x <;> first | rfl | exact absurd rfl h
theorem zb_tf {x : Bool} (h : x = true) (h2 : x = false) : False := by rw [h] at h2; exact absurd h2 (by decide)
theorem zb_nz {x : Int32} (h : ¬ x = 0) : ∃ i, bt x i = true := by
  apply Classical.byContradiction
  intro z
  exact h (zb_zero.mpr (fun i => zb_nt (fun t => z ⟨i, t⟩)))
theorem zb_nz' {x : Int32} {i : Nat} (h : bt x i = true) : ¬ x = 0 := fun z => zb_tf h (zb_zero.mp z i)
theorem zb_bv {a : Nat} (ha : a < 32) (x : Int32) : ((x >>> (nI a &&& 31)) &&& 1) = if bt x a = true then 1 else 0 := by
  apply b_ext
  intro i hi
  rw [b_and, zb_1, b_sshr a ha x hi]
  by_cases h0 : i = 0
  · subst h0
    have e : a + 0 = a := rfl
    rw [if_pos (by omega), e]
    cases bt x a <;> decide
  · rw [decide_eq_false h0, Bool.and_false]
    cases bt x a
    · exact (b_0 i).symm
    · show false = bt 1 i
      rw [zb_1, decide_eq_false h0]
theorem zb_z {a : Nat} (ha : a < 32) {x : Int32} (h : bt x a = false) : ((x >>> (nI a &&& 31)) &&& 1) = 0 := by
  rw [zb_bv ha, h]; rfl
theorem zb_o {a : Nat} (ha : a < 32) {x : Int32} (h : bt x a = true) : ((x >>> (nI a &&& 31)) &&& 1) = 1 := by
  rw [zb_bv ha, h]; rfl
theorem zb_nzo {a : Nat} (ha : a < 32) {x : Int32} (h : bt x a = true) : ¬ ((x >>> (nI a &&& 31)) &&& 1) = 0 := by
  rw [zb_o ha h]; decide
theorem zb_no {a : Nat} (ha : a < 32) {x : Int32} (h : bt x a = false) : ¬ ((x >>> (nI a &&& 31)) &&& 1) = 1 := by
  rw [zb_z ha h]; decide
/-- a branch on one bit -/
theorem zb_br {a : Nat} (ha : a < 32) {x : Int32} {P Q : Prop} (h0 : bt x a = false → P) (h1 : bt x a = true → Q) : (((x >>> (nI a &&& 31)) &&& 1) = 0 → P) ∧ (¬ ((x >>> (nI a &&& 31)) &&& 1) = 0 → Q) := by
  cases h : bt x a
  · exact br_t (zb_z ha h) (h0 h)
  · exact br_f (zb_nzo ha h) (h1 h)
theorem zb_and0 {x y : Int32} (h : x &&& y = 0) : ∀ i, bt x i = true → bt y i = false := by
  intro i hi
  have t := zb_zero.mp h i
  rw [b_and, hi, Bool.true_and] at t
  exact t
theorem zb_and0' {x y : Int32} (h : ∀ i, bt x i = true → bt y i = false) : x &&& y = 0 := by
  apply zb_zero.mpr
  intro i
  rw [b_and]
  cases e : bt x i
  · rfl
  · rw [h i e]; rfl
theorem zb_and1 {x y : Int32} (h : ¬ x &&& y = 0) : ∃ i, bt x i = true ∧ bt y i = true := by
  obtain ⟨i, hi⟩ := zb_nz h
  rw [b_and, Bool.and_eq_true] at hi
  exact ⟨i, hi⟩
theorem zb_andn {x y : Int32} (h : x &&& (y ^^^ (-1)) = 0) : ∀ i, bt x i = true → bt y i = true := by
  intro i hi
  have t := zb_and0 h i hi
  rw [zb_not y (zb_lt hi)] at t
  cases e : bt y i
  · rw [e] at t; exact absurd t (by decide)
  · rfl
theorem zb_andn' {x y : Int32} (h : ∀ i, bt x i = true → bt y i = true) : x &&& (y ^^^ (-1)) = 0 := by
  apply zb_and0'
  intro i hi
  rw [zb_not y (zb_lt hi), h i hi]; rfl
theorem zb_andn1 {x y : Int32} (h : ¬ x &&& (y ^^^ (-1)) = 0) : ∃ i, bt x i = true ∧ bt y i = false := by
  obtain ⟨i, h1, h2⟩ := zb_and1 h
  rw [zb_not y (zb_lt h1)] at h2
  refine ⟨i, h1, ?_⟩
  cases e : bt y i
  · rfl
  · rw [e] at h2; exact absurd h2 (by decide)
theorem zb_nI {m i : Nat} (hi : i < 32) : bt (nI m) i = m.testBit i := by
  show (BitVec.ofNat 32 m).getLsbD i = _
  rw [BitVec.getLsbD_ofNat, decide_eq_true hi, Bool.true_and]
theorem zb_mask {x : Int32} {n : Nat} (h : ∀ i, bt x i = true → i < n) : ∃ m, m < 2 ^ n ∧ x = nI m := by
  refine ⟨x.toBitVec.toNat, ?_, Int32.toBitVec_inj.mp (by show _ = BitVec.ofNat 32 _; simp)⟩
  apply Nat.lt_pow_two_of_testBit
  intro i hi
  apply zb_nt
  intro t
  have := h i t
  omega
theorem zb_in {m n : Nat} (hm : m < 2 ^ n) {i : Nat} (h : bt (nI m) i = true) : i < n := by
  rw [zb_nI (zb_lt h)] at h
  rcases Nat.lt_or_ge i n with z | z
  · exact z
  · rw [Nat.testBit_lt_two_pow (Nat.lt_of_lt_of_le hm (Nat.pow_le_pow_right (by decide) z))] at h
    exact absurd h (by decide)
theorem zb_e {n : Nat} (i : Nat) (hn : n ≤ 8) : bt (nI (2 ^ n - 1)) i = decide (i < n) := by
  rcases Nat.lt_or_ge i 32 with h | h
  · rw [zb_nI h, Nat.testBit_two_pow_sub_one]
  · rw [b_big h, decide_eq_false (by omega)]
theorem zb_single {x : Int32} (h : ∀ i, bt x i = true → i < 8) (hs : x &&& (x - 1) = 0) : ∀ i j, bt x i = true → bt x j = true → i = j := by
  obtain ⟨m, hm, rfl⟩ := zb_mask h
  intro i j hi hj
  exact (by decide +kernel : ∀ m, m < 256 → ∀ i, i < 8 → ∀ j, j < 8 → (nI m &&& (nI m - 1) = 0 ∧ bt (nI m) i = true ∧ bt (nI m) j = true) → i = j) m hm i (h i hi) j (h j hj) ⟨hs, hi, hj⟩
theorem zb_init : ∀ n, n < 9 → ((1 : Int32) <<< (nI n &&& 31)) - 1 = nI (2 ^ n - 1) := by decide +kernel
theorem zb_p8 {n : Nat} (hn : n ≤ 8) : 2 ^ n ≤ 256 := Nat.pow_le_pow_right (n := 2) (by decide) hn
theorem zb_p0 (n : Nat) : 0 < 2 ^ n := Nat.two_pow_pos n
end
section
/-! sets of arguments as masks, the definitions over an attack relation g, and the laws of admissible and complete sets -/
def qa_atk (g : Nat → Nat → Prop) (x : Int32) (b : Nat) : Prop := ∃ a, bt x a = true ∧ g a b
def qa_dfd (n : Nat) (g : Nat → Nat → Prop) (x : Int32) (b : Nat) : Prop := b < n ∧ ∀ a, g a b → qa_atk g x a
def qa_cf (g : Nat → Nat → Prop) (x : Int32) : Prop := ∀ b, bt x b = true → ¬ qa_atk g x b
def qa_adm (n : Nat) (g : Nat → Nat → Prop) (x : Int32) : Prop := qa_cf g x ∧ ∀ b, bt x b = true → qa_dfd n g x b
def qa_cmp (n : Nat) (g : Nat → Nat → Prop) (x : Int32) : Prop := qa_adm n g x ∧ ∀ b, qa_dfd n g x b → bt x b = true
def qa_rg (g : Nat → Nat → Prop) (x : Int32) (b : Nat) : Prop := bt x b = true ∨ qa_atk g x b
def qa_sub (x y : Int32) : Prop := ∀ b, bt x b = true → bt y b = true
def qa_rle (g : Nat → Nat → Prop) (x y : Int32) : Prop := ∀ b, qa_rg g x b → qa_rg g y b
def qa_max (n : Nat) (g : Nat → Nat → Prop) (x : Int32) : Prop := ∀ y, qa_adm n g y → qa_sub x y → y = x
def qa_wid (n : Nat) (g : Nat → Nat → Prop) (x : Int32) : Prop := ∀ y, qa_adm n g y → qa_rle g x y → qa_rle g y x
def qa_stb (n : Nat) (g : Nat → Nat → Prop) (x : Int32) : Prop := (∀ b, bt x b = true → b < n) ∧ qa_cf g x ∧ ∀ b, b < n → qa_rg g x b
def qa_is (n : Nat) (g : Nat → Nat → Prop) : Nat → Int32 → Prop
  | 0 => fun x => qa_cmp n g x
  | 1 => fun x => qa_adm n g x ∧ qa_max n g x
  | 2 => fun x => qa_stb n g x
  | _ + 3 => fun x => qa_adm n g x ∧ qa_wid n g x

theorem qa_anti {x y : Int32} (h1 : qa_sub x y) (h2 : qa_sub y x) : y = x := by
  apply b_ext
  intro i _
  cases e : bt x i
  · exact zb_nt (fun t => zb_tf (h2 i t) e)
  · exact h1 i e
theorem qa_atk_up {g : Nat → Nat → Prop} {x y : Int32} (h : qa_sub x y) {b : Nat} (ha : qa_atk g x b) : qa_atk g y b := by
  obtain ⟨a, h1, h2⟩ := ha
  exact ⟨a, h a h1, h2⟩
theorem qa_dfd_up {n : Nat} {g : Nat → Nat → Prop} {x y : Int32} (h : qa_sub x y) {b : Nat} (ha : qa_dfd n g x b) : qa_dfd n g y b :=
  ⟨ha.1, fun a z => qa_atk_up h (ha.2 a z)⟩
theorem qa_rle_up {g : Nat → Nat → Prop} {x y : Int32} (h : qa_sub x y) : qa_rle g x y :=
  fun b z => z.elim (fun t => Or.inl (h b t)) (fun t => Or.inr (qa_atk_up h t))

/-! counting -/
def qa_cn (p : Nat → Bool) : Nat → Nat
  | 0 => 0
  | m + 1 => qa_cn p m + (if p m = true then 1 else 0)
theorem qa_cn_s (p : Nat → Bool) (m : Nat) : qa_cn p (m + 1) = qa_cn p m + (if p m = true then 1 else 0) := rfl
theorem qa_cn_le (p : Nat → Bool) : ∀ m, qa_cn p m ≤ m
  | 0 => Nat.le_refl 0
  | m + 1 => by
    have h := qa_cn_le p m
    rw [qa_cn_s]
    split <;> omega
theorem qa_c1 {a b : Bool} (h : a = true → b = true) : (if a = true then 1 else 0 : Nat) ≤ (if b = true then 1 else 0) := by
  cases a
  · exact Nat.zero_le _
  · rw [h rfl]; exact Nat.le_refl _
theorem qa_cn_mono {p r : Nat → Bool} : ∀ m, (∀ i, i < m → p i = true → r i = true) → qa_cn p m ≤ qa_cn r m
  | 0, _ => Nat.le_refl 0
  | m + 1, h => by
    have h1 := qa_cn_mono m (fun i hi => h i (by omega))
    have h2 := qa_c1 (h m (by omega))
    rw [qa_cn_s, qa_cn_s]
    omega
theorem qa_cn_lt {p r : Nat → Bool} : ∀ m, (∀ i, i < m → p i = true → r i = true) → ∀ j, j < m → r j = true → p j = false → qa_cn p m < qa_cn r m
  | 0, _ => fun j hj => by omega
  | m + 1, h => fun j hj hr hp => by
    rw [qa_cn_s, qa_cn_s]
    by_cases e : j = m
    · subst e
      have h1 := qa_cn_mono j (fun i hi => h i (by omega))
      rw [if_neg (fun t => zb_tf t hp), if_pos hr]
      omega
    · have h1 := qa_cn_lt m (fun i hi => h i (by omega)) j (by omega) hr hp
      have h2 := qa_c1 (h m (by omega))
      omega
theorem qa_cn_pos {p : Nat → Bool} {m j : Nat} (hj : j < m) (h : p j = true) : 0 < qa_cn p m := by
  have t := qa_cn_lt (p := fun _ => false) (r := p) m (fun i _ z => absurd z (by decide)) j hj h rfl
  omega
theorem qa_cn_all {p : Nat → Bool} : ∀ m, (∀ i, i < m → p i = false) → qa_cn p m = 0
  | 0, _ => rfl
  | m + 1, h => by
    rw [qa_cn_s, qa_cn_all m (fun i hi => h i (by omega)), if_neg (fun t => zb_tf t (h m (by omega)))]

/-! every admissible set lies in a complete one -/
theorem qa_b1 {x : Int32} {a b : Nat} (ha : a < 32) : bt (x ||| ((1 : Int32) <<< (nI a &&& 31))) b = true ↔ bt x b = true ∨ b = a := by
  rw [b_or, zb_b1 ha, Bool.or_eq_true, decide_eq_true_iff]
theorem qa_grow {n : Nat} {g : Nat → Nat → Prop} {x : Int32} {a : Nat} (h : qa_adm n g x) (ha : qa_dfd n g x a) (h32 : a < 32) : qa_adm n g (x ||| ((1 : Int32) <<< (nI a &&& 31))) := by
  have hb : ∀ b, bt (x ||| ((1 : Int32) <<< (nI a &&& 31))) b = true → qa_dfd n g x b := by
    intro b hb
    rcases (qa_b1 h32).mp hb with h1 | h1
    · exact h.2 b h1
    · subst h1; exact ha
  have up : qa_sub x (x ||| ((1 : Int32) <<< (nI a &&& 31))) := fun b z => (qa_b1 h32).mpr (Or.inl z)
  refine ⟨?_, fun b h1 => qa_dfd_up up (hb b h1)⟩
  intro b h1 ⟨c, hc, hg⟩
  obtain ⟨d, hd, hgd⟩ := (hb b h1).2 c hg
  exact h.1 d hd ((hb c hc).2 d hgd)
theorem qa_ext {n : Nat} {g : Nat → Nat → Prop} (hn : n ≤ 8) : ∀ m x, n < qa_cn (bt x) n + m → qa_adm n g x → ∃ y, qa_cmp n g y ∧ qa_sub x y
  | 0, x => fun h _ => by have := qa_cn_le (bt x) n; omega
  | m + 1, x => fun h ha => by
    by_cases hc : ∃ a, qa_dfd n g x a ∧ bt x a = false
    · obtain ⟨a, h1, h2⟩ := hc
      have h32 : a < 32 := by have := h1.1; omega
      have up : qa_sub x (x ||| ((1 : Int32) <<< (nI a &&& 31))) := fun b z => (qa_b1 h32).mpr (Or.inl z)
      have lt := qa_cn_lt (p := bt x) (r := bt (x ||| ((1 : Int32) <<< (nI a &&& 31)))) n (fun i _ z => up i z) a h1.1 ((qa_b1 h32).mpr (Or.inr rfl)) h2
      obtain ⟨y, hy, hs⟩ := qa_ext hn m (x ||| ((1 : Int32) <<< (nI a &&& 31))) (by omega) (qa_grow ha h1 h32)
      exact ⟨y, hy, fun b z => hs b (up b z)⟩
    · exact ⟨x, ⟨ha, fun b hb => zb_nf (fun e => hc ⟨b, hb, e⟩)⟩, fun _ z => z⟩
theorem qa_in {n : Nat} {g : Nat → Nat → Prop} (hn : n ≤ 8) {x : Int32} (h : qa_adm n g x) : ∃ y, qa_cmp n g y ∧ qa_sub x y :=
  qa_ext hn (n + 1) x (by omega) h

theorem qa_pref {n : Nat} {g : Nat → Nat → Prop} (hn : n ≤ 8) {x : Int32} : (qa_adm n g x ∧ qa_max n g x) ↔ (qa_cmp n g x ∧ ∀ y, qa_cmp n g y → qa_sub x y → y = x) := by
  constructor
  · intro ⟨h1, h2⟩
    obtain ⟨y, hy, hs⟩ := qa_in hn h1
    have e := h2 y hy.1 hs
    subst e
    exact ⟨hy, fun z hz => h2 z hz.1⟩
  · intro ⟨h1, h2⟩
    refine ⟨h1.1, fun y hy hs => ?_⟩
    obtain ⟨z, hz, hzs⟩ := qa_in hn hy
    have e := h2 z hz (fun b t => hzs b (hs b t))
    subst e
    exact qa_anti hs hzs
theorem qa_stab {n : Nat} {g : Nat → Nat → Prop} (hG : ∀ a b, g a b → a < n ∧ b < n) {x : Int32} : qa_stb n g x ↔ (qa_cmp n g x ∧ ∀ b, b < n → qa_rg g x b) := by
  constructor
  · intro ⟨h1, h2, h3⟩
    refine ⟨⟨⟨h2, fun b hb => ⟨h1 b hb, fun a ha => ?_⟩⟩, fun b hb => ?_⟩, h3⟩
    · rcases h3 a (hG a b ha).1 with t | t
      · exact absurd ⟨a, t, ha⟩ (h2 b hb)
      · exact t
    · rcases h3 b hb.1 with t | t
      · exact t
      · obtain ⟨a, h4, h5⟩ := t
        exact absurd (hb.2 a h5) (h2 a h4)
  · intro ⟨h1, h2⟩
    exact ⟨fun b hb => (h1.1.2 b hb).1, h1.1.1, h2⟩
theorem qa_semi {n : Nat} {g : Nat → Nat → Prop} (hn : n ≤ 8) {x : Int32} : (qa_adm n g x ∧ qa_wid n g x) ↔ (qa_cmp n g x ∧ ∀ y, qa_cmp n g y → qa_rle g x y → qa_rle g y x) := by
  constructor
  · intro ⟨h1, h2⟩
    obtain ⟨y, hy, hs⟩ := qa_in hn h1
    have hr := h2 y hy.1 (qa_rle_up hs)
    have e : y = x := by
      refine qa_anti hs (fun b hb => ?_)
      rcases hr b (Or.inl hb) with t | t
      · exact t
      · exact absurd (qa_atk_up hs t) (hy.1.1 b hb)
    subst e
    exact ⟨hy, fun z hz => h2 z hz.1⟩
  · intro ⟨h1, h2⟩
    refine ⟨h1.1, fun y hy hs => ?_⟩
    obtain ⟨z, hz, hzs⟩ := qa_in hn hy
    have e := h2 z hz (fun b t => qa_rle_up hzs b (hs b t))
    exact fun b t => e b (qa_rle_up hzs b t)
theorem qa_iscmp {n : Nat} {g : Nat → Nat → Prop} (hn : n ≤ 8) (hG : ∀ a b, g a b → a < n ∧ b < n) {x : Int32} : ∀ k, qa_is n g k x → qa_cmp n g x
  | 0 => fun h => h
  | 1 => fun h => ((qa_pref hn).mp h).1
  | 2 => fun h => ((qa_stab hG).mp h).1
  | _ + 3 => fun h => ((qa_semi hn).mp h).1
theorem qa_ismask {n : Nat} {g : Nat → Nat → Prop} {x : Int32} (h : qa_adm n g x) : ∃ m, m < 2 ^ n ∧ x = nI m :=
  zb_mask (fun i hi => (h.2 i hi).1)
end
section
/-! labellings: three masks, accepted A, rejected R, undecided U -/
def qa_val (n : Nat) (A R U : Int32) : Prop := (∀ i, bt A i = true → i < n ∧ bt R i = false ∧ bt U i = false) ∧ (∀ i, bt R i = true → i < n ∧ bt A i = false ∧ bt U i = false) ∧ (∀ i, bt U i = true → i < n ∧ bt A i = false ∧ bt R i = false)
def qa_op (A R U : Int32) (i : Nat) : Bool := !(bt A i || bt R i || bt U i)
def qa_oc (n : Nat) (A R U : Int32) : Nat := qa_cn (qa_op A R U) n
def qa_un (n : Nat) (g : Nat → Nat → Prop) (C : Int32) (i : Nat) : Prop := i < n ∧ bt C i = false ∧ ¬ qa_atk g C i
def qa_cpt (n : Nat) (g : Nat → Nat → Prop) (C A R U : Int32) : Prop := (∀ i, bt A i = true → bt C i = true) ∧ (∀ i, bt R i = true → qa_atk g C i) ∧ (∀ i, bt U i = true → qa_un n g C i)
theorem qa_opI {A R U : Int32} {i : Nat} : qa_op A R U i = true ↔ (bt A i = false ∧ bt R i = false ∧ bt U i = false) := by
  unfold qa_op
  cases bt A i <;> cases bt R i <;> cases bt U i <;> decide
theorem qa_opN {A R U : Int32} {i : Nat} (h : qa_op A R U i = false) : bt A i = true ∨ bt R i = true ∨ bt U i = true := by
  revert h
  unfold qa_op
  cases bt A i <;> cases bt R i <;> cases bt U i <;> decide
theorem qa_orT {x m : Int32} {i : Nat} : bt (x ||| m) i = true ↔ bt x i = true ∨ bt m i = true := by rw [b_or, Bool.or_eq_true]
theorem qa_orF {x m : Int32} {i : Nat} (h1 : bt x i = false) (h2 : bt m i = false) : bt (x ||| m) i = false := by rw [b_or, h1, h2]; rfl
theorem qa_oc_lt {n : Nat} {A R U A' R' U' : Int32} {i : Nat} (h : ∀ i, qa_op A' R' U' i = true → qa_op A R U i = true) (hi : i < n) (h1 : qa_op A R U i = true) (h2 : qa_op A' R' U' i = false) : qa_oc n A' R' U' < qa_oc n A R U :=
  qa_cn_lt n (fun j _ => h j) i hi h1 h2
/-- from one labelling to a larger one: valid, fewer without a label, and every complete set that fits (and answers to P) fits still -/
def qa_to (n : Nat) (g : Nat → Nat → Prop) (A R U A' R' U' : Int32) (P : Int32 → Prop) : Prop :=
  qa_val n A' R' U' ∧ qa_oc n A' R' U' < qa_oc n A R U ∧ ∀ C, qa_cmp n g C → qa_cpt n g C A R U → P C → qa_cpt n g C A' R' U'
theorem qa_addA {n : Nat} {g : Nat → Nat → Prop} {A R U m : Int32} (hv : qa_val n A R U) (hm : ∀ i, bt m i = true → i < n ∧ qa_op A R U i = true) {j : Nat} (hj : bt m j = true) : qa_to n g A R U (A ||| m) R U (fun C => ∀ i, bt m i = true → bt C i = true) := by
  have hm' : ∀ i, bt m i = true → i < n ∧ bt A i = false ∧ bt R i = false ∧ bt U i = false := fun i h => ⟨(hm i h).1, qa_opI.mp (hm i h).2⟩
  refine ⟨⟨?_, ?_, ?_⟩, ?_, ?_⟩
  · intro i h
    rcases qa_orT.mp h with t | t
    · exact hv.1 i t
    · exact ⟨(hm' i t).1, (hm' i t).2.2⟩
  · intro i h
    have t := hv.2.1 i h
    exact ⟨t.1, qa_orF t.2.1 (zb_nt (fun z => zb_tf h (hm' i z).2.2.1)), t.2.2⟩
  · intro i h
    have t := hv.2.2 i h
    exact ⟨t.1, qa_orF t.2.1 (zb_nt (fun z => zb_tf h (hm' i z).2.2.2)), t.2.2⟩
  · refine qa_oc_lt (i := j) (fun i h => ?_) (hm j hj).1 (hm j hj).2 (zb_nt (fun z => ?_))
    · have t := qa_opI.mp h
      exact qa_opI.mpr ⟨zb_nt (fun z => zb_tf (qa_orT.mpr (Or.inl z)) t.1), t.2⟩
    · exact zb_tf (qa_orT.mpr (Or.inr hj)) (qa_opI.mp z).1
  · intro C _ hC hP
    refine ⟨fun i h => ?_, hC.2.1, hC.2.2⟩
    rcases qa_orT.mp h with t | t
    · exact hC.1 i t
    · exact hP i t
theorem qa_addR {n : Nat} {g : Nat → Nat → Prop} {A R U m : Int32} (hv : qa_val n A R U) (hm : ∀ i, bt m i = true → i < n ∧ qa_op A R U i = true) {j : Nat} (hj : bt m j = true) : qa_to n g A R U A (R ||| m) U (fun C => ∀ i, bt m i = true → qa_atk g C i) := by
  have hm' : ∀ i, bt m i = true → i < n ∧ bt A i = false ∧ bt R i = false ∧ bt U i = false := fun i h => ⟨(hm i h).1, qa_opI.mp (hm i h).2⟩
  refine ⟨⟨?_, ?_, ?_⟩, ?_, ?_⟩
  · intro i h
    have t := hv.1 i h
    exact ⟨t.1, qa_orF t.2.1 (zb_nt (fun z => zb_tf h (hm' i z).2.1)), t.2.2⟩
  · intro i h
    rcases qa_orT.mp h with t | t
    · exact hv.2.1 i t
    · exact ⟨(hm' i t).1, (hm' i t).2.1, (hm' i t).2.2.2⟩
  · intro i h
    have t := hv.2.2 i h
    exact ⟨t.1, t.2.1, qa_orF t.2.2 (zb_nt (fun z => zb_tf h (hm' i z).2.2.2))⟩
  · refine qa_oc_lt (i := j) (fun i h => ?_) (hm j hj).1 (hm j hj).2 (zb_nt (fun z => ?_))
    · have t := qa_opI.mp h
      exact qa_opI.mpr ⟨t.1, zb_nt (fun z => zb_tf (qa_orT.mpr (Or.inl z)) t.2.1), t.2.2⟩
    · exact zb_tf (qa_orT.mpr (Or.inr hj)) (qa_opI.mp z).2.1
  · intro C _ hC hP
    refine ⟨hC.1, fun i h => ?_, hC.2.2⟩
    rcases qa_orT.mp h with t | t
    · exact hC.2.1 i t
    · exact hP i t
theorem qa_addU {n : Nat} {g : Nat → Nat → Prop} {A R U m : Int32} (hv : qa_val n A R U) (hm : ∀ i, bt m i = true → i < n ∧ qa_op A R U i = true) {j : Nat} (hj : bt m j = true) : qa_to n g A R U A R (U ||| m) (fun C => ∀ i, bt m i = true → qa_un n g C i) := by
  have hm' : ∀ i, bt m i = true → i < n ∧ bt A i = false ∧ bt R i = false ∧ bt U i = false := fun i h => ⟨(hm i h).1, qa_opI.mp (hm i h).2⟩
  refine ⟨⟨?_, ?_, ?_⟩, ?_, ?_⟩
  · intro i h
    have t := hv.1 i h
    exact ⟨t.1, t.2.1, qa_orF t.2.2 (zb_nt (fun z => zb_tf h (hm' i z).2.1))⟩
  · intro i h
    have t := hv.2.1 i h
    exact ⟨t.1, t.2.1, qa_orF t.2.2 (zb_nt (fun z => zb_tf h (hm' i z).2.2.1))⟩
  · intro i h
    rcases qa_orT.mp h with t | t
    · exact hv.2.2 i t
    · exact ⟨(hm' i t).1, (hm' i t).2.1, (hm' i t).2.2.1⟩
  · refine qa_oc_lt (i := j) (fun i h => ?_) (hm j hj).1 (hm j hj).2 (zb_nt (fun z => ?_))
    · have t := qa_opI.mp h
      exact qa_opI.mpr ⟨t.1, t.2.1, zb_nt (fun z => zb_tf (qa_orT.mpr (Or.inl z)) t.2.2)⟩
    · exact zb_tf (qa_orT.mpr (Or.inr hj)) (qa_opI.mp z).2.2
  · intro C _ hC hP
    refine ⟨hC.1, hC.2.1, fun i h => ?_⟩
    rcases qa_orT.mp h with t | t
    · exact hC.2.2 i t
    · exact hP i t
/-! the labels of a complete set C -/
theorem qa_inout {n : Nat} {g : Nat → Nat → Prop} {C : Int32} (h : qa_cmp n g C) {i : Nat} (h1 : bt C i = true) (h2 : qa_atk g C i) : False := h.1.1 i h1 h2
theorem qa_unatk {n : Nat} {g : Nat → Nat → Prop} (hG : ∀ a b, g a b → a < n ∧ b < n) {C : Int32} (h : qa_cmp n g C) {a : Nat} (hu : qa_un n g C a) : ∃ b, g b a ∧ qa_un n g C b := by
  apply Classical.byContradiction
  intro z
  refine zb_tf (h.2 a ⟨hu.1, fun b hb => ?_⟩) hu.2.1
  apply Classical.byContradiction
  intro hb'
  exact z ⟨b, hb, (hG b a hb).1, zb_nt (fun t => hu.2.2 ⟨b, t, hb⟩), hb'⟩
def qa_okc (g : Nat → Nat → Prop) (A R : Int32) (a : Nat) : Prop := ((∃ b, g b a ∧ bt A b = true) → bt R a = true) ∧ ((∀ b, g b a → bt R b = true) → bt A a = true)
def qa_oks (g : Nat → Nat → Prop) (A R U : Int32) (a : Nat) : Prop := (bt A a = true → ∀ b, g b a → bt R b = true) ∧ (bt R a = true → ∃ b, g b a ∧ (bt A b = true ∨ qa_op A R U b = true))
def qa_fix (n : Nat) (g : Nat → Nat → Prop) (A R U : Int32) : Prop := ∀ a, a < n → qa_okc g A R a ∧ qa_oks g A R U a
theorem qa_done {n : Nat} {g : Nat → Nat → Prop} (hG : ∀ a b, g a b → a < n ∧ b < n) {A R U : Int32} (hv : qa_val n A R U) (hf : qa_fix n g A R U) (ho : ∀ i, i < n → qa_op A R U i = false) : qa_cmp n g A ∧ ∀ b, bt R b = true ↔ qa_atk g A b := by
  have hR : ∀ b, bt R b = true ↔ qa_atk g A b := by
    intro b
    constructor
    · intro h
      have hb := (hv.2.1 b h).1
      obtain ⟨c, h1, h2⟩ := (hf b hb).2.2 h
      rcases h2 with t | t
      · exact ⟨c, t, h1⟩
      · exact absurd (ho c (hG c b h1).1) (fun z => zb_tf t z)
    · intro ⟨c, h1, h2⟩
      exact (hf b (hG c b h2).2).1.1 ⟨c, h2, h1⟩
  refine ⟨⟨⟨?_, ?_⟩, ?_⟩, hR⟩
  · intro b hb h
    exact zb_tf ((hR b).mpr h) (hv.1 b hb).2.1
  · intro b hb
    have hn := (hv.1 b hb).1
    exact ⟨hn, fun a ha => (hR a).mp ((hf b hn).2.1 hb a ha)⟩
  · intro b hb
    exact (hf b hb.1).1.2 (fun a ha => (hR a).mpr (hb.2 a ha))
theorem qa_uniq {n : Nat} {g : Nat → Nat → Prop} {A R U C : Int32} (ho : ∀ i, i < n → qa_op A R U i = false) (hC : qa_cmp n g C) (hc : qa_cpt n g C A R U) : C = A := by
  refine qa_anti hc.1 (fun b hb => ?_)
  rcases qa_opN (ho b (hC.1.2 b hb).1) with t | t | t
  · exact t
  · exact (qa_inout hC hb (hc.2.1 b t)).elim
  · exact (zb_tf hb (hc.2.2 b t).2.1).elim
/-- C labels a by k: 0 accepted, 1 rejected, 2 undecided -/
def qa_has (n : Nat) (g : Nat → Nat → Prop) (C : Int32) : Nat → Nat → Prop
  | 0 => fun a => bt C a = true
  | 1 => fun a => qa_atk g C a
  | _ + 2 => fun a => qa_un n g C a
theorem qa_some {n : Nat} {g : Nat → Nat → Prop} {C : Int32} {a : Nat} (ha : a < n) : ∃ k, k < 3 ∧ qa_has n g C k a := by
  by_cases h1 : bt C a = true
  · exact ⟨0, by omega, h1⟩
  · by_cases h2 : qa_atk g C a
    · exact ⟨1, by omega, h2⟩
    · exact ⟨2, by omega, ha, zb_nt h1, h2⟩
end
section
/-! the reference: each method of its own against the definitions -/
def qa_g (th : Nat → Int32) (a b : Nat) : Prop := a < 8 ∧ b < 8 ∧ ¬ th (8 * a + b) = 0
theorem ya_in {post : Int32 → Prop} {v : SY} {x : Int32} {a : Nat} (ha : a < 32) (h1 : bt x a = true → post 1) (h0 : bt x a = false → post 0) : wpY_in post v x (nI a) := by
  obtain ⟨N, e, th⟩ := v
  cases hb : bt x a
  · exact br_f (zb_no ha hb) (h0 hb)
  · exact br_t (zb_o ha hb) (h1 hb)
theorem ya_k3 : ∀ k, k < 64 → nI k >>> ((3 : Int32) &&& 31) = nI (k / 8) := by decide +kernel
theorem ya_k7 : ∀ k, k < 64 → nI k &&& 7 = nI (k % 8) := by decide +kernel
theorem ya_64 {k d : Nat} (h : k + d = 64) (hd : d = 0) : (64 : Int32) ≤ nI k := nI_le (a := 64) (by omega) (by omega)
theorem ya_n64 {k : Nat} (h : k < 64) : ¬ (64 : Int32) ≤ nI k := nI_ge (b := 64) h (by decide)
theorem ya_cl {k : Nat} (h : k < 256) : (nI k).toNatClampNeg = k := nI_clamp (by omega)
section
variable {N e x : Int32} {th : Nat → Int32}
/-- what the loop of attacked has gathered before its index is k -/
def ya_AI (th : Nat → Int32) (x out : Int32) (k : Nat) : Prop := ∀ b, bt out b = true ↔ ∃ a, bt x a = true ∧ qa_g th a b ∧ 8 * a + b < k
theorem ya_AI_0 : ya_AI th x 0 0 := fun b => ⟨fun h => absurd (b_0 b) (fun z => zb_tf h z), fun ⟨_, _, _, h⟩ => by omega⟩
theorem ya_AI_keep {out : Int32} {k : Nat} (h : ya_AI th x out k) (hk : th k = 0 ∨ bt x (k / 8) = false) : ya_AI th x out (k + 1) := by
  intro b
  refine (h b).trans ⟨fun ⟨a, h1, h2, h3⟩ => ⟨a, h1, h2, by omega⟩, fun ⟨a, h1, h2, h3⟩ => ⟨a, h1, h2, ?_⟩⟩
  apply Classical.byContradiction
  intro z
  have e1 : 8 * a + b = k := by omega
  have e2 : k / 8 = a := by have := h2.2.1; omega
  rcases hk with t | t
  · exact h2.2.2 (by rw [e1]; exact t)
  · rw [e2] at t; exact zb_tf h1 t
theorem ya_AI_put {out : Int32} {k : Nat} (hk : k < 64) (h : ya_AI th x out k) (h1 : ¬ th k = 0) (h2 : bt x (k / 8) = true) : ya_AI th x (out ||| ((1 : Int32) <<< (nI (k % 8) &&& 31))) (k + 1) := by
  intro b
  rw [qa_b1 (by omega), h b]
  constructor
  · intro t
    rcases t with ⟨a, h3, h4, h5⟩ | t
    · exact ⟨a, h3, h4, by omega⟩
    · subst t
      exact ⟨k / 8, h2, ⟨by omega, by omega, by rw [show 8 * (k / 8) + k % 8 = k by omega]; exact h1⟩, by omega⟩
  · intro ⟨a, h3, h4, h5⟩
    by_cases z : 8 * a + b < k
    · exact Or.inl ⟨a, h3, h4, z⟩
    · have := h4.2.1
      exact Or.inr (by omega)
theorem ya_attacked_4 {post : Int32 → Prop} (hp : ∀ r, (∀ b, bt r b = true ↔ qa_atk (qa_g th) x b) → post r) : ∀ d k out, k + d = 64 → ya_AI th x out k → wY_attacked_4 post x N e th (d + 1) out (nI k) := by
  intro d
  induction d with
  | zero =>
    intro k out hk hI
    refine br_t (ya_64 hk rfl) (hp _ (fun b => (hI b).trans ⟨fun ⟨a, h1, h2, _⟩ => ⟨a, h1, h2⟩, fun ⟨a, h1, h2⟩ => ⟨a, h1, h2, ?_⟩⟩))
    have := h2.1
    have := h2.2.1
    omega
  | succ d ih =>
    intro k out hk hI
    have hk' : k < 64 := by omega
    refine br_f (ya_n64 hk') ⟨vp_in_nI hk' (by omega), ?_⟩
    rw [ya_cl (by omega : k < 256), ya_k3 k hk', ya_k7 k hk']
    by_cases z : th k = 0
    · exact br_t z (nm_r (nI_1 k) (ih (k + 1) out (by omega) (ya_AI_keep hI (Or.inl z))))
    · refine br_f z (ya_in (by omega) (fun h1 => ?_) (fun h0 => ?_))
      · exact br_f (by decide) (nm_e (nm_r (nI_1 k) (ih (k + 1) _ (by omega) (ya_AI_put hk' hI z h1))))
      · exact br_t rfl (nm_r (nI_1 k) (ih (k + 1) out (by omega) (ya_AI_keep hI (Or.inr h0))))
theorem ya_attacked {post : Int32 → Prop} (hp : ∀ r, (∀ b, bt r b = true ↔ qa_atk (qa_g th) x b) → post r) : wpY_attacked post (N, e, th) x :=
  ⟨65, ya_attacked_4 hp 64 0 0 (by omega) ya_AI_0⟩
/-- what the loop of defended has left before its index is k -/
def ya_DI (n : Nat) (th : Nat → Int32) (hit out : Int32) (k : Nat) : Prop := ∀ b, bt out b = true ↔ (b < n ∧ ∀ a, qa_g th a b → 8 * a + b < k → bt hit a = true)
theorem ya_DI_keep {n : Nat} {hit out : Int32} {k : Nat} (h : ya_DI n th hit out k) (hk : th k = 0 ∨ bt hit (k / 8) = true) : ya_DI n th hit out (k + 1) := by
  intro b
  refine (h b).trans ⟨fun ⟨h1, h2⟩ => ⟨h1, fun a h3 h4 => ?_⟩, fun ⟨h1, h2⟩ => ⟨h1, fun a h3 h4 => h2 a h3 (by omega)⟩⟩
  by_cases z : 8 * a + b < k
  · exact h2 a h3 z
  · have e1 : 8 * a + b = k := by omega
    have e2 : k / 8 = a := by have := h3.2.1; omega
    rcases hk with t | t
    · exact absurd (by rw [e1]; exact t) h3.2.2
    · rw [e2] at t; exact t
theorem ya_DI_cut {n : Nat} {hit out : Int32} {k : Nat} (hk : k < 64) (h : ya_DI n th hit out k) (h1 : ¬ th k = 0) (h2 : bt hit (k / 8) = false) : ya_DI n th hit (out &&& (((1 : Int32) <<< (nI (k % 8) &&& 31)) ^^^ (-1))) (k + 1) := by
  intro b
  rw [b_and, Bool.and_eq_true, h b]
  constructor
  · intro ⟨⟨h3, h4⟩, h5⟩
    rw [zb_not _ (zb_lt h5), zb_b1 (by omega)] at h5
    have h6 : ¬ b = k % 8 := by
      intro t
      rw [decide_eq_true t] at h5
      exact absurd h5 (by decide)
    refine ⟨h3, fun a h7 h8 => h4 a h7 ?_⟩
    have := h7.2.1
    omega
  · intro ⟨h3, h4⟩
    refine ⟨⟨h3, fun a h5 h6 => h4 a h5 (by omega)⟩, ?_⟩
    have h6 : ¬ b = k % 8 := by
      intro t
      subst t
      exact zb_tf (h4 (k / 8) ⟨by omega, by omega, by rw [show 8 * (k / 8) + k % 8 = k by omega]; exact h1⟩ (by omega)) h2
    have hb : bt out b = true := (h b).mpr ⟨h3, fun a h5 h7 => h4 a h5 (by omega)⟩
    rw [zb_not _ (zb_lt hb), zb_b1 (by omega), decide_eq_false h6]
    rfl
theorem ya_defended_14 {post : Int32 → Prop} {n : Nat} {hit : Int32} (hh : ∀ b, bt hit b = true ↔ qa_atk (qa_g th) x b) (hp : ∀ r, (∀ b, bt r b = true ↔ qa_dfd n (qa_g th) x b) → post r) : ∀ d k out, k + d = 64 → ya_DI n th hit out k → wY_defended_14 post hit N e th (d + 1) out (nI k) := by
  intro d
  induction d with
  | zero =>
    intro k out hk hI
    refine br_t (ya_64 hk rfl) (hp _ (fun b => (hI b).trans ⟨fun ⟨h1, h2⟩ => ⟨h1, fun a h3 => (hh a).mp (h2 a h3 ?_)⟩, fun ⟨h1, h2⟩ => ⟨h1, fun a h3 _ => (hh a).mpr (h2 a h3)⟩⟩))
    have := h3.1
    have := h3.2.1
    omega
  | succ d ih =>
    intro k out hk hI
    have hk' : k < 64 := by omega
    refine br_f (ya_n64 hk') ⟨vp_in_nI hk' (by omega), ?_⟩
    rw [ya_cl (by omega : k < 256), ya_k3 k hk', ya_k7 k hk']
    by_cases z : th k = 0
    · exact br_t z (nm_r (nI_1 k) (ih (k + 1) out (by omega) (ya_DI_keep hI (Or.inl z))))
    · refine br_f z (ya_in (by omega) (fun h1 => ?_) (fun h0 => ?_))
      · exact br_f (by decide) (nm_r (nI_1 k) (ih (k + 1) out (by omega) (ya_DI_keep hI (Or.inr h1))))
      · exact br_t rfl (nm_e (nm_r (nI_1 k) (ih (k + 1) _ (by omega) (ya_DI_cut hk' hI z h0))))
theorem ya_defended {post : Int32 → Prop} {n : Nat} (he : ∀ i, bt e i = decide (i < n)) (hp : ∀ r, (∀ b, bt r b = true ↔ qa_dfd n (qa_g th) x b) → post r) : wpY_defended post (N, e, th) x := by
  unfold wpY_defended
  dsimp only
  refine ya_attacked (fun r hr => ⟨65, ya_defended_14 hr hp 64 0 e (by omega) (fun b => ?_)⟩)
  rw [he b, decide_eq_true_iff]
  exact ⟨fun h => ⟨h, fun a _ z => by omega⟩, fun h => h.1⟩
theorem ya_conflictFree {post : Int32 → Prop} (h1 : qa_cf (qa_g th) x → post 1) (h0 : ¬ qa_cf (qa_g th) x → post 0) : wpY_conflictFree post (N, e, th) x := by
  unfold wpY_conflictFree
  dsimp only
  refine ya_attacked (fun r hr => br_c (fun z => h1 (fun b hb ha => ?_)) (fun z => h0 (fun hc => ?_)))
  · exact zb_tf hb (zb_and0 z b ((hr b).mpr ha))
  · obtain ⟨i, h2, h3⟩ := zb_and1 z
    exact hc i h3 ((hr i).mp h2)
theorem ya_admissible {post : Int32 → Prop} {n : Nat} (he : ∀ i, bt e i = decide (i < n)) (h1 : qa_adm n (qa_g th) x → post 1) (h0 : ¬ qa_adm n (qa_g th) x → post 0) : wpY_admissible post (N, e, th) x := by
  unfold wpY_admissible
  dsimp only
  refine ya_conflictFree (fun hc => br_f (by decide) (ya_defended he (fun r hr => br_c (fun z => h1 ⟨hc, fun b hb => ?_⟩) (fun z => h0 (fun ha => ?_))))) (fun hc => br_t rfl (h0 (fun ha => hc ha.1)))
  · exact (hr b).mp (zb_andn z b hb)
  · obtain ⟨i, h2, h3⟩ := zb_andn1 z
    exact zb_tf ((hr i).mpr (ha.2 i h2)) h3
end
section
variable {n : Nat} {N : Int32} {th : Nat → Int32} {x : Int32}
theorem ya_all {n s : Nat} (hn : n ≤ 8) (h : ¬ s < 2 ^ n) (hs : s ≤ 256) : nI (2 ^ n - 1) < nI s := by
  have := zb_p8 hn
  have := zb_p0 n
  exact nI_lt (by omega) (by omega)
theorem ya_nall {n s : Nat} (hn : n ≤ 8) (h : s < 2 ^ n) : ¬ nI (2 ^ n - 1) < nI s := by
  have := zb_p8 hn
  exact nI_nlt (by omega) (by omega)
theorem ya_e (hn : n ≤ 8) : ∀ i, bt (nI (2 ^ n - 1)) i = decide (i < n) := fun i => zb_e i hn
theorem ya_maximal_2 {post : Int32 → Prop} (hn : n ≤ 8) (h1 : qa_max n (qa_g th) x → post 1) (h0 : ¬ qa_max n (qa_g th) x → post 0) : ∀ d k, k + d = 2 ^ n → (∀ j, j < k → qa_adm n (qa_g th) (nI j) → qa_sub x (nI j) → nI j = x) → wY_maximal_2 post x N (nI (2 ^ n - 1)) th (d + 1) (nI k) := by
  have h8 := zb_p8 hn
  intro d
  induction d with
  | zero =>
    intro k hk hI
    refine br_t (ya_all hn (by omega) (by omega)) (h1 (fun y hy hs => ?_))
    obtain ⟨m, hm, rfl⟩ := qa_ismask hy
    exact hI m (by omega) hy hs
  | succ d ih =>
    intro k hk hI
    have next : (qa_adm n (qa_g th) (nI k) → qa_sub x (nI k) → nI k = x) → wY_maximal_2 post x N (nI (2 ^ n - 1)) th (d + 1) (nI (k + 1)) := by
      intro hx
      refine ih (k + 1) (by omega) (fun j hj => ?_)
      by_cases e : j = k
      · subst e; exact hx
      · exact hI j (by omega)
    refine br_f (ya_nall hn (by omega)) (br_c (fun z => nm_r (nI_1 k) (next (fun _ _ => z))) (fun z => br_c (fun z2 => ?_) (fun z2 => ?_)))
    · refine ya_admissible (ya_e hn) (fun ha => br_f (by decide) (h0 (fun hm => z (hm _ ha (zb_andn z2))))) (fun ha => br_t rfl (nm_r (nI_1 k) (next (fun h => absurd h ha))))
    · exact nm_r (nI_1 k) (next (fun _ hs => absurd (zb_andn' hs) z2))
theorem ya_maximal {post : Int32 → Prop} (hn : n ≤ 8) (h1 : qa_max n (qa_g th) x → post 1) (h0 : ¬ qa_max n (qa_g th) x → post 0) : wpY_maximal post (N, nI (2 ^ n - 1), th) x :=
  ⟨2 ^ n + 1, ya_maximal_2 hn h1 h0 (2 ^ n) 0 (by omega) (fun j hj => by omega)⟩
theorem ya_rgI {g : Nat → Nat → Prop} {x r : Int32} (hr : ∀ b, bt r b = true ↔ qa_atk g x b) (b : Nat) : bt (x ||| r) b = true ↔ qa_rg g x b := by
  rw [qa_orT, hr b]; exact Iff.rfl
theorem ya_widest_10 {post : Int32 → Prop} (hn : n ≤ 8) {r : Int32} (hr : ∀ b, bt r b = true ↔ qa_rg (qa_g th) x b) (h1 : qa_wid n (qa_g th) x → post 1) (h0 : ¬ qa_wid n (qa_g th) x → post 0) : ∀ d k, k + d = 2 ^ n → (∀ j, j < k → qa_adm n (qa_g th) (nI j) → qa_rle (qa_g th) x (nI j) → qa_rle (qa_g th) (nI j) x) → wY_widest_10 post r N (nI (2 ^ n - 1)) th (d + 1) (nI k) := by
  have h8 := zb_p8 hn
  intro d
  induction d with
  | zero =>
    intro k hk hI
    refine br_t (ya_all hn (by omega) (by omega)) (h1 (fun y hy hs => ?_))
    obtain ⟨m, hm, rfl⟩ := qa_ismask hy
    exact hI m (by omega) hy hs
  | succ d ih =>
    intro k hk hI
    have next : (qa_adm n (qa_g th) (nI k) → qa_rle (qa_g th) x (nI k) → qa_rle (qa_g th) (nI k) x) → wY_widest_10 post r N (nI (2 ^ n - 1)) th (d + 1) (nI (k + 1)) := by
      intro hx
      refine ih (k + 1) (by omega) (fun j hj => ?_)
      by_cases e : j = k
      · subst e; exact hx
      · exact hI j (by omega)
    refine br_f (ya_nall hn (by omega)) (ya_attacked (fun q hq => ?_))
    intro w hw
    have hw' : ∀ b, bt w b = true ↔ qa_rg (qa_g th) (nI k) b := by rw [hw]; exact ya_rgI hq
    refine br_c (fun z => nm_r (nI_1 k) (next (fun _ _ b hb => ?_))) (fun z => br_c (fun z2 => ?_) (fun z2 => ?_))
    · rw [← hr b, ← z, hw' b]; exact hb
    · refine ya_admissible (ya_e hn) (fun ha => br_f (by decide) (h0 (fun hm => z ?_))) (fun ha => br_t rfl (nm_r (nI_1 k) (next (fun h => absurd h ha))))
      have le : qa_rle (qa_g th) x (nI k) := fun b hb => (hw' b).mp (zb_andn z2 b ((hr b).mpr hb))
      have ge := hm _ ha le
      exact qa_anti (fun b hb => (hw' b).mpr (le b ((hr b).mp hb))) (fun b hb => (hr b).mpr (ge b ((hw' b).mp hb)))
    · refine nm_r (nI_1 k) (next (fun _ hs => absurd (zb_andn' (fun b hb => (hw' b).mpr (hs b ((hr b).mp hb)))) z2))
theorem ya_widest {post : Int32 → Prop} (hn : n ≤ 8) (h1 : qa_wid n (qa_g th) x → post 1) (h0 : ¬ qa_wid n (qa_g th) x → post 0) : wpY_widest post (N, nI (2 ^ n - 1), th) x := by
  unfold wpY_widest
  dsimp only
  refine ya_attacked (fun r hr => ?_)
  intro w hw
  refine ⟨2 ^ n + 1, ya_widest_10 hn (fun b => ?_) h1 h0 (2 ^ n) 0 (by omega) (fun j hj => by omega)⟩
  rw [hw]; exact ya_rgI hr b
theorem ya_is {post : Int32 → Prop} (hn : n ≤ 8) (hs : ∀ b, bt x b = true → b < n) (hG : ∀ a b, qa_g th a b → a < n ∧ b < n) {k : Nat} (hk : k < 4) (h1 : qa_is n (qa_g th) k x → post 1) (h0 : ¬ qa_is n (qa_g th) k x → post 0) : wpY_is post (N, nI (2 ^ n - 1), th) (nI k) x := by
  unfold wpY_is
  dsimp only
  by_cases k2 : k = 2
  · subst k2
    refine br_t rfl (ya_conflictFree (fun hc => br_f (by decide) (ya_attacked (fun r hr => br_c (fun z => h1 ⟨hs, hc, fun b hb => ?_⟩) (fun z => h0 (fun hq => z ?_))))) (fun hc => br_t rfl (h0 (fun hq => hc hq.2.1))))
    · rw [← ya_rgI hr b, z, zb_e b hn, decide_eq_true hb]
    · apply b_ext
      intro i _
      rw [zb_e i hn]
      cases e : decide (i < n)
      · refine zb_nt (fun t => of_decide_eq_false e ?_)
        rcases (ya_rgI hr i).mp t with t | ⟨a, _, t⟩
        · exact hs i t
        · exact (hG a i t).2
      · exact (ya_rgI hr i).mpr (hq.2.2 i (of_decide_eq_true e))
  · have n2 : ¬ nI k = 2 := fun z => k2 ((nI_eq (a := k) (b := 2) (by omega) (by decide)).mp z)
    refine br_f n2 (ya_admissible (ya_e hn) (fun ha => br_f (by decide) ?_) (fun ha => br_t rfl (h0 (fun hq => ha ?_))))
    · by_cases k0 : k = 0
      · subst k0
        refine br_t rfl (ya_defended (ya_e hn) (fun r hr => br_c (fun z => h1 ⟨ha, fun b hb => ?_⟩) (fun z => h0 (fun hq => z ?_))))
        · rw [← z]; exact (hr b).mpr hb
        · exact qa_anti (fun b hb => (hr b).mpr (ha.2 b hb)) (fun b hb => hq.2 b ((hr b).mp hb))
      · have n0 : ¬ nI k = 0 := fun z => k0 ((nI_eq (a := k) (b := 0) (by omega) (by decide)).mp z)
        refine br_f n0 ?_
        by_cases k1 : k = 1
        · subst k1
          exact br_t rfl (ya_maximal hn (fun h => ⟨rfl, h1 ⟨ha, h⟩⟩) (fun h => ⟨rfl, h0 (fun hq => h hq.2)⟩))
        · have n1 : ¬ nI k = 1 := fun z => k1 ((nI_eq (a := k) (b := 1) (by omega) (by decide)).mp z)
          have k3 : k = 3 := by omega
          subst k3
          exact br_f n1 (ya_widest hn (fun h => ⟨rfl, h1 ⟨ha, h⟩⟩) (fun h => ⟨rfl, h0 (fun hq => h hq.2)⟩))
    · exact (qa_iscmp hn hG k hq).1
end
end
section
/-! the component: label, conclude, support, propagate -/
theorem xa_t0 {x b : Int32} {a : Nat} (hb : ∀ i, bt b i = decide (i = a)) (h : x &&& b = 0) : bt x a = false :=
  zb_nt (fun t => zb_tf ((hb a).trans (decide_eq_true rfl)) (zb_and0 h a t))
theorem xa_t1 {x b : Int32} {a : Nat} (hb : ∀ i, bt b i = decide (i = a)) (h : ¬ x &&& b = 0) : bt x a = true := by
  obtain ⟨i, h1, h2⟩ := zb_and1 h
  rw [hb i] at h2
  rw [← of_decide_eq_true h2]
  exact h1
theorem xa_m {a : Nat} (h32 : a < 32) {P : Nat → Prop} (h : P a) : ∀ i, bt ((1 : Int32) <<< (nI a &&& 31)) i = true → P i := by
  intro i hi
  rw [zb_b1 h32] at hi
  rw [of_decide_eq_true hi]
  exact h
theorem xa_mj {a : Nat} (h32 : a < 32) : bt ((1 : Int32) <<< (nI a &&& 31)) a = true := by rw [zb_b1 h32]; exact decide_eq_true rfl
theorem xa_open {E A R U o : Int32} {n : Nat} (hE : ∀ i, bt E i = decide (i < n)) (ho : o = E &&& (((A ||| R) ||| U) ^^^ (-1))) (hn : n ≤ 8) (i : Nat) : bt o i = true ↔ (i < n ∧ qa_op A R U i = true) := by
  rw [ho, b_and, Bool.and_eq_true, hE i, decide_eq_true_iff]
  constructor
  · intro ⟨h1, h2⟩
    rw [zb_not _ (by omega), b_or, b_or] at h2
    exact ⟨h1, h2⟩
  · intro ⟨h1, h2⟩
    refine ⟨h1, ?_⟩
    rw [zb_not _ (by omega), b_or, b_or]
    exact h2
theorem xa_openby {A R U y o : Int32} (ho : o = y &&& (((A ||| R) ||| U) ^^^ (-1))) (i : Nat) : bt o i = true ↔ (bt y i = true ∧ qa_op A R U i = true) := by
  rw [ho, b_and, Bool.and_eq_true]
  constructor
  · intro ⟨h1, h2⟩
    rw [zb_not _ (zb_lt h1), b_or, b_or] at h2
    exact ⟨h1, h2⟩
  · intro ⟨h1, h2⟩
    refine ⟨h1, ?_⟩
    rw [zb_not _ (zb_lt h1), b_or, b_or]
    exact h2
section
variable {n : Nat} {g : Nat → Nat → Prop} {A R U : Int32} {P : Int32 → Prop}
theorem xa_put0 {a : Nat} (hn : n ≤ 8) (hv : qa_val n A R U) (ha : a < n) (ho : qa_op A R U a = true) (hP : ∀ C, qa_cmp n g C → qa_cpt n g C A R U → P C → bt C a = true) : qa_to n g A R U (A ||| ((1 : Int32) <<< (nI a &&& 31))) R U P := by
  have h32 : a < 32 := by omega
  have t := qa_addA (g := g) hv (xa_m h32 (P := fun i => i < n ∧ qa_op A R U i = true) ⟨ha, ho⟩) (xa_mj h32)
  exact ⟨t.1, t.2.1, fun C hC hc hp => t.2.2 C hC hc (xa_m h32 (P := fun i => bt C i = true) (hP C hC hc hp))⟩
theorem xa_put1 {a : Nat} (hn : n ≤ 8) (hv : qa_val n A R U) (ha : a < n) (ho : qa_op A R U a = true) (hP : ∀ C, qa_cmp n g C → qa_cpt n g C A R U → P C → qa_atk g C a) : qa_to n g A R U A (R ||| ((1 : Int32) <<< (nI a &&& 31))) U P := by
  have h32 : a < 32 := by omega
  have t := qa_addR (g := g) hv (xa_m h32 (P := fun i => i < n ∧ qa_op A R U i = true) ⟨ha, ho⟩) (xa_mj h32)
  exact ⟨t.1, t.2.1, fun C hC hc hp => t.2.2 C hC hc (xa_m h32 (P := fun i => qa_atk g C i) (hP C hC hc hp))⟩
theorem xa_put2 {a : Nat} (hn : n ≤ 8) (hv : qa_val n A R U) (ha : a < n) (ho : qa_op A R U a = true) (hP : ∀ C, qa_cmp n g C → qa_cpt n g C A R U → P C → qa_un n g C a) : qa_to n g A R U A R (U ||| ((1 : Int32) <<< (nI a &&& 31))) P := by
  have h32 : a < 32 := by omega
  have t := qa_addU (g := g) hv (xa_m h32 (P := fun i => i < n ∧ qa_op A R U i = true) ⟨ha, ho⟩) (xa_mj h32)
  exact ⟨t.1, t.2.1, fun C hC hc hp => t.2.2 C hC hc (xa_m h32 (P := fun i => qa_un n g C i) (hP C hC hc hp))⟩
end
section
variable {N E A R U ch se : Int32} {ak tg fA fR fU fa ft kd rg : Nat → Int32} {a : Int32}
theorem xa_label0 {post : SX → Prop} (h : post (N, E, A ||| ((1 : Int32) <<< (a &&& 31)), R, U, 1, se, ak, tg, fA, fR, fU, fa, ft, kd, rg)) : wpX_label post (N, E, A, R, U, ch, se, ak, tg, fA, fR, fU, fa, ft, kd, rg) a 0 := br_t rfl (nm_e h)
theorem xa_label1 {post : SX → Prop} (h : post (N, E, A, R ||| ((1 : Int32) <<< (a &&& 31)), U, 1, se, ak, tg, fA, fR, fU, fa, ft, kd, rg)) : wpX_label post (N, E, A, R, U, ch, se, ak, tg, fA, fR, fU, fa, ft, kd, rg) a 1 := br_f (by decide) (br_t rfl (nm_e h))
theorem xa_label2 {post : SX → Prop} (h : post (N, E, A, R, U ||| ((1 : Int32) <<< (a &&& 31)), 1, se, ak, tg, fA, fR, fU, fa, ft, kd, rg)) : wpX_label post (N, E, A, R, U, ch, se, ak, tg, fA, fR, fU, fa, ft, kd, rg) a 2 := br_f (by decide) (br_f (by decide) (nm_e h))
end
section
variable {post : Int32 → SX → Prop} {n : Nat} {g : Nat → Nat → Prop} {N E A R U ch se : Int32} {ak tg fA fR fU fa ft kd rg : Nat → Int32}
theorem xa_conclude {a : Nat} (hn : n ≤ 8) (ha : a < n) (hE : ∀ i, bt E i = decide (i < n)) (hG : ∀ a b, g a b → a < n ∧ b < n) (hK : ∀ b, bt (ak a) b = true ↔ g b a) (hv : qa_val n A R U)
    (h0 : (∀ C, qa_cmp n g C → ¬ qa_cpt n g C A R U) → post 0 (N, E, A, R, U, ch, se, ak, tg, fA, fR, fU, fa, ft, kd, rg))
    (h1 : qa_okc g A R a → post 1 (N, E, A, R, U, ch, se, ak, tg, fA, fR, fU, fa, ft, kd, rg))
    (h2 : ∀ A' R' U', qa_to n g A R U A' R' U' (fun _ => True) → post 1 (N, E, A', R', U', 1, se, ak, tg, fA, fR, fU, fa, ft, kd, rg)) : wpX_conclude post (N, E, A, R, U, ch, se, ak, tg, fA, fR, fU, fa, ft, kd, rg) (nI a) := by
  intro b hb
  refine ⟨vp_in_nI (by omega) (by omega), ?_⟩
  rw [ya_cl (by omega : a < 256)]
  intro y hy o ho
  have hb' : ∀ i, bt b i = decide (i = a) := fun i => by rw [hb]; exact zb_b1 (by omega) i
  have hy' : ∀ c, bt y c = true ↔ g c a := by rw [hy]; exact hK
  have ho' := xa_open hE ho hn
  refine br_c (fun c1 => ?_) (fun c1 => ?_)
  · have noA : ∀ c, g c a → bt A c = false := fun c hc => zb_and0 c1 c ((hy' c).mpr hc)
    refine br_c (fun c2 => ?_) (fun c2 => ?_)
    · have allR : ∀ c, g c a → bt R c = true := fun c hc => zb_andn c2 c ((hy' c).mpr hc)
      have inC : ∀ C, qa_cmp n g C → qa_cpt n g C A R U → bt C a = true := fun C hC hc => hC.2 a ⟨ha, fun c hg => hc.2.1 c (allR c hg)⟩
      refine br_c (fun c3 => ?_) (fun c3 => ?_)
      · have hru := xa_t0 hb' c3
        refine br_c (fun c4 => ?_) (fun c4 => ?_)
        · refine h1 ⟨fun ⟨c, h3, h4⟩ => (zb_tf h4 (noA c h3)).elim, fun _ => ?_⟩
          have ho4 := xa_t0 hb' c4
          rcases qa_opN (zb_nt (fun t => zb_tf ((ho' a).mpr ⟨ha, t⟩) ho4)) with t | t | t
          · exact t
          · exact (zb_tf (qa_orT.mpr (Or.inl t)) hru).elim
          · exact (zb_tf (qa_orT.mpr (Or.inr t)) hru).elim
        · exact xa_label0 (h2 _ _ _ (xa_put0 hn hv ha ((ho' a).mp (xa_t1 hb' c4)).2 (fun C hC hc _ => inC C hC hc)))
      · refine h0 (fun C hC hc => ?_)
        rcases qa_orT.mp (xa_t1 hb' c3) with t | t
        · exact qa_inout hC (inC C hC hc) (hc.2.1 a t)
        · exact zb_tf (inC C hC hc) (hc.2.2 a t).2.1
    · have ok : qa_okc g A R a := ⟨fun ⟨c, h3, h4⟩ => (zb_tf h4 (noA c h3)).elim, fun h => absurd (zb_andn' (fun c hc => h c ((hy' c).mp hc))) c2⟩
      refine br_c (fun c3 => br_c (fun c4 => h1 ok) (fun c4 => ?_)) (fun c3 => h1 ok)
      refine xa_label2 (h2 _ _ _ (xa_put2 hn hv ha ((ho' a).mp (xa_t1 hb' c4)).2 (fun C hC hc _ => ?_)))
      have lab : ∀ c, g c a → bt R c = true ∨ bt U c = true := by
        intro c hc
        have hy2 := (hy' c).mpr hc
        have h3 := zb_and0 c3 c hy2
        rcases qa_opN (zb_nt (fun t => zb_tf ((ho' c).mpr ⟨(hG c a hc).1, t⟩) h3)) with t | t | t
        · exact (zb_tf t (noA c hc)).elim
        · exact Or.inl t
        · exact Or.inr t
      obtain ⟨c, h3, h4⟩ := zb_andn1 c2
      have h3' := (hy' c).mp h3
      have hU : bt U c = true := (lab c h3').elim (fun t => (zb_tf t h4).elim) (fun t => t)
      refine ⟨ha, zb_nt (fun t => ?_), fun ⟨d, h5, h6⟩ => ?_⟩
      · exact (hc.2.2 c hU).2.2 ((hC.1.2 a t).2 c h3')
      · rcases lab d h6 with t | t
        · exact qa_inout hC h5 (hc.2.1 d t)
        · exact zb_tf h5 (hc.2.2 d t).2.1
  · obtain ⟨c, h3, h4⟩ := zb_and1 c1
    have h3' := (hy' c).mp h3
    have outC : ∀ C, qa_cmp n g C → qa_cpt n g C A R U → qa_atk g C a := fun C hC hc => ⟨c, hc.1 c h4, h3'⟩
    refine br_c (fun c3 => ?_) (fun c3 => ?_)
    · have hau := xa_t0 hb' c3
      refine br_c (fun c4 => ?_) (fun c4 => ?_)
      · have hR : bt R a = true := by
          have ho4 := xa_t0 hb' c4
          rcases qa_opN (zb_nt (fun t => zb_tf ((ho' a).mpr ⟨ha, t⟩) ho4)) with t | t | t
          · exact (zb_tf (qa_orT.mpr (Or.inl t)) hau).elim
          · exact t
          · exact (zb_tf (qa_orT.mpr (Or.inr t)) hau).elim
        exact h1 ⟨fun _ => hR, fun h => (zb_tf (h c h3') ((hv.1 c h4).2.1)).elim⟩
      · exact xa_label1 (h2 _ _ _ (xa_put1 hn hv ha ((ho' a).mp (xa_t1 hb' c4)).2 (fun C hC hc _ => outC C hC hc)))
    · refine h0 (fun C hC hc => ?_)
      rcases qa_orT.mp (xa_t1 hb' c3) with t | t
      · exact qa_inout hC (hc.1 a t) (outC C hC hc)
      · exact (hc.2.2 a t).2.2 (outC C hC hc)
theorem xa_s157 {x3 x5 : Int32} (hx : ∃ i, i < 8 ∧ bt x3 i = true) (hl : ∀ i, i < 8 → bt x3 i = true → wX_support_179 post x5 (nI i) N E A R U ch se ak tg fA fR fU fa ft kd rg) : ∀ d j, j + d = 7 → (∀ i, i < j → bt x3 i = false) → wX_support_157 post x3 x5 N E A R U ch se ak tg fA fR fU fa ft kd rg (d + 1) (nI j) := by
  intro d
  induction d with
  | zero =>
    intro j hj hI
    obtain ⟨i, h1, h2⟩ := hx
    have e : i = j := by
      rcases Nat.lt_or_ge i j with z | z
      · exact (zb_tf h2 (hI i z)).elim
      · omega
    subst e
    exact br_t (nI_le (a := 7) (by omega) (by omega)) (hl i h1 h2)
  | succ d ih =>
    intro j hj hI
    refine br_f (nI_ge (b := 7) (by omega) (by decide)) (zb_br (by omega) (fun h => nm_r (nI_1 j) (ih (j + 1) (by omega) (fun i hi => ?_))) (fun h => hl j (by omega) h))
    by_cases e : i = j
    · subst e; exact h
    · exact hI i (by omega)
theorem xa_s131 {x3 x4 x5 : Int32} (hx8 : ∀ i, bt x3 i = true → i < 8) (h4 : ¬ x4 = 0 → post 1 (N, E, A, R, U, ch, se, ak, tg, fA, fR, fU, fa, ft, kd, rg)) (h3 : x4 = 0 → (∀ i, bt x3 i = false) → post 0 (N, E, A, R, U, ch, se, ak, tg, fA, fR, fU, fa, ft, kd, rg)) (hm : x4 = 0 → ∀ i, bt x3 i = true → post 1 (N, E, A, R, U, ch, se, ak, tg, fA, fR, fU, fa, ft, kd, rg))
    (hl : x4 = 0 → ∀ i, bt x3 i = true → (∀ j, bt x3 j = true → j = i) → wX_support_179 post x5 (nI i) N E A R U ch se ak tg fA fR fU fa ft kd rg) : wX_support_131 post x3 x4 x5 N E A R U ch se ak tg fA fR fU fa ft kd rg := by
  refine br_c (fun z => br_c (fun z2 => h3 z (zb_zero.mp z2)) (fun z2 => br_c (fun z3 => ?_) (fun z3 => ?_))) h4
  · obtain ⟨i, hi⟩ := zb_nz z2
    exact ⟨8, xa_s157 ⟨i, hx8 i hi, hi⟩ (fun k _ hk => hl z k hk (fun j hj => zb_single hx8 z3 j k hj hk)) 7 0 (by omega) (fun k hk => by omega)⟩
  · obtain ⟨i, hi⟩ := zb_nz z2
    exact hm z i hi
theorem xa_support {a : Nat} (hn : n ≤ 8) (ha : a < n) (hG : ∀ a b, g a b → a < n ∧ b < n) (hK : ∀ b, bt (ak a) b = true ↔ g b a) (hv : qa_val n A R U)
    (h0 : (∀ C, qa_cmp n g C → ¬ qa_cpt n g C A R U) → post 0 (N, E, A, R, U, ch, se, ak, tg, fA, fR, fU, fa, ft, kd, rg))
    (h1 : qa_oks g A R U a → post 1 (N, E, A, R, U, ch, se, ak, tg, fA, fR, fU, fa, ft, kd, rg))
    (h2 : ∀ A' R' U', qa_to n g A R U A' R' U' (fun _ => True) → post 1 (N, E, A', R', U', 1, se, ak, tg, fA, fR, fU, fa, ft, kd, rg)) : wpX_support post (N, E, A, R, U, ch, se, ak, tg, fA, fR, fU, fa, ft, kd, rg) (nI a) := by
  refine And.intro (vp_in_nI (by omega) (by omega)) ?_
  rw [ya_cl (by omega : a < 256)]
  intro y hy o ho
  have hy' : ∀ c, bt y c = true ↔ g c a := by rw [hy]; exact hK
  have ho' : ∀ c, bt o c = true ↔ (g c a ∧ qa_op A R U c = true) := fun c => by rw [xa_openby ho c, hy' c]
  have ho8 : ∀ c, bt o c = true → c < 8 := fun c hc => by have := (hG c a ((ho' c).mp hc).1).1; omega
  refine zb_br (by omega) (fun hA => ?_) (fun hA => ?_)
  · refine zb_br (by omega) (fun hR => ?_) (fun hR => ?_)
    · have ok : qa_oks g A R U a := ⟨fun t => (zb_tf t hA).elim, fun t => (zb_tf t hR).elim⟩
      refine zb_br (by omega) (fun hU => h1 ok) (fun hU => ?_)
      intro w hw
      have find : w = 0 → ∀ C, qa_cmp n g C → qa_cpt n g C A R U → ∃ c, bt o c = true ∧ qa_un n g C c := by
        intro z C hC hc
        obtain ⟨c, h3, h4⟩ := qa_unatk hG hC (hc.2.2 a hU)
        refine ⟨c, (ho' c).mpr ⟨h3, ?_⟩, h4⟩
        refine qa_opI.mpr ⟨zb_nt (fun t => zb_tf (hc.1 c t) h4.2.1), zb_nt (fun t => h4.2.2 (hc.2.1 c t)), ?_⟩
        rw [hw] at z
        exact zb_and0 z c ((hy' c).mpr h3)
      refine xa_s131 ho8 (fun _ => h1 ok) (fun z hz => h0 (fun C hC hc => ?_)) (fun _ _ _ => h1 ok) (fun z i hi hu => ?_)
      · obtain ⟨c, h3, _⟩ := find z C hC hc
        exact zb_tf h3 (hz c)
      · have hi' := (ho' i).mp hi
        refine xa_label2 (h2 _ _ _ (xa_put2 hn hv (hG i a hi'.1).1 hi'.2 (fun C hC hc _ => ?_)))
        obtain ⟨c, h3, h4⟩ := find z C hC hc
        rw [← hu c h3]
        exact h4
    · intro w hw
      have find : w = 0 → ∀ C, qa_cmp n g C → qa_cpt n g C A R U → ∃ c, bt o c = true ∧ bt C c = true := by
        intro z C hC hc
        obtain ⟨c, h3, h4⟩ := hc.2.1 a hR
        refine ⟨c, (ho' c).mpr ⟨h4, ?_⟩, h3⟩
        refine qa_opI.mpr ⟨?_, zb_nt (fun t => qa_inout hC h3 (hc.2.1 c t)), zb_nt (fun t => zb_tf h3 (hc.2.2 c t).2.1)⟩
        rw [hw] at z
        exact zb_and0 z c ((hy' c).mpr h4)
      refine xa_s131 ho8 (fun z => h1 ⟨fun t => (zb_tf t hA).elim, fun _ => ?_⟩) (fun z hz => h0 (fun C hC hc => ?_)) (fun _ i hi => h1 ⟨fun t => (zb_tf t hA).elim, fun _ => ?_⟩) (fun z i hi hu => ?_)
      · rw [hw] at z
        obtain ⟨c, h3, h4⟩ := zb_and1 z
        exact ⟨c, (hy' c).mp h3, Or.inl h4⟩
      · obtain ⟨c, h3, _⟩ := find z C hC hc
        exact zb_tf h3 (hz c)
      · exact ⟨i, ((ho' i).mp hi).1, Or.inr ((ho' i).mp hi).2⟩
      · have hi' := (ho' i).mp hi
        refine xa_label0 (h2 _ _ _ (xa_put0 hn hv (hG i a hi'.1).1 hi'.2 (fun C hC hc _ => ?_)))
        obtain ⟨c, h3, h4⟩ := find z C hC hc
        rw [← hu c h3]
        exact h4
  · have outC : ∀ C, qa_cmp n g C → qa_cpt n g C A R U → ∀ c, g c a → qa_atk g C c := fun C hC hc c hg => (hC.1.2 a (hc.1 a hA)).2 c hg
    refine br_c (fun c1 => br_c (fun c2 => h1 ⟨fun _ c hc => ?_, fun t => (zb_tf hA (hv.2.1 a t).2.1).elim⟩) (fun c2 => ?_)) (fun c1 => h0 (fun C hC hc => ?_))
    · have h3 := zb_and0 c1 c ((hy' c).mpr hc)
      rcases qa_opN (zb_nt (fun t => zb_tf ((ho' c).mpr ⟨hc, t⟩) (zb_zero.mp c2 c))) with t | t | t
      · exact (zb_tf (qa_orT.mpr (Or.inl t)) h3).elim
      · exact t
      · exact (zb_tf (qa_orT.mpr (Or.inr t)) h3).elim
    · obtain ⟨i, hi⟩ := zb_nz c2
      have t := qa_addR (g := g) hv (m := o) (fun c hc => ⟨(hG c a ((ho' c).mp hc).1).1, ((ho' c).mp hc).2⟩) hi
      exact nm_e (h2 _ _ _ ⟨t.1, t.2.1, fun C hC hc _ => t.2.2 C hC hc (fun c h3 => outC C hC hc c ((ho' c).mp h3).1)⟩)
    · obtain ⟨c, h3, h4⟩ := zb_and1 c1
      have h5 := outC C hC hc c ((hy' c).mp h3)
      rcases qa_orT.mp h4 with t | t
      · exact qa_inout hC (hc.1 c t) h5
      · exact (hc.2.2 c t).2.2 h5
end
end
section
/-! propagate: rounds of conclude and support reach a fixed labelling, or fail where no complete set fits -/
def qa_le (n : Nat) (g : Nat → Nat → Prop) (A R U A' R' U' : Int32) : Prop :=
  qa_val n A' R' U' ∧ qa_oc n A' R' U' ≤ qa_oc n A R U ∧ ∀ C, qa_cmp n g C → qa_cpt n g C A R U → qa_cpt n g C A' R' U'
theorem qa_le_refl {n : Nat} {g : Nat → Nat → Prop} {A R U : Int32} (hv : qa_val n A R U) : qa_le n g A R U A R U := ⟨hv, Nat.le_refl _, fun _ _ h => h⟩
theorem qa_le_trans {n : Nat} {g : Nat → Nat → Prop} {A R U A1 R1 U1 A2 R2 U2 : Int32} (h1 : qa_le n g A R U A1 R1 U1) (h2 : qa_le n g A1 R1 U1 A2 R2 U2) : qa_le n g A R U A2 R2 U2 :=
  ⟨h2.1, Nat.le_trans h2.2.1 h1.2.1, fun C hC hc => h2.2.2 C hC (h1.2.2 C hC hc)⟩
theorem qa_le_to {n : Nat} {g : Nat → Nat → Prop} {A R U A1 R1 U1 : Int32} (h : qa_to n g A R U A1 R1 U1 (fun _ => True)) : qa_le n g A R U A1 R1 U1 :=
  ⟨h.1, Nat.le_of_lt h.2.1, fun C hC hc => h.2.2 C hC hc trivial⟩
/-- in a round: something changed, or all arguments below a are in order -/
def qa_rd (n : Nat) (g : Nat → Nat → Prop) (oc : Nat) (A R U ch : Int32) (Q : Prop) : Prop := (ch = 1 ∧ qa_oc n A R U < oc) ∨ (ch = 0 ∧ Q)
section
variable {post : Int32 → SX → Prop} {n : Nat} {g : Nat → Nat → Prop} {E se A1 R1 U1 : Int32} {ak tg fA fR fU fa ft kd rg : Nat → Int32}
theorem xa_p27 {J : Int32 → Int32 → Int32 → Int32 → Int32 → Int32 → Int32 → Int32 → (Nat → Int32) → (Nat → Int32) → (Nat → Int32) → (Nat → Int32) → (Nat → Int32) → (Nat → Int32) → (Nat → Int32) → (Nat → Int32) → (Nat → Int32) → Prop} {x1 : Int32}
    (hn : n ≤ 8) (hE : ∀ i, bt E i = decide (i < n)) (hG : ∀ a b, g a b → a < n ∧ b < n) (hK : ∀ a, a < n → ∀ b, bt (ak a) b = true ↔ g b a)
    (h0 : (∀ C, qa_cmp n g C → ¬ qa_cpt n g C A1 R1 U1) → ∀ A R U ch, post 0 (nI n, E, A, R, U, ch, se, ak, tg, fA, fR, fU, fa, ft, kd, rg))
    (hJ : ∀ A R U ch, qa_le n g A1 R1 U1 A R U → qa_rd n g (qa_oc n A1 R1 U1) A R U ch (qa_fix n g A R U) → J (x1 + 1) (nI n) E A R U ch se ak tg fA fR fU fa ft kd rg) :
    ∀ d a A R U ch, a + d = n → qa_le n g A1 R1 U1 A R U → qa_rd n g (qa_oc n A1 R1 U1) A R U ch (∀ c, c < a → qa_okc g A R c ∧ qa_oks g A R U c) → wX_propagate_27 post J x1 (d + 1) (nI a) (nI n) E A R U ch se ak tg fA fR fU fa ft kd rg := by
  intro d
  induction d with
  | zero =>
    intro a A R U ch hd hl hr
    have e : a = n := by omega
    subst e
    exact br_t (nI_le (Nat.le_refl a) (by omega)) (nm_e (hJ A R U ch hl hr))
  | succ d ih =>
    intro a A R U ch hd hl hr
    have ha : a < n := by omega
    have sup : ∀ A' R' U' ch', qa_le n g A1 R1 U1 A' R' U' → qa_rd n g (qa_oc n A1 R1 U1) A' R' U' ch' ((∀ c, c < a → qa_okc g A' R' c ∧ qa_oks g A' R' U' c) ∧ qa_okc g A' R' a) →
        wpX_support (fun r_23 u => match u with
          | (f_argumentCount_24, f_everything_25, f_accepted_26, f_rejected_27, f_undecided_28, f_changed_29, f_searched_30, a_attackers_31, a_targets_32, a_frameAccepted_33, a_frameRejected_34, a_frameUndecided_35, a_frameArgument_36, a_frameTried_37, a_kinds_38, a_range_39) => (((r_23 = 0 → (post 0 (f_argumentCount_24, f_everything_25, f_accepted_26, f_rejected_27, f_undecided_28, f_changed_29, f_searched_30, a_attackers_31, a_targets_32, a_frameAccepted_33, a_frameRejected_34, a_frameUndecided_35, a_frameArgument_36, a_frameTried_37, a_kinds_38, a_range_39))) ∧ (¬ r_23 = 0 → (∀ x2_41 : Int32, x2_41 = nI a + 1 → (wX_propagate_27 post J x1 (d + 1) x2_41 f_argumentCount_24 f_everything_25 f_accepted_26 f_rejected_27 f_undecided_28 f_changed_29 f_searched_30 a_attackers_31 a_targets_32 a_frameAccepted_33 a_frameRejected_34 a_frameUndecided_35 a_frameArgument_36 a_frameTried_37 a_kinds_38 a_range_39)))))) (nI n, E, A', R', U', ch', se, ak, tg, fA, fR, fU, fa, ft, kd, rg) (nI a) := by
      intro A' R' U' ch' hl' hr'
      refine xa_support hn ha hG (hK a ha) hl'.1 (fun z => br_t rfl (h0 (fun C hC hc => z C hC (hl'.2.2 C hC hc)) _ _ _ _)) (fun ok => br_f (by decide) (nm_r (nI_1 a) (ih (a + 1) _ _ _ _ (by omega) hl' ?_))) (fun A2 R2 U2 hto => br_f (by decide) (nm_r (nI_1 a) (ih (a + 1) _ _ _ _ (by omega) (qa_le_trans hl' (qa_le_to hto)) (Or.inl ⟨rfl, ?_⟩))))
      · refine hr'.elim Or.inl (fun ⟨e, h3, h4⟩ => Or.inr ⟨e, fun c hc => ?_⟩)
        by_cases z : c = a
        · subst z; exact ⟨h4, ok⟩
        · exact h3 c (by omega)
      · exact Nat.lt_of_lt_of_le hto.2.1 hl'.2.1
    refine br_f (nI_ge ha (by omega)) (xa_conclude hn ha hE hG (hK a ha) hl.1 (fun z => br_t rfl (h0 (fun C hC hc => z C hC (hl.2.2 C hC hc)) _ _ _ _)) (fun ok => br_f (by decide) (sup _ _ _ _ hl ?_)) (fun A2 R2 U2 hto => br_f (by decide) (sup _ _ _ _ (qa_le_trans hl (qa_le_to hto)) (Or.inl ⟨rfl, ?_⟩))))
    · exact hr.elim Or.inl (fun ⟨e, h3⟩ => Or.inr ⟨e, h3, ok⟩)
    · exact Nat.lt_of_lt_of_le hto.2.1 hl.2.1
theorem xa_p7 {A0 R0 U0 : Int32} (hn : n ≤ 8) (hE : ∀ i, bt E i = decide (i < n)) (hG : ∀ a b, g a b → a < n ∧ b < n) (hK : ∀ a, a < n → ∀ b, bt (ak a) b = true ↔ g b a)
    (h0 : (∀ C, qa_cmp n g C → ¬ qa_cpt n g C A0 R0 U0) → ∀ A R U ch, post 0 (nI n, E, A, R, U, ch, se, ak, tg, fA, fR, fU, fa, ft, kd, rg))
    (h1 : ∀ A R U ch, qa_le n g A0 R0 U0 A R U → qa_fix n g A R U → post 1 (nI n, E, A, R, U, ch, se, ak, tg, fA, fR, fU, fa, ft, kd, rg)) :
    ∀ d j A R U ch, j + d = 10 → qa_le n g A0 R0 U0 A R U → ((ch = 1 ∧ qa_oc n A R U + j ≤ 8) ∨ (ch = 0 ∧ qa_fix n g A R U)) → wX_propagate_7 post (d + 1) (nI j) (nI n) E A R U ch se ak tg fA fR fU fa ft kd rg := by
  intro d
  induction d with
  | zero =>
    intro j A R U ch hd hl hr
    refine br_t (nI_le (a := 10) (by omega) (by omega)) (hr.elim (fun h => ?_) (fun h => h1 _ _ _ _ hl h.2))
    have := h.2
    omega
  | succ d ih =>
    intro j A R U ch hd hl hr
    refine br_f (nI_ge (b := 10) (by omega) (by decide)) (br_c (fun z => hr.elim (fun h => ?_) (fun h => h1 _ _ _ _ hl h.2)) (fun z => hr.elim (fun h => ?_) (fun h => absurd h.1 z)))
    · exact absurd (h.1.symm.trans z) (by decide)
    · refine ⟨n + 1, xa_p27 (A1 := A) (R1 := R) (U1 := U) hn hE hG hK (fun t => h0 (fun C hC hc => t C hC (hl.2.2 C hC hc))) (fun A2 R2 U2 ch2 hl2 hr2 => ?_) n 0 A R U 0 (by omega) (qa_le_refl hl.1) (Or.inr ⟨rfl, fun c hc => by omega⟩)⟩
      rw [nI_1]
      refine ih (j + 1) _ _ _ _ (by omega) (qa_le_trans hl hl2) (hr2.elim (fun t => Or.inl ⟨t.1, ?_⟩) Or.inr)
      have := t.2
      have := h.2
      omega
theorem xa_propagate {A R U ch : Int32} (hn : n ≤ 8) (hE : ∀ i, bt E i = decide (i < n)) (hG : ∀ a b, g a b → a < n ∧ b < n) (hK : ∀ a, a < n → ∀ b, bt (ak a) b = true ↔ g b a) (hv : qa_val n A R U)
    (h0 : (∀ C, qa_cmp n g C → ¬ qa_cpt n g C A R U) → ∀ A' R' U' ch', post 0 (nI n, E, A', R', U', ch', se, ak, tg, fA, fR, fU, fa, ft, kd, rg))
    (h1 : ∀ A' R' U' ch', qa_le n g A R U A' R' U' → qa_fix n g A' R' U' → post 1 (nI n, E, A', R', U', ch', se, ak, tg, fA, fR, fU, fa, ft, kd, rg)) : wpX_propagate post (nI n, E, A, R, U, ch, se, ak, tg, fA, fR, fU, fa, ft, kd, rg) :=
  ⟨11, xa_p7 hn hE hG hK h0 h1 10 0 A R U 1 (by omega) (qa_le_refl hv) (Or.inl ⟨rfl, by have := qa_cn_le (qa_op A R U) n; unfold qa_oc; omega⟩)⟩
end
end
section
/-! branch: a finished labelling is noted, or a frame is laid; and what the search keeps -/
def xa_d : Nat → Int32
  | 0 => -1
  | d + 1 => nI d
theorem xa_d1 (D : Nat) : xa_d D + 1 = nI D := by
  cases D with
  | zero => rfl
  | succ d => exact nI_1 d
theorem xa_dm (d : Nat) : nI d + (-1) = xa_d d := by
  cases d with
  | zero => rfl
  | succ d => exact pk_m1 d
theorem xa_by {p : Nat} (hp : p < 16) : vp_nar .byte (nI p).toInt8.toInt32 = nI p := by
  rw [vp_nar_byte]
  exact (by decide +kernel : ∀ p, p < 16 → (nI p).toInt8.toInt32.toInt8.toInt32 = nI p) p hp
theorem xa_b0 : vp_nar .byte 0 = 0 := by rw [vp_nar_byte]; decide
theorem xa_b1 : vp_nar .byte 1 = 1 := by rw [vp_nar_byte]; decide
section
variable {post : Int32 → SX → Prop} {n : Nat} {N E A R U ch se : Int32} {ak tg fA fR fU fa ft kd rg : Nat → Int32}
theorem xa_b78 {D p : Nat} (hD : D ≤ 8) (hp : p < 8) (h : post (nI D) (N, E, A, R, U, ch, se, ak, tg, upd fA D A, upd fR D R, upd fU D U, upd fa D (nI p), upd ft D 0, kd, rg)) : wX_branch_78 post (xa_d D) (nI p) N E A R U ch se ak tg fA fR fU fa ft kd rg := by
  have hi : vp_in (nI D) 9 := vp_in_nI (by omega) (by omega)
  have hc : (nI D).toNatClampNeg = D := ya_cl (by omega)
  unfold wX_branch_78
  rw [xa_d1, xa_by (by omega : p < 16), xa_b0]
  intro x hx
  subst hx
  rw [hc]
  exact ⟨hi, nm_e ⟨hi, nm_e ⟨hi, nm_e ⟨hi, nm_e ⟨hi, nm_e h⟩⟩⟩⟩⟩
theorem xa_b58 {x1 x2 : Int32} (hx : ∃ i, i < 8 ∧ bt x2 i = true) (hl : ∀ i, i < 8 → bt x2 i = true → wX_branch_78 post x1 (nI i) N E A R U ch se ak tg fA fR fU fa ft kd rg) : ∀ d j, j + d = 7 → (∀ i, i < j → bt x2 i = false) → wX_branch_58 post x1 x2 N E A R U ch se ak tg fA fR fU fa ft kd rg (d + 1) (nI j) := by
  intro d
  induction d with
  | zero =>
    intro j hj hI
    obtain ⟨i, h1, h2⟩ := hx
    have e : i = j := by
      rcases Nat.lt_or_ge i j with z | z
      · exact (zb_tf h2 (hI i z)).elim
      · omega
    subst e
    exact br_t (nI_le (a := 7) (by omega) (by omega)) (hl i h1 h2)
  | succ d ih =>
    intro j hj hI
    refine br_f (nI_ge (b := 7) (by omega) (by decide)) (zb_br (by omega) (fun h => nm_r (nI_1 j) (ih (j + 1) (by omega) (fun i hi => ?_))) (fun h => hl j (by omega) h))
    by_cases e : i = j
    · subst e; exact h
    · exact hI i (by omega)
theorem xa_branch {D : Nat} (hD : D ≤ 8) (hn : n ≤ 8) (hE : ∀ i, bt E i = decide (i < n)) (hv : qa_val n A R U)
    (hf : (∀ i, i < n → qa_op A R U i = false) → ∀ s, s < 256 → A = nI s → post (xa_d D) (N, E, A, R, U, ch, se, ak, tg, fA, fR, fU, fa, ft, upd kd s 1, upd rg s (A ||| R)))
    (ho : ∀ p, p < n → qa_op A R U p = true → post (nI D) (N, E, A, R, U, ch, se, ak, tg, upd fA D A, upd fR D R, upd fU D U, upd fa D (nI p), upd ft D 0, kd, rg)) : wpX_branch post (N, E, A, R, U, ch, se, ak, tg, fA, fR, fU, fa, ft, kd, rg) (xa_d D) := by
  intro o ho'
  have h8 := zb_p8 hn
  have hop := xa_open hE ho' hn
  refine br_c (fun z => ?_) (fun z => ?_)
  · obtain ⟨s, hs, e⟩ := zb_mask (x := A) (fun i hi => (hv.1 i hi).1)
    have hi : vp_in A 256 := by rw [e]; exact vp_in_nI (by omega) (by omega)
    have hc : A.toNatClampNeg = s := by rw [e]; exact ya_cl (by omega)
    rw [hc, xa_b1]
    exact ⟨hi, nm_e ⟨hi, nm_e (hf (fun i hi => zb_nt (fun t => zb_tf ((hop i).mpr ⟨hi, t⟩) (zb_zero.mp z i))) s (by omega) e)⟩⟩
  · obtain ⟨i, hi⟩ := zb_nz z
    refine ⟨8, xa_b58 ⟨i, by have := ((hop i).mp hi).1; omega, hi⟩ (fun p hp hb => xa_b78 hD hp (ho p ((hop p).mp hb).1 ((hop p).mp hb).2)) 7 0 (by omega) (fun k hk => by omega)⟩
end
/-! the search's frames -/
def qa_F (n j : Nat) (A R U a t : Int32) : Prop := qa_val n A R U ∧ (∃ p, a = nI p ∧ p < n ∧ qa_op A R U p = true) ∧ (∃ k, t = nI k ∧ k ≤ 3) ∧ qa_oc n A R U + j ≤ 8
def qa_T (n : Nat) (g : Nat → Nat → Prop) (C A R U a t : Int32) : Prop := qa_cpt n g C A R U ∧ ∃ k, t.toNatClampNeg ≤ k ∧ k < 3 ∧ qa_has n g C k a.toNatClampNeg
def qa_tw : Nat → Nat
  | 0 => 0
  | m + 1 => 3 * qa_tw m + 4
def qa_w (n : Nat) (A R U t : Int32) : Nat := (3 - t.toNatClampNeg) * (1 + qa_tw (qa_oc n A R U - 1)) + 1
def qa_sm (w : Nat → Nat) : Nat → Nat
  | 0 => 0
  | m + 1 => qa_sm w m + w m
theorem qa_sm_s (w : Nat → Nat) (m : Nat) : qa_sm w (m + 1) = qa_sm w m + w m := rfl
theorem qa_sm_c {w v : Nat → Nat} : ∀ m, (∀ j, j < m → w j = v j) → qa_sm w m = qa_sm v m
  | 0, _ => rfl
  | m + 1, h => by rw [qa_sm_s, qa_sm_s, qa_sm_c m (fun j hj => h j (by omega)), h m (by omega)]
theorem qa_tw_mono : ∀ {a b : Nat}, a ≤ b → qa_tw a ≤ qa_tw b
  | 0, _, _ => Nat.zero_le _
  | a + 1, 0, h => by omega
  | a + 1, b + 1, h => by
    have t := qa_tw_mono (a := a) (b := b) (by omega)
    show 3 * qa_tw a + 4 ≤ 3 * qa_tw b + 4
    omega
theorem qa_w_k {n k : Nat} {A R U : Int32} (hk : k ≤ 3) : qa_w n A R U (nI k) = (3 - k) * (1 + qa_tw (qa_oc n A R U - 1)) + 1 := by
  unfold qa_w
  rw [ya_cl (by omega : k < 256)]
theorem qa_w_0 {n : Nat} {A R U : Int32} (h : 0 < qa_oc n A R U) : qa_w n A R U 0 = qa_tw (qa_oc n A R U) := by
  rw [← nI_0, qa_w_k (by omega)]
  obtain ⟨o, ho⟩ : ∃ o, qa_oc n A R U = o + 1 := ⟨qa_oc n A R U - 1, by omega⟩
  rw [ho]
  show (3 - 0) * (1 + qa_tw o) + 1 = 3 * qa_tw o + 4
  omega
theorem qa_w_d {n k : Nat} {A R U : Int32} (hk : k < 3) : qa_w n A R U (nI k) = qa_w n A R U (nI (k + 1)) + 1 + qa_tw (qa_oc n A R U - 1) := by
  rw [qa_w_k (by omega), qa_w_k (by omega)]
  have e : 3 - k = (3 - (k + 1)) + 1 := by omega
  rw [e, Nat.add_mul]
  omega
def qa_C (n : Nat) (g : Nat → Nat → Prop) (D : Nat) (fA fR fU fa ft kd : Nat → Int32) (Pd : Int32 → Prop) : Prop := ∀ s, s < 256 → qa_cmp n g (nI s) → kd s = 1 ∨ (∃ j, j < D ∧ qa_T n g (nI s) (fA j) (fR j) (fU j) (fa j) (ft j)) ∨ Pd (nI s)
def qa_K (n : Nat) (g : Nat → Nat → Prop) (kd rg : Nat → Int32) : Prop := ∀ s, s < 256 → kd s = 0 ∨ (kd s = 1 ∧ qa_cmp n g (nI s) ∧ ∀ b, bt (rg s) b = true ↔ qa_rg g (nI s) b)
def qa_W (n : Nat) (fA fR fU ft : Nat → Int32) (D : Nat) : Nat := qa_sm (fun j => qa_w n (fA j) (fR j) (fU j) (ft j)) D
def qa_S (n : Nat) (g : Nat → Nat → Prop) (D : Nat) (fA fR fU fa ft kd rg : Nat → Int32) (st : Nat) : Prop :=
  (∀ j, j < D → qa_F n j (fA j) (fR j) (fU j) (fa j) (ft j)) ∧ qa_C n g D fA fR fU fa ft kd (fun _ => False) ∧ qa_K n g kd rg ∧ st + qa_W n fA fR fU ft D ≤ 13120
section
variable {post : Int32 → SX → Prop} {n : Nat} {g : Nat → Nat → Prop} {N E A R U ch se : Int32} {ak tg fA fR fU fa ft kd rg : Nat → Int32}
theorem xa_after {D st q : Nat} (hn : n ≤ 8) (hE : ∀ i, bt E i = decide (i < n)) (hG : ∀ a b, g a b → a < n ∧ b < n)
    (hF : ∀ j, j < D → qa_F n j (fA j) (fR j) (fU j) (fa j) (ft j)) (hC : qa_C n g D fA fR fU fa ft kd (fun C => qa_cpt n g C A R U)) (hK : qa_K n g kd rg)
    (hv : qa_val n A R U) (hf : qa_fix n g A R U) (hq : qa_oc n A R U ≤ q) (hqD : q + D ≤ 8) (hb : st + qa_W n fA fR fU ft D + qa_tw q ≤ 13120)
    (hp : ∀ D' fA' fR' fU' fa' ft' kd' rg', qa_S n g D' fA' fR' fU' fa' ft' kd' rg' st → post (xa_d D') (N, E, A, R, U, ch, se, ak, tg, fA', fR', fU', fa', ft', kd', rg')) : wpX_branch post (N, E, A, R, U, ch, se, ak, tg, fA, fR, fU, fa, ft, kd, rg) (xa_d D) := by
  refine xa_branch (by omega) hn hE hv (fun ho s hs e => ?_) (fun p hp' ho => ?_)
  · have hd := qa_done hG hv hf ho
    refine hp D _ _ _ _ _ _ _ ⟨hF, ?_, ?_, by omega⟩
    · intro s' hs' hc
      by_cases z : s' = s
      · subst z; exact Or.inl pk_us
      · rw [pk_un z]
        rcases hC s' hs' hc with t | t | t
        · exact Or.inl t
        · exact Or.inr (Or.inl t)
        · have t2 := (qa_uniq ho hc t).trans e
          exact absurd ((nI_eq (by omega) (by omega)).mp t2) z
    · intro s' hs'
      by_cases z : s' = s
      · subst z
        rw [pk_us, pk_us]
        refine Or.inr ⟨rfl, e ▸ hd.1, fun b => ?_⟩
        rw [← e, qa_orT, hd.2 b]
        exact Iff.rfl
      · rw [pk_un z, pk_un z]
        exact hK s' hs'
  · have pos : 0 < qa_oc n A R U := qa_cn_pos hp' ho
    refine hp (D + 1) _ _ _ _ _ _ _ ⟨?_, ?_, hK, ?_⟩
    · intro j hj
      by_cases z : j = D
      · subst z
        rw [pk_us, pk_us, pk_us, pk_us, pk_us]
        exact ⟨hv, ⟨p, rfl, hp', ho⟩, ⟨0, rfl, by omega⟩, by omega⟩
      · rw [pk_un z, pk_un z, pk_un z, pk_un z, pk_un z]
        exact hF j (by omega)
    · intro s' hs' hc
      rcases hC s' hs' hc with t | ⟨j, hj, t⟩ | t
      · exact Or.inl t
      · refine Or.inr (Or.inl ⟨j, by omega, ?_⟩)
        have z : j ≠ D := by omega
        rw [pk_un z, pk_un z, pk_un z, pk_un z, pk_un z]
        exact t
      · refine Or.inr (Or.inl ⟨D, by omega, ?_⟩)
        rw [pk_us, pk_us, pk_us, pk_us, pk_us]
        obtain ⟨k, h1, h2⟩ := qa_some (n := n) (g := g) (C := nI s') hp'
        refine ⟨t, k, Nat.zero_le _, h1, ?_⟩
        rw [ya_cl (by omega : p < 256)]
        exact h2
    · unfold qa_W at hb ⊢
      rw [qa_sm_s]
      rw [pk_us, pk_us, pk_us, pk_us, qa_w_0 pos, qa_sm_c (v := fun j => qa_w n (fA j) (fR j) (fU j) (ft j)) D (fun j hj => ?_)]
      · have := qa_tw_mono hq
        omega
      · have z : j ≠ D := by omega
        rw [pk_un z, pk_un z, pk_un z, pk_un z]
end
end
section
/-! the search's loop -/
section
variable {post : SX → Prop} {n : Nat} {g : Nat → Nat → Prop} {N E A R U ch se : Int32} {ak tg fA fR fU fa ft kd rg : Nat → Int32}
theorem xa_labelk {k p : Nat} (hk : k < 3) (hn : n ≤ 8) (hv : qa_val n A R U) (hp : p < n) (ho : qa_op A R U p = true)
    (h : ∀ A' R' U', qa_to n g A R U A' R' U' (fun C => qa_has n g C k p) → post (N, E, A', R', U', 1, se, ak, tg, fA, fR, fU, fa, ft, kd, rg)) : wpX_label post (N, E, A, R, U, ch, se, ak, tg, fA, fR, fU, fa, ft, kd, rg) (nI p) (nI k) := by
  match k, hk, h with
  | 0, _, h => exact xa_label0 (h _ _ _ (xa_put0 hn hv hp ho (fun C _ _ t => t)))
  | 1, _, h => exact xa_label1 (h _ _ _ (xa_put1 hn hv hp ho (fun C _ _ t => t)))
  | 2, _, h => exact xa_label2 (h _ _ _ (xa_put2 hn hv hp ho (fun C _ _ t => t)))
end
theorem xa_tr {t : Nat} (h : t < 3) : vp_nar .byte ((nI t + 1).toInt8.toInt32) = nI (t + 1) := by
  rw [nI_1]
  exact xa_by (by omega)
/-- one more label tried at the top frame: what is kept, and what is now on the bench -/
theorem qa_try {n : Nat} {g : Nat → Nat → Prop} {fA fR fU fa ft kd rg : Nat → Int32} {d st k p : Nat} (h : qa_S n g (d + 1) fA fR fU fa ft kd rg st) (hk : k < 3) (e : ft d = nI k) (ep : fa d = nI p) (hp : p < 8) :
    (∀ j, j < d + 1 → qa_F n j (fA j) (fR j) (fU j) (fa j) (upd ft d (nI (k + 1)) j)) ∧ qa_C n g (d + 1) fA fR fU fa (upd ft d (nI (k + 1))) kd (fun C => qa_cpt n g C (fA d) (fR d) (fU d) ∧ qa_has n g C k p) ∧ st + 1 + qa_W n fA fR fU (upd ft d (nI (k + 1))) (d + 1) + qa_tw (qa_oc n (fA d) (fR d) (fU d) - 1) ≤ 13120 := by
  obtain ⟨hF, hC, hK, hb⟩ := h
  refine ⟨?_, ?_, ?_⟩
  · intro j hj
    have t := hF j hj
    by_cases z : j = d
    · subst z
      rw [pk_us]
      exact ⟨t.1, t.2.1, ⟨k + 1, rfl, by omega⟩, t.2.2.2⟩
    · rw [pk_un z]; exact t
  · intro s hs hc
    rcases hC s hs hc with t | ⟨j, hj, t⟩ | t
    · exact Or.inl t
    · by_cases z : j = d
      · subst z
        obtain ⟨h1, k', h2, h3, h5⟩ := t
        rw [e, ya_cl (by omega : k < 256)] at h2
        by_cases z2 : k' = k
        · subst z2
          refine Or.inr (Or.inr ⟨h1, ?_⟩)
          rw [ep, ya_cl (by omega : p < 256)] at h5
          exact h5
        · refine Or.inr (Or.inl ⟨j, hj, h1, k', ?_, h3, h5⟩)
          rw [pk_us, ya_cl (by omega : k + 1 < 256)]
          omega
      · refine Or.inr (Or.inl ⟨j, hj, ?_⟩)
        rw [pk_un z]; exact t
    · exact t.elim
  · unfold qa_W at hb ⊢
    rw [qa_sm_s] at hb ⊢
    rw [pk_us, qa_sm_c (v := fun j => qa_w n (fA j) (fR j) (fU j) (ft j)) d (fun j hj => ?_)]
    · rw [e, qa_w_d hk] at hb
      omega
    · have z : j ≠ d := by omega
      rw [pk_un z]
end
section
/-! the search's loop: frames are tried until none is left -/
section
variable {post : SX → Prop} {n : Nat} {g : Nat → Nat → Prop} {E se : Int32} {ak tg : Nat → Int32}
theorem qa_pop {fA fR fU fa ft kd rg : Nat → Int32} {d st : Nat} (h : qa_S n g (d + 1) fA fR fU fa ft kd rg st) (e : ft d = 3) : qa_S n g d fA fR fU fa ft kd rg (st + 1) := by
  obtain ⟨hF, hC, hK, hb⟩ := h
  refine ⟨fun j hj => hF j (by omega), fun s hs hc => ?_, hK, ?_⟩
  · rcases hC s hs hc with t | ⟨j, hj, t⟩ | t
    · exact Or.inl t
    · by_cases z : j = d
      · subst z
        obtain ⟨_, k', h2, h3, _⟩ := t
        rw [e, show (3 : Int32).toNatClampNeg = 3 from by decide] at h2
        omega
      · exact Or.inr (Or.inl ⟨j, by omega, t⟩)
    · exact t.elim
  · unfold qa_W at hb ⊢
    rw [qa_sm_s] at hb
    have : 1 ≤ qa_w n (fA d) (fR d) (fU d) (ft d) := by unfold qa_w; omega
    omega
theorem xa_s62 (hn : n ≤ 8) (hE : ∀ i, bt E i = decide (i < n)) (hG : ∀ a b, g a b → a < n ∧ b < n) (hK : ∀ a, a < n → ∀ b, bt (ak a) b = true ↔ g b a)
    (hp : ∀ A R U ch fA fR fU fa ft kd rg, qa_K n g kd rg → (∀ s, s < 256 → qa_cmp n g (nI s) → kd s = 1) → wX_search_161 post (nI n) E A R U ch se ak tg fA fR fU fa ft kd rg) :
    ∀ m D st A R U ch fA fR fU fa ft kd rg, 13120 < st + m → qa_S n g D fA fR fU fa ft kd rg st → wX_search_62 post m (xa_d D) (nI st) (nI n) E A R U ch se ak tg fA fR fU fa ft kd rg := by
  intro m
  induction m with
  | zero =>
    intro D st A R U ch fA fR fU fa ft kd rg hm hS
    have := hS.2.2.2
    omega
  | succ m ih =>
    intro D st A R U ch fA fR fU fa ft kd rg hm hS
    have hst : st ≤ 13120 := by have := hS.2.2.2; omega
    cases D with
    | zero =>
      refine br_f (nI_ge (b := 30000) (by omega) (by decide)) (br_t (show (-1 : Int32) < 0 by decide) (hp _ _ _ _ _ _ _ _ _ _ _ hS.2.2.1 (fun s hs hc => ?_)))
      rcases hS.2.1 s hs hc with t | ⟨j, hj, _⟩ | t
      · exact t
      · omega
      · exact t.elim
    | succ d =>
      obtain ⟨hv, ⟨p, ep, hp', hop⟩, ⟨k, ek, hk⟩, hoc⟩ := hS.1 d (by omega)
      have pos : 0 < qa_oc n (fA d) (fR d) (fU d) := qa_cn_pos hp' hop
      have hi : vp_in (nI d) 9 := vp_in_nI (by omega) (by omega)
      have hc : (nI d).toNatClampNeg = d := ya_cl (by omega)
      show wX_search_62 post (m + 1) (nI d) (nI st) (nI n) E A R U ch se ak tg fA fR fU fa ft kd rg
      refine br_f (nI_ge (b := 30000) (by omega) (by decide)) (br_f (nI_pos (by omega)) ⟨hi, ?_⟩)
      rw [hc, ek, ep]
      by_cases k3 : k = 3
      · subst k3
        exact nm_e (br_t rfl (nm_r (xa_dm d) (nm_r (nI_1 st) (ih d (st + 1) _ _ _ _ _ _ _ _ _ _ _ (by omega) (qa_pop hS ek)))))
      · have hk3 : k < 3 := by omega
        have n3 : ¬ nI k = 3 := fun z => k3 ((nI_eq (a := k) (b := 3) (by omega) (by decide)).mp z)
        have tr := qa_try hS hk3 ek ep (by omega)
        refine nm_e (br_f n3 ⟨hi, ?_⟩)
        rw [xa_tr hk3]
        refine nm_e ⟨hi, nm_e ⟨hi, nm_e ⟨hi, nm_e ⟨hi, ?_⟩⟩⟩⟩
        refine xa_labelk (g := g) hk3 hn hv hp' hop (fun A1 R1 U1 hto => ?_)
        refine xa_propagate hn hE hG hK hto.1 (fun z A2 R2 U2 ch2 => ?_) (fun A2 R2 U2 ch2 hle hfix => ?_)
        · refine br_t rfl (nm_r (nI_1 st) (ih (d + 1) (st + 1) _ _ _ _ _ _ _ _ _ _ _ (by omega) ⟨tr.1, fun s hs hc => ?_, hS.2.2.1, by have := tr.2.2; omega⟩))
          rcases tr.2.1 s hs hc with t | t | t
          · exact Or.inl t
          · exact Or.inr (Or.inl t)
          · exact absurd (hto.2.2 _ hc t.1 t.2) (z _ hc)
        · refine br_f (by decide) (xa_after (D := d + 1) (st := st + 1) (q := qa_oc n (fA d) (fR d) (fU d) - 1) hn hE hG tr.1 (fun s hs hc => ?_) hS.2.2.1 hle.1 hfix ?_ (by omega) tr.2.2 (fun D' fA' fR' fU' fa' ft' kd' rg' hS' => nm_r (nI_1 st) (ih D' (st + 1) _ _ _ _ _ _ _ _ _ _ _ (by omega) hS')))
          · rcases tr.2.1 s hs hc with t | t | t
            · exact Or.inl t
            · exact Or.inr (Or.inl t)
            · exact Or.inr (Or.inr (hle.2.2 _ hc (hto.2.2 _ hc t.1 t.2)))
          · have h1 := hle.2.1
            have h2 := hto.2.1
            omega
theorem qa_val0 : qa_val n 0 0 0 := ⟨fun i h => (zb_tf h (b_0 i)).elim, fun i h => (zb_tf h (b_0 i)).elim, fun i h => (zb_tf h (b_0 i)).elim⟩
theorem qa_cpt0 {C : Int32} : qa_cpt n g C 0 0 0 := ⟨fun i h => (zb_tf h (b_0 i)).elim, fun i h => (zb_tf h (b_0 i)).elim, fun i h => (zb_tf h (b_0 i)).elim⟩
theorem xa_s10 {A R U ch : Int32} {fA fR fU fa ft rg : Nat → Int32} (hn : n ≤ 8) (hE : ∀ i, bt E i = decide (i < n)) (hG : ∀ a b, g a b → a < n ∧ b < n) (hK : ∀ a, a < n → ∀ b, bt (ak a) b = true ↔ g b a)
    (hp : ∀ A R U ch fA fR fU fa ft kd rg, qa_K n g kd rg → (∀ s, s < 256 → qa_cmp n g (nI s) → kd s = 1) → wX_search_161 post (nI n) E A R U ch se ak tg fA fR fU fa ft kd rg) :
    ∀ d j kd, j + d = 256 → (∀ s, s < j → kd s = 0) → wX_search_10 post (nI n) E A R U ch se (d + 1) (nI j) ak tg fA fR fU fa ft kd rg := by
  intro d
  induction d with
  | zero =>
    intro j kd hd hz
    have hz' : ∀ s, s < 256 → kd s = 0 := fun s hs => hz s (by omega)
    refine br_t (nI_le (a := 256) (by omega) (by omega)) (xa_propagate hn hE hG hK qa_val0 (fun z A2 R2 U2 ch2 => br_t rfl ⟨13121, ?_⟩) (fun A2 R2 U2 ch2 hle hfix => br_f (by decide) ?_))
    · exact xa_s62 hn hE hG hK hp 13121 0 0 _ _ _ _ _ _ _ _ _ _ _ (by omega) ⟨fun j hj => by omega, fun s hs hc => absurd qa_cpt0 (z _ hc), fun s hs => Or.inl (hz' s hs), by show 0 + 0 ≤ 13120; omega⟩
    · refine xa_after (D := 0) (st := 0) (q := 8) hn hE hG (fun j hj => by omega) (fun s hs hc => Or.inr (Or.inr (hle.2.2 _ hc qa_cpt0))) (fun s hs => Or.inl (hz' s hs)) hle.1 hfix ?_ (by omega) (by show 0 + 0 + 13120 ≤ 13120; omega) (fun D' fA' fR' fU' fa' ft' kd' rg' hS' => ⟨13121, xa_s62 hn hE hG hK hp 13121 D' 0 _ _ _ _ _ _ _ _ _ _ _ (by omega) hS'⟩)
      have := qa_cn_le (qa_op A2 R2 U2) n
      unfold qa_oc
      omega
  | succ d ih =>
    intro j kd hd hz
    refine br_f (nI_ge (b := 256) (by omega) (by decide)) ⟨vp_in_nI (by omega) (by omega), ?_⟩
    rw [ya_cl (by omega : j < 256), xa_b0]
    refine nm_e (nm_r (nI_1 j) (ih (j + 1) _ (by omega) (fun s hs => ?_)))
    by_cases z : s = j
    · subst z; exact pk_us
    · rw [pk_un z]; exact hz s (by omega)
end
end
section
/-! compare: the complete sets are ranked among each other -/
/-- a flag x says whether Q holds of all below m -/
def qa_fl (x : Int32) (Q : Nat → Prop) (m : Nat) : Prop := (x = 0 → ¬ ∀ o, o < m → Q o) ∧ (¬ x = 0 → ∀ o, o < m → Q o)
theorem qa_fl0 {x : Int32} {Q : Nat → Prop} (hx : ¬ x = 0) : qa_fl x Q 0 := ⟨fun z => absurd z hx, fun _ o ho => by omega⟩
theorem qa_fl_keep {x : Int32} {Q : Nat → Prop} {m : Nat} (h : qa_fl x Q m) (hq : Q m) : qa_fl x Q (m + 1) := by
  refine ⟨fun z t => h.1 z (fun o ho => t o (by omega)), fun z o ho => ?_⟩
  by_cases e : o = m
  · subst e; exact hq
  · exact h.2 z o (by omega)
theorem qa_fl_no {Q : Nat → Prop} {m : Nat} (hq : ¬ Q m) : qa_fl 0 Q (m + 1) := ⟨fun _ t => hq (t m (by omega)), fun z => absurd rfl z⟩
def qa_Q1 (n : Nat) (g : Nat → Nat → Prop) (s o : Nat) : Prop := qa_cmp n g (nI o) → qa_sub (nI s) (nI o) → o = s
def qa_Q2 (n : Nat) (g : Nat → Nat → Prop) (s o : Nat) : Prop := qa_cmp n g (nI o) → qa_rle g (nI s) (nI o) → qa_rle g (nI o) (nI s)
theorem qa_cmpmask {n : Nat} {g : Nat → Nat → Prop} (hn : n ≤ 8) {y : Int32} (h : qa_cmp n g y) : ∃ o, o < 256 ∧ y = nI o := by
  obtain ⟨m, hm, e⟩ := qa_ismask h.1
  have := zb_p8 hn
  exact ⟨m, by omega, e⟩
theorem qa_Q1I {n : Nat} {g : Nat → Nat → Prop} (hn : n ≤ 8) {s : Nat} (hs : s < 256) (hc : qa_cmp n g (nI s)) : (∀ o, o < 256 → qa_Q1 n g s o) ↔ qa_is n g 1 (nI s) := by
  refine Iff.trans (Iff.intro (fun h => ?_) (fun h => ?_)) (qa_pref hn).symm
  · refine ⟨hc, fun y hy hsub => ?_⟩
    obtain ⟨o, ho, rfl⟩ := qa_cmpmask hn hy
    rw [h o ho hy hsub]
  · intro o ho hco hsub
    exact (nI_eq (by omega) (by omega)).mp (h.2 _ hco hsub)
theorem qa_Q2I {n : Nat} {g : Nat → Nat → Prop} (hn : n ≤ 8) {s : Nat} (hc : qa_cmp n g (nI s)) : (∀ o, o < 256 → qa_Q2 n g s o) ↔ qa_is n g 3 (nI s) := by
  refine Iff.trans (Iff.intro (fun h => ?_) (fun h => ?_)) (qa_semi hn).symm
  · refine ⟨hc, fun y hy hsub => ?_⟩
    obtain ⟨o, ho, rfl⟩ := qa_cmpmask hn hy
    exact h o ho hy hsub
  · intro o ho hco hsub
    exact h.2 _ hco hsub
theorem qa_stI {n : Nat} {g : Nat → Nat → Prop} (hG : ∀ a b, g a b → a < n ∧ b < n) {x r E : Int32} (hE : ∀ i, bt E i = decide (i < n)) (hc : qa_cmp n g x) (hr : ∀ b, bt r b = true ↔ qa_rg g x b) : r = E ↔ qa_is n g 2 x := by
  refine Iff.trans (Iff.intro (fun h => ?_) (fun h => ?_)) (qa_stab hG).symm
  · refine ⟨hc, fun b hb => ?_⟩
    rw [← hr b, h, hE b]; exact decide_eq_true hb
  · refine qa_anti (fun b hb => ?_) (fun b hb => ?_)
    · rw [hE b] at hb
      exact (hr b).mpr (h.2 b (of_decide_eq_true hb))
    · rw [hE b]
      refine decide_eq_true ?_
      rcases (hr b).mp hb with t | ⟨a, _, t⟩
      · exact (hc.1.2 b t).1
      · exact (hG a b t).2
theorem qa_c2 (i : Nat) : bt 2 i = true ↔ i = 1 := by
  have h : bt 2 i = decide (i = 1) := by
    rcases Nat.lt_or_ge i 32 with h | h
    · exact (by decide +kernel : ∀ i, i < 32 → bt 2 i = decide (i = 1)) i h
    · rw [b_big h, decide_eq_false (by omega)]
  rw [h, decide_eq_true_iff]
theorem qa_c4 (i : Nat) : bt 4 i = true ↔ i = 2 := by
  have h : bt 4 i = decide (i = 2) := by
    rcases Nat.lt_or_ge i 32 with h | h
    · exact (by decide +kernel : ∀ i, i < 32 → bt 4 i = decide (i = 2)) i h
    · rw [b_big h, decide_eq_false (by omega)]
  rw [h, decide_eq_true_iff]
theorem qa_c8 (i : Nat) : bt 8 i = true ↔ i = 3 := by
  have h : bt 8 i = decide (i = 3) := by
    rcases Nat.lt_or_ge i 32 with h | h
    · exact (by decide +kernel : ∀ i, i < 32 → bt 8 i = decide (i = 3)) i h
    · rw [b_big h, decide_eq_false (by omega)]
  rw [h, decide_eq_true_iff]
theorem qa_ad {x c : Int32} {Q : Nat → Prop} {k : Nat} {P : Prop} (hx : ∀ i, bt x i = true ↔ Q i) (hc : ∀ i, bt c i = true ↔ i = k) (hP : P) : ∀ i, bt (x ||| c) i = true ↔ (Q i ∨ (i = k ∧ P)) := by
  intro i
  rw [qa_orT, hx i, hc i]
  exact ⟨fun h => h.elim Or.inl (fun t => Or.inr ⟨t, hP⟩), fun h => h.elim Or.inl (fun t => Or.inr t.1)⟩
theorem qa_adn {x : Int32} {Q : Nat → Prop} {k : Nat} {P : Prop} (hx : ∀ i, bt x i = true ↔ Q i) (hP : ¬ P) : ∀ i, bt x i = true ↔ (Q i ∨ (i = k ∧ P)) :=
  fun i => (hx i).trans ⟨Or.inl, fun h => h.elim (fun t => t) (fun t => absurd t.2 hP)⟩
section
variable {post : SX → Prop} {J2 : Int32 → (Nat → Int32) → (Nat → Int32) → (Nat → Int32) → (Nat → Int32) → (Nat → Int32) → (Nat → Int32) → (Nat → Int32) → (Nat → Int32) → (Nat → Int32) → Prop} {N E A R U ch se : Int32} {ak tg fA fR fU fa ft kd rg : Nat → Int32} {s : Nat}
theorem xa_c157 (hs : s < 256) {x : Int32} (hx : ∀ i, bt x i = true → i < 4) (hJ : J2 (nI (s + 1)) ak tg fA fR fU fa ft (upd kd s x) rg) : wX_compare_157 post J2 (nI s) x N E A R U ch se ak tg fA fR fU fa ft kd rg := by
  obtain ⟨p, hp, rfl⟩ := zb_mask hx
  unfold wX_compare_157
  rw [ya_cl hs, xa_by hp, nI_1]
  exact ⟨vp_in_nI hs (by omega), nm_e (nm_e hJ)⟩
theorem xa_c146 (hs : s < 256) {x x3 : Int32} {Q : Nat → Prop} {P : Prop} (hx : ∀ i, bt x i = true ↔ Q i) (hQ : ∀ i, Q i → i < 4) (h0 : x3 = 0 → ¬ P) (h1 : ¬ x3 = 0 → P) (hJ : ∀ c, (∀ i, bt c i = true ↔ (Q i ∨ (i = 3 ∧ P))) → J2 (nI (s + 1)) ak tg fA fR fU fa ft (upd kd s c) rg) : wX_compare_146 post J2 (nI s) x3 x N E A R U ch se ak tg fA fR fU fa ft kd rg := by
  have hlt : ∀ i, (Q i ∨ (i = 3 ∧ P)) → i < 4 := fun i h => h.elim (hQ i) (fun t => by omega)
  refine br_c (fun z => ?_) (fun z => nm_e ?_)
  · have t := qa_adn (k := 3) hx (h0 z)
    exact xa_c157 hs (fun i hi => hlt i ((t i).mp hi)) (hJ x t)
  · have t := qa_ad hx qa_c8 (h1 z)
    exact xa_c157 hs (fun i hi => hlt i ((t i).mp hi)) (hJ _ t)
theorem xa_c127 (hs : s < 256) {x x3 : Int32} {Q : Nat → Prop} {P P2 : Prop} (hx : ∀ i, bt x i = true ↔ Q i) (hQ : ∀ i, Q i → i < 4) (h2 : rg s = E ↔ P2) (h0 : x3 = 0 → ¬ P) (h1 : ¬ x3 = 0 → P) (hJ : ∀ c, (∀ i, bt c i = true ↔ ((Q i ∨ (i = 2 ∧ P2)) ∨ (i = 3 ∧ P))) → J2 (nI (s + 1)) ak tg fA fR fU fa ft (upd kd s c) rg) : wX_compare_127 post J2 (nI s) x3 x N E A R U ch se ak tg fA fR fU fa ft kd rg := by
  have hlt : ∀ i, (Q i ∨ (i = 2 ∧ P2)) → i < 4 := fun i h => h.elim (hQ i) (fun t => by omega)
  unfold wX_compare_127
  rw [ya_cl hs]
  refine ⟨vp_in_nI hs (by omega), br_c (fun z => nm_e ?_) (fun z => ?_)⟩
  · exact xa_c146 hs (qa_ad hx qa_c4 (h2.mp z)) hlt h0 h1 hJ
  · exact xa_c146 hs (qa_adn (k := 2) hx (fun t => z (h2.mpr t))) hlt h0 h1 hJ
end
/-- what compare keeps: kinds are nonzero at the complete sets, and ranked below j -/
def qa_P (n : Nat) (g : Nat → Nat → Prop) (j : Nat) (kd rg : Nat → Int32) : Prop := ∀ s, s < 256 →
  (¬ kd s = 0 ↔ qa_cmp n g (nI s)) ∧ (qa_cmp n g (nI s) → ∀ b, bt (rg s) b = true ↔ qa_rg g (nI s) b) ∧ (s < j → ∀ k, k < 4 → (bt (kd s) k = true ↔ qa_is n g k (nI s))) ∧ (j ≤ s → kd s = 0 ∨ kd s = 1)
theorem qa_P0 {n : Nat} {g : Nat → Nat → Prop} {kd rg : Nat → Int32} (hK : qa_K n g kd rg) (hc : ∀ s, s < 256 → qa_cmp n g (nI s) → kd s = 1) : qa_P n g 0 kd rg := by
  intro s hs
  refine ⟨⟨fun h => ?_, fun h => ?_⟩, fun h => ?_, fun h => by omega, fun _ => ?_⟩
  · exact (hK s hs).elim (fun t => absurd t h) (fun t => t.2.1)
  · rw [hc s hs h]; decide
  · refine (hK s hs).elim (fun t => ?_) (fun t => t.2.2)
    rw [hc s hs h] at t
    exact absurd t (by decide)
  · exact (hK s hs).elim Or.inl (fun t => Or.inr t.1)
theorem qa_P_skip {n : Nat} {g : Nat → Nat → Prop} (hn : n ≤ 8) (hG : ∀ a b, g a b → a < n ∧ b < n) {kd rg : Nat → Int32} {j : Nat} (h : qa_P n g j kd rg) (hj : j < 256) (z : kd j = 0) : qa_P n g (j + 1) kd rg := by
  intro s hs
  have t := h s hs
  refine ⟨t.1, t.2.1, fun h1 k hk => ?_, fun h1 => t.2.2.2 (by omega)⟩
  by_cases e : s = j
  · subst e
    rw [z, b_0]
    exact ⟨fun h => absurd h (by decide), fun h => absurd z (t.1.mpr (qa_iscmp hn hG k h))⟩
  · exact t.2.2.1 (by omega) k hk
theorem qa_P_put {n : Nat} {g : Nat → Nat → Prop} {kd rg : Nat → Int32} {j : Nat} (h : qa_P n g j kd rg) (hc : qa_cmp n g (nI j)) {c : Int32} (hb : ∀ i, bt c i = true ↔ (((i = 0 ∨ (i = 1 ∧ qa_is n g 1 (nI j))) ∨ (i = 2 ∧ qa_is n g 2 (nI j))) ∨ (i = 3 ∧ qa_is n g 3 (nI j)))) : qa_P n g (j + 1) (upd kd j c) rg := by
  intro s hs
  have t := h s hs
  by_cases e : s = j
  · subst e
    rw [pk_us]
    refine ⟨⟨fun _ => hc, fun _ => zb_nz' (i := 0) ((hb 0).mpr (Or.inl (Or.inl (Or.inl rfl))))⟩, t.2.1, fun _ k hk => ?_, fun h1 => by omega⟩
    rw [hb k]
    match k, hk with
    | 0, _ => exact ⟨fun _ => hc, fun _ => Or.inl (Or.inl (Or.inl rfl))⟩
    | 1, _ => exact ⟨fun h => by rcases h with ((h | h) | h) | h <;> first | exact h.2 | omega, fun h => Or.inl (Or.inl (Or.inr ⟨rfl, h⟩))⟩
    | 2, _ => exact ⟨fun h => by rcases h with ((h | h) | h) | h <;> first | exact h.2 | omega, fun h => Or.inl (Or.inr ⟨rfl, h⟩)⟩
    | 3, _ => exact ⟨fun h => by rcases h with ((h | h) | h) | h <;> first | exact h.2 | omega, fun h => Or.inr ⟨rfl, h⟩⟩
  · rw [pk_un e]
    exact ⟨t.1, t.2.1, fun h1 => t.2.2.1 (by omega), fun h1 => t.2.2.2 (by omega)⟩
section
variable {post : SX → Prop} {n : Nat} {g : Nat → Nat → Prop} {N E A R U ch se : Int32} {ak tg fA fR fU fa ft rg : Nat → Int32}
theorem xa_c28 {J2 : Int32 → (Nat → Int32) → (Nat → Int32) → (Nat → Int32) → (Nat → Int32) → (Nat → Int32) → (Nat → Int32) → (Nat → Int32) → (Nat → Int32) → (Nat → Int32) → Prop} {kd : Nat → Int32} {s : Nat} (hn : n ≤ 8) (hE : ∀ i, bt E i = decide (i < n)) (hG : ∀ a b, g a b → a < n ∧ b < n) (hs : s < 256) (hP : qa_P n g s kd rg) (hz : ¬ kd s = 0)
    (hJ : ∀ c, qa_P n g (s + 1) (upd kd s c) rg → J2 (nI (s + 1)) ak tg fA fR fU fa ft (upd kd s c) rg) :
    ∀ d m x2 x3, m + d = 256 → qa_fl x2 (qa_Q1 n g s) m → qa_fl x3 (qa_Q2 n g s) m → wX_compare_28 post J2 (nI s) N E A R U ch se ak tg fA fR fU fa ft kd rg (d + 1) x2 x3 (nI m) := by
  have hc : qa_cmp n g (nI s) := (hP s hs).1.mp hz
  have hr := (hP s hs).2.1 hc
  intro d
  induction d with
  | zero =>
    intro m x2 x3 hd f1 f2
    have em : m = 256 := by omega
    subst em
    have k1 : kd s = 1 := ((hP s hs).2.2.2 (Nat.le_refl s)).elim (fun t => absurd t hz) (fun t => t)
    have b1 : ∀ i, bt 1 i = true ↔ i = 0 := fun i => by rw [zb_1, decide_eq_true_iff]
    refine br_t (nI_le (a := 256) (by omega) (by omega)) ⟨vp_in_nI hs (by omega), ?_⟩
    rw [ya_cl hs, k1]
    have h20 : x2 = 0 → ¬ qa_is n g 1 (nI s) := fun z t => f1.1 z ((qa_Q1I hn hs hc).mpr t)
    have h21 : ¬ x2 = 0 → qa_is n g 1 (nI s) := fun z => (qa_Q1I hn hs hc).mp (f1.2 z)
    have h30 : x3 = 0 → ¬ qa_is n g 3 (nI s) := fun z t => f2.1 z ((qa_Q2I hn hc).mpr t)
    have h31 : ¬ x3 = 0 → qa_is n g 3 (nI s) := fun z => (qa_Q2I hn hc).mp (f2.2 z)
    have lt4 : ∀ i, (i = 0 ∨ (i = 1 ∧ qa_is n g 1 (nI s))) → i < 4 := fun i h => h.elim (fun t => by omega) (fun t => by omega)
    refine nm_e (br_c (fun z => ?_) (fun z => nm_e ?_))
    · exact xa_c127 hs (qa_adn (k := 1) b1 (h20 z)) lt4 (qa_stI hG hE hc hr) h30 h31 (fun c hb => hJ c (qa_P_put hP hc hb))
    · exact xa_c127 hs (qa_ad b1 qa_c2 (h21 z)) lt4 (qa_stI hG hE hc hr) h30 h31 (fun c hb => hJ c (qa_P_put hP hc hb))
  | succ d ih =>
    intro m x2 x3 hd f1 f2
    have hm : m < 256 := by omega
    have hin : vp_in (nI m) 256 := vp_in_nI hm (by omega)
    have his : vp_in (nI s) 256 := vp_in_nI hs (by omega)
    have w66 : qa_cmp n g (nI m) → ∀ y2, qa_fl y2 (qa_Q1 n g s) (m + 1) → wX_compare_66 post J2 (wX_compare_28 post J2 (nI s) N E A R U ch se ak tg fA fR fU fa ft kd rg (d + 1)) (nI s) y2 x3 (nI m) N E A R U ch se ak tg fA fR fU fa ft kd rg := by
      intro hcm y2 g1
      have hrm := (hP m hm).2.1 hcm
      unfold wX_compare_66
      rw [ya_cl hm, ya_cl hs]
      refine ⟨hin, his, br_c (fun z => nm_r (nI_1 m) (ih (m + 1) _ _ (by omega) g1 (qa_fl_keep f2 (fun _ _ b hb => ?_)))) (fun z => ⟨his, hin, br_c (fun z2 => nm_r (nI_1 m) (ih (m + 1) _ _ (by omega) g1 (qa_fl_no (fun hq => z ?_)))) (fun z2 => nm_r (nI_1 m) (ih (m + 1) _ _ (by omega) g1 (qa_fl_keep f2 (fun _ hle => absurd ?_ z2))))⟩)⟩
      · rw [← hr b, ← z, hrm b]; exact hb
      · have le : qa_rle g (nI s) (nI m) := fun b hb => (hrm b).mp (zb_andn z2 b ((hr b).mpr hb))
        have ge := hq hcm le
        exact qa_anti (fun b hb => (hrm b).mpr (le b ((hr b).mp hb))) (fun b hb => (hr b).mpr (ge b ((hrm b).mp hb)))
      · exact zb_andn' (fun b hb => (hrm b).mpr (hle b ((hr b).mp hb)))
    refine br_f (nI_ge (b := 256) hm (by decide)) ⟨hin, ?_⟩
    rw [ya_cl hm]
    refine br_c (fun z => ?_) (fun z => ?_)
    · have nc : ¬ qa_cmp n g (nI m) := fun t => (hP m hm).1.mpr t z
      exact nm_r (nI_1 m) (ih (m + 1) _ _ (by omega) (qa_fl_keep f1 (fun t => absurd t nc)) (qa_fl_keep f2 (fun t => absurd t nc)))
    · have hcm := (hP m hm).1.mp z
      refine br_c (fun z2 => w66 hcm _ (qa_fl_keep f1 (fun _ _ => (nI_eq (by omega) (by omega)).mp z2))) (fun z2 => br_c (fun z3 => w66 hcm _ (qa_fl_no (fun hq => z2 (congrArg nI (hq hcm (zb_andn z3)))))) (fun z3 => w66 hcm _ (qa_fl_keep f1 (fun _ hsub => absurd (zb_andn' hsub) z3))))
theorem xa_c2 (hn : n ≤ 8) (hE : ∀ i, bt E i = decide (i < n)) (hG : ∀ a b, g a b → a < n ∧ b < n)
    (hp : ∀ kd, qa_P n g 256 kd rg → post (N, E, A, R, U, ch, se, ak, tg, fA, fR, fU, fa, ft, kd, rg)) :
    ∀ d j kd, j + d = 256 → qa_P n g j kd rg → wX_compare_2 post N E A R U ch se (d + 1) (nI j) ak tg fA fR fU fa ft kd rg := by
  intro d
  induction d with
  | zero =>
    intro j kd hd hP
    have ej : j = 256 := by omega
    subst ej
    exact br_t (nI_le (a := 256) (by omega) (by omega)) (hp kd hP)
  | succ d ih =>
    intro j kd hd hP
    have hj : j < 256 := by omega
    refine br_f (nI_ge (b := 256) hj (by decide)) ⟨vp_in_nI hj (by omega), ?_⟩
    rw [ya_cl hj]
    refine br_c (fun z => nm_r (nI_1 j) (ih (j + 1) _ (by omega) (qa_P_skip hn hG hP hj z))) (fun z => ⟨257, ?_⟩)
    exact xa_c28 hn hE hG hj hP z (fun c hc => ih (j + 1) _ (by omega) hc) 256 0 1 1 (by omega) (qa_fl0 (by decide)) (qa_fl0 (by decide))
/-- the kinds are known -/
def qa_good (n : Nat) (g : Nat → Nat → Prop) (kd : Nat → Int32) : Prop := ∀ s, s < 256 → ∀ k, k < 4 → (bt (kd s) k = true ↔ qa_is n g k (nI s))
theorem xa_compare {kd : Nat → Int32} (hn : n ≤ 8) (hE : ∀ i, bt E i = decide (i < n)) (hG : ∀ a b, g a b → a < n ∧ b < n) (hK : qa_K n g kd rg) (hc : ∀ s, s < 256 → qa_cmp n g (nI s) → kd s = 1)
    (hp : ∀ kd', qa_good n g kd' → post (N, E, A, R, U, ch, se, ak, tg, fA, fR, fU, fa, ft, kd', rg)) : wpX_compare post (N, E, A, R, U, ch, se, ak, tg, fA, fR, fU, fa, ft, kd, rg) :=
  ⟨257, xa_c2 hn hE hG (fun kd' h => hp kd' (fun s hs => (h s hs).2.2.1 hs)) 256 0 kd (by omega) (qa_P0 hK hc)⟩
theorem xa_search {kd : Nat → Int32} (hn : n ≤ 8) (hE : ∀ i, bt E i = decide (i < n)) (hG : ∀ a b, g a b → a < n ∧ b < n) (hK : ∀ a, a < n → ∀ b, bt (ak a) b = true ↔ g b a)
    (h1 : ¬ se = 0 → post (nI n, E, A, R, U, ch, se, ak, tg, fA, fR, fU, fa, ft, kd, rg))
    (hp : ∀ A R U ch se fA fR fU fa ft kd rg, qa_good n g kd → post (nI n, E, A, R, U, ch, se, ak, tg, fA, fR, fU, fa, ft, kd, rg)) : wpX_search post (nI n, E, A, R, U, ch, se, ak, tg, fA, fR, fU, fa, ft, kd, rg) := by
  refine br_c (fun z => ⟨257, xa_s10 hn hE hG hK (fun A2 R2 U2 ch2 fA2 fR2 fU2 fa2 ft2 kd2 rg2 h3 h4 => ?_) 256 0 kd (by omega) (fun s hs => by omega)⟩) h1
  unfold wX_search_161
  exact xa_compare hn hE hG h3 h4 (fun kd3 h5 => hp _ _ _ _ _ _ _ _ _ _ _ _ h5)
end
end
section
/-! grounded: the least set that holds all that it defends -/
def qa_pre (n : Nat) (g : Nat → Nat → Prop) (x : Int32) : Prop := ∀ b, qa_dfd n g x b → bt x b = true
def qa_gr (n : Nat) (g : Nat → Nat → Prop) (A R : Int32) : Prop := (∀ b, bt R b = true ↔ qa_atk g A b) ∧ (∀ i, bt A i = true → i < n) ∧ ∀ x, qa_pre n g x → qa_sub A x
theorem qa_gr_put {n : Nat} {g : Nat → Nat → Prop} (hn : n ≤ 8) {A R y w : Int32} {a : Nat} (h : qa_gr n g A R) (ha : a < n) (hy : ∀ c, bt y c = true ↔ g c a) (hw : ∀ b, bt w b = true ↔ g a b) (hz : y &&& (R ^^^ (-1)) = 0) : qa_gr n g (A ||| ((1 : Int32) <<< (nI a &&& 31))) (R ||| w) := by
  have h32 : a < 32 := by omega
  refine ⟨fun b => ?_, fun i hi => ?_, fun x hx b hb => ?_⟩
  · rw [qa_orT, h.1 b, hw b]
    constructor
    · intro t
      rcases t with ⟨c, h1, h2⟩ | t
      · exact ⟨c, (qa_b1 h32).mpr (Or.inl h1), h2⟩
      · exact ⟨a, (qa_b1 h32).mpr (Or.inr rfl), t⟩
    · intro ⟨c, h1, h2⟩
      rcases (qa_b1 h32).mp h1 with t | t
      · exact Or.inl ⟨c, t, h2⟩
      · subst t; exact Or.inr h2
  · rcases (qa_b1 h32).mp hi with t | t
    · exact h.2.1 i t
    · subst t; exact ha
  · rcases (qa_b1 h32).mp hb with t | t
    · exact h.2.2 x hx b t
    · subst t
      exact hx b ⟨ha, fun c hc => qa_atk_up (h.2.2 x hx) ((h.1 c).mp (zb_andn hz c ((hy c).mpr hc)))⟩
def qa_gd (n : Nat) (A ch : Int32) (c1 : Nat) (Q : Prop) : Prop := (ch = 1 ∧ c1 < qa_cn (bt A) n) ∨ (ch = 0 ∧ Q)
section
variable {post : Int32 → SX → Prop} {n : Nat} {g : Nat → Nat → Prop} {E U se : Int32} {ak tg fA fR fU fa ft kd rg : Nat → Int32}
theorem xa_g39 {J : Int32 → Int32 → Int32 → Int32 → Prop} {x1 : Int32} {c1 : Nat} (hn : n ≤ 8) (hK : ∀ a, a < n → ∀ b, bt (ak a) b = true ↔ g b a) (hT : ∀ a, a < n → ∀ b, bt (tg a) b = true ↔ g a b)
    (hJ : ∀ A R ch, qa_gr n g A R → qa_gd n A ch c1 (qa_pre n g A) → J (x1 + 1) A R ch) :
    ∀ d a A R ch, a + d = n → qa_gr n g A R → c1 ≤ qa_cn (bt A) n → qa_gd n A ch c1 (∀ c, c < a → qa_dfd n g A c → bt A c = true) → wX_grounded_39 post J x1 (nI n) E U se ak tg fA fR fU fa ft kd rg (d + 1) (nI a) A R ch := by
  intro d
  induction d with
  | zero =>
    intro a A R ch hd hg hc hr
    have e : a = n := by omega
    subst e
    exact br_t (nI_le (Nat.le_refl a) (by omega)) (nm_e (hJ A R ch hg (hr.elim Or.inl (fun t => Or.inr ⟨t.1, fun b hb => t.2 b hb.1 hb⟩))))
  | succ d ih =>
    intro a A R ch hd hg hc hr
    have ha : a < n := by omega
    have hi : vp_in (nI a) 8 := vp_in_nI (by omega) (by omega)
    have next : (qa_dfd n g A a → bt A a = true) → wX_grounded_39 post J x1 (nI n) E U se ak tg fA fR fU fa ft kd rg (d + 1) (nI (a + 1)) A R ch := by
      intro ok
      refine ih (a + 1) A R ch (by omega) hg hc (hr.elim Or.inl (fun t => Or.inr ⟨t.1, fun c h1 h2 => ?_⟩))
      by_cases e : c = a
      · subst e; exact ok h2
      · exact t.2 c (by omega) h2
    refine br_f (nI_ge ha (by omega)) ⟨hi, ?_⟩
    rw [ya_cl (by omega : a < 256)]
    refine br_c (fun z => zb_br (by omega) (fun z2 => nm_e ⟨hi, nm_e (nm_r (nI_1 a) ?_)⟩) (fun z2 => nm_r (nI_1 a) (next (fun _ => z2)))) (fun z => nm_r (nI_1 a) (next (fun hd => absurd ?_ z)))
    · have h32 : a < 32 := by omega
      have lt := qa_cn_lt (p := bt A) (r := bt (A ||| ((1 : Int32) <<< (nI a &&& 31)))) n (fun i _ t => (qa_b1 h32).mpr (Or.inl t)) a ha ((qa_b1 h32).mpr (Or.inr rfl)) z2
      exact ih (a + 1) _ _ _ (by omega) (qa_gr_put hn hg ha (hK a ha) (hT a ha) z) (by omega) (Or.inl ⟨rfl, by omega⟩)
    · exact zb_andn' (fun c hc2 => (hg.1 c).mpr (hd.2 c ((hK a ha c).mp hc2)))
theorem xa_g17 (hn : n ≤ 8) (hK : ∀ a, a < n → ∀ b, bt (ak a) b = true ↔ g b a) (hT : ∀ a, a < n → ∀ b, bt (tg a) b = true ↔ g a b)
    (hp : ∀ A R ch, qa_gr n g A R → qa_pre n g A → post A (nI n, E, A, R, U, ch, se, ak, tg, fA, fR, fU, fa, ft, kd, rg)) :
    ∀ d j A R ch, j + d = n + 1 → qa_gr n g A R → ((ch = 1 ∧ j ≤ qa_cn (bt A) n) ∨ (ch = 0 ∧ qa_pre n g A)) → wX_grounded_17 post (nI n) E U se ak tg fA fR fU fa ft kd rg (d + 1) (nI j) A R ch := by
  intro d
  induction d with
  | zero =>
    intro j A R ch hd hg hr
    refine br_t (nI_lt (by omega) (by omega)) (hr.elim (fun t => ?_) (fun t => hp A R ch hg t.2))
    have := qa_cn_le (bt A) n
    omega
  | succ d ih =>
    intro j A R ch hd hg hr
    refine br_f (nI_nlt (by omega) (by omega)) (br_c (fun z => hr.elim (fun t => ?_) (fun t => hp A R ch hg t.2)) (fun z => ⟨n + 1, ?_⟩))
    · exact absurd (t.1.symm.trans z) (by decide)
    · have hj : j ≤ qa_cn (bt A) n := hr.elim (fun t => t.2) (fun t => absurd t.1 z)
      refine xa_g39 (c1 := qa_cn (bt A) n) hn hK hT (fun A2 R2 ch2 hg2 hr2 => ?_) n 0 A R 0 (by omega) hg (Nat.le_refl _) (Or.inr ⟨rfl, fun c hc => by omega⟩)
      rw [nI_1]
      exact ih (j + 1) A2 R2 ch2 (by omega) hg2 (hr2.elim (fun t => Or.inl ⟨t.1, by omega⟩) Or.inr)
theorem xa_grounded {A R ch : Int32} (hn : n ≤ 8) (hK : ∀ a, a < n → ∀ b, bt (ak a) b = true ↔ g b a) (hT : ∀ a, a < n → ∀ b, bt (tg a) b = true ↔ g a b)
    (hp : ∀ A R ch, qa_gr n g A R → qa_pre n g A → post A (nI n, E, A, R, U, ch, se, ak, tg, fA, fR, fU, fa, ft, kd, rg)) : wpX_grounded post (nI n, E, A, R, U, ch, se, ak, tg, fA, fR, fU, fa, ft, kd, rg) := by
  refine ⟨n + 2, xa_g17 hn hK hT hp (n + 1) 0 0 0 1 (by omega) ⟨fun b => ⟨fun h => (zb_tf h (b_0 b)).elim, fun ⟨a, h, _⟩ => (zb_tf h (b_0 a)).elim⟩, fun i h => (zb_tf h (b_0 i)).elim, fun x _ i h => (zb_tf h (b_0 i)).elim⟩ (Or.inl ⟨rfl, Nat.zero_le _⟩)⟩
end
/-! the reference's grounded -/
def qa_lst (n : Nat) (g : Nat → Nat → Prop) (s : Nat) : Prop := qa_pre n g (nI s) ∧ ∀ o, o < 2 ^ n → qa_pre n g (nI o) → qa_sub (nI s) (nI o)
section
variable {post : Int32 → Prop} {n : Nat} {N : Int32} {th : Nat → Int32}
theorem ya_preI {x r : Int32} (hr : ∀ b, bt r b = true ↔ qa_dfd n (qa_g th) x b) : r &&& (x ^^^ (-1)) = 0 ↔ qa_pre n (qa_g th) x :=
  ⟨fun z b hb => zb_andn z b ((hr b).mpr hb), fun h => zb_andn' (fun b hb => h b ((hr b).mp hb))⟩
theorem ya_g70 {J2 : Int32 → Prop} {s : Nat} {x2 e : Int32} (h0 : x2 = 0 → J2 (nI (s + 1))) (h1 : ¬ x2 = 0 → post (nI s)) : wY_grounded_70 post J2 (nI s) x2 N e th :=
  br_c (fun z => nm_r (nI_1 s) (h0 z)) h1
theorem ya_g30 {J2 : Int32 → Prop} {s : Nat} (hn : n ≤ 8) (h1 : qa_lst n (qa_g th) s → post (nI s)) (h0 : ¬ qa_lst n (qa_g th) s → J2 (nI (s + 1))) :
    ∀ d m x2, m + d = 2 ^ n → (x2 = 0 → ¬ qa_lst n (qa_g th) s) → (¬ x2 = 0 → qa_pre n (qa_g th) (nI s) ∧ ∀ o, o < m → qa_pre n (qa_g th) (nI o) → qa_sub (nI s) (nI o)) → wY_grounded_30 post J2 (nI s) N (nI (2 ^ n - 1)) th (d + 1) x2 (nI m) := by
  have h8 := zb_p8 hn
  intro d
  induction d with
  | zero =>
    intro m x2 hd f0 f1
    refine br_t (ya_all hn (by omega) (by omega)) (ya_g70 (fun z => h0 (f0 z)) (fun z => h1 ⟨(f1 z).1, fun o ho => (f1 z).2 o (by omega)⟩))
  | succ d ih =>
    intro m x2 hd f0 f1
    have hm : m < 2 ^ n := by omega
    refine br_f (ya_nall hn hm) (br_c (fun z => ya_g70 (fun z => h0 (f0 z)) (fun z2 => absurd z z2)) (fun z => ya_defended (ya_e hn) (fun r hr => br_c (fun z2 => br_c (fun z3 => nm_r (nI_1 m) ?_) (fun z3 => nm_r (nI_1 m) ?_)) (fun z2 => nm_r (nI_1 m) ?_))))
    · refine ih (m + 1) x2 (by omega) f0 (fun t => ⟨(f1 t).1, fun o ho h => ?_⟩)
      by_cases e : o = m
      · subst e; exact zb_andn z3
      · exact (f1 t).2 o (by omega) h
    · refine ih (m + 1) 0 (by omega) (fun _ hl => z3 (zb_andn' (hl.2 m hm ((ya_preI hr).mp z2)))) (fun t => absurd rfl t)
    · refine ih (m + 1) x2 (by omega) f0 (fun t => ⟨(f1 t).1, fun o ho h => ?_⟩)
      by_cases e : o = m
      · subst e; exact absurd ((ya_preI hr).mpr h) z2
      · exact (f1 t).2 o (by omega) h
theorem ya_g2 (hn : n ≤ 8) {s0 : Nat} (hs0 : s0 < 2 ^ n) (hl : qa_lst n (qa_g th) s0) (hp : ∀ s, s < 2 ^ n → qa_lst n (qa_g th) s → post (nI s)) :
    ∀ d s, s + d = 2 ^ n → (∀ o, o < s → ¬ qa_lst n (qa_g th) o) → wY_grounded_2 post N (nI (2 ^ n - 1)) th (d + 1) (nI s) := by
  have h8 := zb_p8 hn
  intro d
  induction d with
  | zero =>
    intro s hd h
    exact absurd hl (h s0 (by omega))
  | succ d ih =>
    intro s hd h
    have hs : s < 2 ^ n := by omega
    have next : ¬ qa_lst n (qa_g th) s → wY_grounded_2 post N (nI (2 ^ n - 1)) th (d + 1) (nI (s + 1)) := by
      intro hn'
      refine ih (s + 1) (by omega) (fun o ho => ?_)
      by_cases e : o = s
      · subst e; exact hn'
      · exact h o (by omega)
    refine br_f (ya_nall hn hs) (ya_defended (ya_e hn) (fun r hr => br_c (fun z => ⟨2 ^ n + 1, ?_⟩) (fun z => ⟨2 ^ n + 1, ?_⟩)))
    · exact ya_g30 hn (hp s hs) next (2 ^ n) 0 1 (by omega) (fun t => absurd t (by decide)) (fun _ => ⟨(ya_preI hr).mp z, fun o ho => by omega⟩)
    · exact ya_g30 hn (hp s hs) next (2 ^ n) 0 0 (by omega) (fun _ t => z ((ya_preI hr).mpr t.1)) (fun t => absurd rfl t)
theorem ya_grounded {G R : Int32} (hn : n ≤ 8) (hg : qa_gr n (qa_g th) G R) (hpre : qa_pre n (qa_g th) G) (hp : post G) : wpY_grounded post (N, nI (2 ^ n - 1), th) := by
  obtain ⟨s0, hs0, e⟩ := zb_mask hg.2.1
  have hl : qa_lst n (qa_g th) s0 := by
    refine ⟨e ▸ hpre, fun o _ h => ?_⟩
    rw [← e]; exact hg.2.2 _ h
  refine ⟨2 ^ n + 1, ya_g2 hn hs0 hl (fun s hs h => ?_) (2 ^ n) 0 (by omega) (fun o ho => by omega)⟩
  have h1 := hg.2.2 _ h.1
  have h2 := h.2 s0 hs0 (e ▸ hpre)
  rw [← e] at h2
  rw [qa_anti h1 h2]
  exact hp
end
end
section
/-! count, extension, inSome, inEvery: both sides run through one row of yes and no -/
def qa_fold (f : Int32 → Nat → Int32) (P : Nat → Bool) (z : Int32) : Nat → Int32
  | 0 => z
  | m + 1 => if P m = true then f (qa_fold f P z m) m else qa_fold f P z m
theorem qa_fold_t {f : Int32 → Nat → Int32} {P : Nat → Bool} {z : Int32} {m : Nat} (h : P m = true) : qa_fold f P z (m + 1) = f (qa_fold f P z m) m := if_pos h
theorem qa_fold_f {f : Int32 → Nat → Int32} {P : Nat → Bool} {z : Int32} {m : Nat} (h : P m = false) : qa_fold f P z (m + 1) = qa_fold f P z m := if_neg (fun t => zb_tf t h)
theorem qa_fold_skip {f : Int32 → Nat → Int32} {P : Nat → Bool} {z : Int32} {m : Nat} : ∀ d, (∀ i, m ≤ i → i < m + d → P i = false) → qa_fold f P z (m + d) = qa_fold f P z m
  | 0, _ => rfl
  | d + 1, h => (qa_fold_f (h (m + d) (by omega) (by omega))).trans (qa_fold_skip d (fun i h1 h2 => h i h1 (by omega)))
def qa_ex (P : Nat → Bool) : Nat → Int32 → Nat → Int32
  | 0, _, _ => -2
  | d + 1, x, s => if P s = true then (if x = 0 then nI s else qa_ex P d (x + (-1)) (s + 1)) else qa_ex P d x (s + 1)
theorem qa_ex_f {P : Nat → Bool} {d s : Nat} {x : Int32} (h : P s = false) : qa_ex P (d + 1) x s = qa_ex P d x (s + 1) := if_neg (fun t => zb_tf t h)
theorem qa_ex_t0 {P : Nat → Bool} {d s : Nat} {x : Int32} (h : P s = true) (hx : x = 0) : qa_ex P (d + 1) x s = nI s := (if_pos h).trans (if_pos hx)
theorem qa_ex_t1 {P : Nat → Bool} {d s : Nat} {x : Int32} (h : P s = true) (hx : ¬ x = 0) : qa_ex P (d + 1) x s = qa_ex P d (x + (-1)) (s + 1) := (if_pos h).trans (if_neg hx)
theorem qa_ex_no {P : Nat → Bool} : ∀ d x s, (∀ i, s ≤ i → i < s + d → P i = false) → qa_ex P d x s = -2
  | 0, _, _, _ => rfl
  | d + 1, x, s, h => (qa_ex_f (h s (by omega) (by omega))).trans (qa_ex_no d x (s + 1) (fun i h1 h2 => h i (by omega) (by omega)))
theorem qa_ex_skip {P : Nat → Bool} {q : Nat} : ∀ d x s, (∀ i, s + d ≤ i → i < s + d + q → P i = false) → qa_ex P (d + q) x s = qa_ex P d x s
  | 0, x, s, h => by rw [Nat.zero_add]; exact qa_ex_no q x s (fun i h1 h2 => h i (by omega) (by omega))
  | d + 1, x, s, h => by
    rw [show d + 1 + q = (d + q) + 1 by omega]
    have ih := fun y => qa_ex_skip (P := P) (q := q) d y (s + 1) (fun i h1 h2 => h i (by omega) (by omega))
    cases e : P s
    · rw [qa_ex_f e, qa_ex_f e]; exact ih x
    · by_cases z : x = 0
      · rw [qa_ex_t0 e z, qa_ex_t0 e z]
      · rw [qa_ex_t1 e z, qa_ex_t1 e z]; exact ih _
section
variable {post : Int32 → SX → Prop} {N E A R U ch se : Int32} {ak tg fA fR fU fa ft kd rg : Nat → Int32} {k : Nat} {P : Nat → Bool}
theorem xa_count_19 (hk : k < 4) (hP : ∀ s, s < 256 → bt (kd s) k = P s) (hp : post (qa_fold (fun x _ => x + 1) P 0 256) (N, E, A, R, U, ch, se, ak, tg, fA, fR, fU, fa, ft, kd, rg)) :
    ∀ d s, s + d = 256 → wX_count_19 post (nI k) N E A R U ch se ak tg fA fR fU fa ft kd rg (d + 1) (qa_fold (fun x _ => x + 1) P 0 s) (nI s) := by
  intro d
  induction d with
  | zero =>
    intro s hd
    have e : s = 256 := by omega
    subst e
    exact br_t (nI_le (a := 256) (by omega) (by omega)) hp
  | succ d ih =>
    intro s hd
    have hs : s < 256 := by omega
    refine br_f (nI_ge (b := 256) hs (by decide)) ⟨vp_in_nI hs (by omega), ?_⟩
    rw [ya_cl hs, zb_bv (by omega : k < 32), hP s hs]
    have t := ih (s + 1) (by omega)
    cases e : P s
    · rw [qa_fold_f e] at t
      exact nm_r (Int32.add_zero _) (nm_r (nI_1 s) t)
    · rw [qa_fold_t e] at t
      exact nm_e (nm_r (nI_1 s) t)
theorem xa_inSome_19 (hk : k < 4) (hP : ∀ s, s < 256 → bt (kd s) k = P s) (hp : post (qa_fold (fun x m => x ||| nI m) P 0 256) (N, E, A, R, U, ch, se, ak, tg, fA, fR, fU, fa, ft, kd, rg)) :
    ∀ d s, s + d = 256 → wX_inSome_19 post (nI k) N E A R U ch se ak tg fA fR fU fa ft kd rg (d + 1) (qa_fold (fun x m => x ||| nI m) P 0 s) (nI s) := by
  intro d
  induction d with
  | zero =>
    intro s hd
    have e : s = 256 := by omega
    subst e
    exact br_t (nI_le (a := 256) (by omega) (by omega)) hp
  | succ d ih =>
    intro s hd
    have hs : s < 256 := by omega
    refine br_f (nI_ge (b := 256) hs (by decide)) ⟨vp_in_nI hs (by omega), ?_⟩
    rw [ya_cl hs]
    have t := ih (s + 1) (by omega)
    refine zb_br (by omega) (fun z => ?_) (fun z => ?_)
    · rw [hP s hs] at z
      rw [qa_fold_f z] at t
      exact nm_r (nI_1 s) t
    · rw [hP s hs] at z
      rw [qa_fold_t z] at t
      exact nm_e (nm_r (nI_1 s) t)
theorem xa_inEvery_22 {z0 : Int32} (hk : k < 4) (hP : ∀ s, s < 256 → bt (kd s) k = P s) (hp : post (qa_fold (fun x m => x &&& nI m) P z0 256) (N, E, A, R, U, ch, se, ak, tg, fA, fR, fU, fa, ft, kd, rg)) :
    ∀ d s, s + d = 256 → wX_inEvery_22 post (nI k) N E A R U ch se ak tg fA fR fU fa ft kd rg (d + 1) (qa_fold (fun x m => x &&& nI m) P z0 s) (nI s) := by
  intro d
  induction d with
  | zero =>
    intro s hd
    have e : s = 256 := by omega
    subst e
    exact br_t (nI_le (a := 256) (by omega) (by omega)) hp
  | succ d ih =>
    intro s hd
    have hs : s < 256 := by omega
    refine br_f (nI_ge (b := 256) hs (by decide)) ⟨vp_in_nI hs (by omega), ?_⟩
    rw [ya_cl hs]
    have t := ih (s + 1) (by omega)
    refine zb_br (by omega) (fun z => ?_) (fun z => ?_)
    · rw [hP s hs] at z
      rw [qa_fold_f z] at t
      exact nm_r (nI_1 s) t
    · rw [hP s hs] at z
      rw [qa_fold_t z] at t
      exact nm_e (nm_r (nI_1 s) t)
theorem xa_extension_20 (hk : k < 4) (hP : ∀ s, s < 256 → bt (kd s) k = P s) :
    ∀ d s x, s + d = 256 → post (qa_ex P d x s) (N, E, A, R, U, ch, se, ak, tg, fA, fR, fU, fa, ft, kd, rg) → wX_extension_20 post (nI k) N E A R U ch se ak tg fA fR fU fa ft kd rg (d + 1) x (nI s) := by
  intro d
  induction d with
  | zero =>
    intro s x hd hp
    exact br_t (nI_le (a := 256) (by omega) (by omega)) hp
  | succ d ih =>
    intro s x hd hp
    have hs : s < 256 := by omega
    refine br_f (nI_ge (b := 256) hs (by decide)) ⟨vp_in_nI hs (by omega), ?_⟩
    rw [ya_cl hs]
    refine zb_br (by omega) (fun z => ?_) (fun z => br_c (fun z2 => ?_) (fun z2 => nm_e (nm_r (nI_1 s) ?_)))
    · rw [hP s hs] at z
      rw [qa_ex_f z] at hp
      exact nm_r (nI_1 s) (ih (s + 1) x (by omega) hp)
    · rw [hP s hs] at z
      rw [qa_ex_t0 z z2] at hp
      exact hp
    · rw [hP s hs] at z
      rw [qa_ex_t1 z z2] at hp
      exact ih (s + 1) _ (by omega) hp
end
section
variable {post : Int32 → Prop} {n : Nat} {N : Int32} {th : Nat → Int32} {k : Nat} {P : Nat → Bool}
theorem ya_isP (hn : n ≤ 8) (hG : ∀ a b, qa_g th a b → a < n ∧ b < n) (hk : k < 4) (hP : ∀ s, s < 256 → (P s = true ↔ qa_is n (qa_g th) k (nI s))) {s : Nat} (hs : s < 2 ^ n) (h1 : P s = true → post 1) (h0 : P s = false → post 0) : wpY_is post (N, nI (2 ^ n - 1), th) (nI k) (nI s) := by
  have h8 := zb_p8 hn
  exact ya_is hn (fun b hb => zb_in hs hb) hG hk (fun h => h1 ((hP s (by omega)).mpr h)) (fun h => h0 (zb_nt (fun t => h ((hP s (by omega)).mp t))))
theorem ya_count_14 (hn : n ≤ 8) (hG : ∀ a b, qa_g th a b → a < n ∧ b < n) (hk : k < 4) (hP : ∀ s, s < 256 → (P s = true ↔ qa_is n (qa_g th) k (nI s))) (hp : post (qa_fold (fun x _ => x + 1) P 0 (2 ^ n))) :
    ∀ d s, s + d = 2 ^ n → wY_count_14 post (nI k) N (nI (2 ^ n - 1)) th (d + 1) (qa_fold (fun x _ => x + 1) P 0 s) (nI s) := by
  have h8 := zb_p8 hn
  intro d
  induction d with
  | zero =>
    intro s hd
    have e : s = 2 ^ n := by omega
    rw [e]
    exact br_t (ya_all hn (by omega) h8) hp
  | succ d ih =>
    intro s hd
    have t := ih (s + 1) (by omega)
    refine br_f (ya_nall hn (by omega)) (ya_isP hn hG hk hP (by omega) (fun z => br_f (by decide) (nm_e (nm_r (nI_1 s) ?_))) (fun z => br_t rfl (nm_r (nI_1 s) ?_)))
    · rw [qa_fold_t z] at t; exact t
    · rw [qa_fold_f z] at t; exact t
theorem ya_inSome_14 (hn : n ≤ 8) (hG : ∀ a b, qa_g th a b → a < n ∧ b < n) (hk : k < 4) (hP : ∀ s, s < 256 → (P s = true ↔ qa_is n (qa_g th) k (nI s))) (hp : post (qa_fold (fun x m => x ||| nI m) P 0 (2 ^ n))) :
    ∀ d s, s + d = 2 ^ n → wY_inSome_14 post (nI k) N (nI (2 ^ n - 1)) th (d + 1) (qa_fold (fun x m => x ||| nI m) P 0 s) (nI s) := by
  have h8 := zb_p8 hn
  intro d
  induction d with
  | zero =>
    intro s hd
    have e : s = 2 ^ n := by omega
    rw [e]
    exact br_t (ya_all hn (by omega) h8) hp
  | succ d ih =>
    intro s hd
    have t := ih (s + 1) (by omega)
    refine br_f (ya_nall hn (by omega)) (ya_isP hn hG hk hP (by omega) (fun z => br_f (by decide) (nm_e (nm_r (nI_1 s) ?_))) (fun z => br_t rfl (nm_r (nI_1 s) ?_)))
    · rw [qa_fold_t z] at t; exact t
    · rw [qa_fold_f z] at t; exact t
theorem ya_inEvery_17 {z0 : Int32} (hn : n ≤ 8) (hG : ∀ a b, qa_g th a b → a < n ∧ b < n) (hk : k < 4) (hP : ∀ s, s < 256 → (P s = true ↔ qa_is n (qa_g th) k (nI s))) (hp : post (qa_fold (fun x m => x &&& nI m) P z0 (2 ^ n))) :
    ∀ d s, s + d = 2 ^ n → wY_inEvery_17 post (nI k) N (nI (2 ^ n - 1)) th (d + 1) (qa_fold (fun x m => x &&& nI m) P z0 s) (nI s) := by
  have h8 := zb_p8 hn
  intro d
  induction d with
  | zero =>
    intro s hd
    have e : s = 2 ^ n := by omega
    rw [e]
    exact br_t (ya_all hn (by omega) h8) hp
  | succ d ih =>
    intro s hd
    have t := ih (s + 1) (by omega)
    refine br_f (ya_nall hn (by omega)) (ya_isP hn hG hk hP (by omega) (fun z => br_f (by decide) (nm_e (nm_r (nI_1 s) ?_))) (fun z => br_t rfl (nm_r (nI_1 s) ?_)))
    · rw [qa_fold_t z] at t; exact t
    · rw [qa_fold_f z] at t; exact t
theorem ya_left {x y : Int32} : (y = x) ↔ x + -y = 0 := by
  constructor
  · intro h; subst h; exact Int32.add_right_neg y
  · intro h
    have t : x + -y + y = 0 + y := by rw [h]
    rw [Int32.add_assoc, Int32.add_left_neg, Int32.add_zero, Int32.zero_add] at t
    exact t.symm
theorem ya_extension_15 (hn : n ≤ 8) (hG : ∀ a b, qa_g th a b → a < n ∧ b < n) (hk : k < 4) (hP : ∀ s, s < 256 → (P s = true ↔ qa_is n (qa_g th) k (nI s))) {x : Int32} :
    ∀ d s y, s + d = 2 ^ n → post (qa_ex P d (x + -y) s) → wY_extension_15 post (nI k) x N (nI (2 ^ n - 1)) th (d + 1) y (nI s) := by
  have h8 := zb_p8 hn
  intro d
  induction d with
  | zero =>
    intro s y hd hp
    exact br_t (ya_all hn (by omega) (by omega)) hp
  | succ d ih =>
    intro s y hd hp
    refine br_f (ya_nall hn (by omega)) (ya_isP hn hG hk hP (by omega) (fun z => br_f (by decide) (br_c (fun z2 => ?_) (fun z2 => nm_e (nm_r (nI_1 s) (ih (s + 1) _ (by omega) ?_))))) (fun z => br_t rfl (nm_r (nI_1 s) (ih (s + 1) _ (by omega) ?_))))
    · rw [qa_ex_t0 z (ya_left.mp z2)] at hp; exact hp
    · rw [qa_ex_t1 z (fun t => z2 (ya_left.mpr t))] at hp
      rw [Int32.neg_add, Int32.sub_eq_add_neg, ← Int32.add_assoc]
      exact hp
    · rw [qa_ex_f z] at hp; exact hp
end
theorem qa_Pfar {n k : Nat} {g : Nat → Nat → Prop} {P : Nat → Bool} (hn : n ≤ 8) (hG : ∀ a b, g a b → a < n ∧ b < n) (hP : ∀ s, s < 256 → (P s = true ↔ qa_is n g k (nI s))) : ∀ i, 2 ^ n ≤ i → i < 2 ^ n + (256 - 2 ^ n) → P i = false := by
  have h8 := zb_p8 hn
  intro i h1 h2
  refine zb_nt (fun t => ?_)
  obtain ⟨m, hm, e⟩ := qa_ismask (qa_iscmp hn hG k ((hP i (by omega)).mp t)).1
  have := (nI_eq (by omega) (by omega)).mp e
  omega
end
section
/-! clear: the count of attacks, row by row and cell by cell -/
def qa_cc (th : Nat → Int32) (m : Nat) : Int32 := qa_fold (fun x _ => x + 1) (fun k => decide (¬ th k = 0)) 0 m
theorem qa_cc_t {th : Nat → Int32} {m : Nat} (h : ¬ th m = 0) : qa_cc th (m + 1) = qa_cc th m + 1 := qa_fold_t (f := fun x _ => x + 1) (decide_eq_true h)
theorem qa_cc_f {th : Nat → Int32} {m : Nat} (h : th m = 0) : qa_cc th (m + 1) = qa_cc th m := qa_fold_f (f := fun x _ => x + 1) (decide_eq_false (fun t => t h))
theorem qa_cc_skip {th : Nat → Int32} {m d : Nat} (h : ∀ i, m ≤ i → i < m + d → th i = 0) : qa_cc th (m + d) = qa_cc th m :=
  qa_fold_skip d (fun i h1 h2 => decide_eq_false (fun t => t (h i h1 h2)))
section
variable {post : Int32 → SX → Prop} {n : Nat} {E A R U ch se : Int32} {fA fR fU fa ft kd rg th : Nat → Int32}
theorem xa_cl14 {J4 : Int32 → Int32 → (Nat → Int32) → (Nat → Int32) → (Nat → Int32) → (Nat → Int32) → (Nat → Int32) → (Nat → Int32) → (Nat → Int32) → (Nat → Int32) → (Nat → Int32) → Prop} {ak tg : Nat → Int32} {a : Nat} (hn : n ≤ 8) (ha : a < n) (hG : ∀ a b, qa_g th a b → a < n ∧ b < n) (hT : ∀ b, bt (tg a) b = true ↔ qa_g th a b)
    (hJ : J4 (qa_cc th (8 * (a + 1))) (nI (a + 1)) (upd ak a 0) (upd tg a 0) fA fR fU fa ft kd rg) : ∀ d b, b + d = n → wX_clear_14 post J4 (nI a) (nI n) E A R U ch se ak tg fA fR fU fa ft kd rg (d + 1) (qa_cc th (8 * a + b)) (nI b) := by
  have hi : vp_in (nI a) 8 := vp_in_nI (by omega) (by omega)
  intro d
  induction d with
  | zero =>
    intro b hd
    have e : b = n := by omega
    have e2 : qa_cc th (8 * a + b) = qa_cc th (8 * (a + 1)) := by
      rw [show 8 * (a + 1) = 8 * a + b + (8 - b) by omega]
      refine (qa_cc_skip (fun i h1 h2 => ?_)).symm
      apply Classical.byContradiction
      intro z
      have := (hG a (i - 8 * a) ⟨by omega, by omega, by rw [show 8 * a + (i - 8 * a) = i by omega]; exact z⟩).2
      omega
    rw [e2]
    refine br_t (nI_le (by omega) (by omega)) ?_
    rw [ya_cl (by omega : a < 256)]
    exact ⟨hi, nm_e ⟨hi, nm_e (nm_r (nI_1 a) hJ)⟩⟩
  | succ d ih =>
    intro b hd
    refine br_f (nI_ge (by omega) (by omega)) ⟨hi, ?_⟩
    rw [ya_cl (by omega : a < 256), zb_bv (by omega : b < 32)]
    have t := ih (b + 1) (by omega)
    rw [show 8 * a + (b + 1) = 8 * a + b + 1 by omega] at t
    cases e : bt (tg a) b
    · rw [qa_cc_f] at t
      · exact nm_r (Int32.add_zero _) (nm_r (nI_1 b) t)
      · apply Classical.byContradiction
        intro z
        exact zb_tf ((hT b).mpr ⟨by omega, by omega, z⟩) e
    · rw [qa_cc_t ((hT b).mp e).2.2] at t
      exact nm_e (nm_r (nI_1 b) t)
theorem xa_cl4 {ak0 tg0 : Nat → Int32} (hn : n ≤ 8) (hG : ∀ a b, qa_g th a b → a < n ∧ b < n) (hT : ∀ a, a < 8 → ∀ b, bt (tg0 a) b = true ↔ qa_g th a b) (hK : ∀ b, b < 8 → ∀ a, bt (ak0 b) a = true ↔ qa_g th a b)
    (hp : ∀ ak tg, (∀ i, i < 8 → ∀ b, bt (tg i) b = false ∧ bt (ak i) b = false) → post (qa_cc th 64) (nI n, E, A, R, U, ch, 0, ak, tg, fA, fR, fU, fa, ft, kd, rg)) :
    ∀ d a ak tg, a + d = n → (∀ i, i < 8 → (i < a → tg i = 0 ∧ ak i = 0) ∧ (a ≤ i → tg i = tg0 i ∧ ak i = ak0 i)) → wX_clear_4 post (nI n) E A R U ch se (d + 1) (qa_cc th (8 * a)) (nI a) ak tg fA fR fU fa ft kd rg := by
  intro d
  induction d with
  | zero =>
    intro a ak tg hd hI
    have e : a = n := by omega
    have e2 : qa_cc th (8 * a) = qa_cc th 64 := by
      rw [show 64 = 8 * a + (64 - 8 * a) by omega]
      refine (qa_cc_skip (fun i h1 h2 => ?_)).symm
      apply Classical.byContradiction
      intro z
      have := (hG (i / 8) (i % 8) ⟨by omega, by omega, by rw [show 8 * (i / 8) + i % 8 = i by omega]; exact z⟩).1
      omega
    rw [e2]
    refine br_t (nI_le (by omega) (by omega)) (hp ak tg (fun i hi b => ?_))
    rcases Nat.lt_or_ge i a with h | h
    · have t := (hI i hi).1 h
      rw [t.1, t.2]
      exact ⟨b_0 b, b_0 b⟩
    · have t := (hI i hi).2 h
      rw [t.1, t.2]
      refine ⟨zb_nt (fun z => ?_), zb_nt (fun z => ?_)⟩
      · have := (hG i b ((hT i hi b).mp z)).1
        omega
      · have := (hG b i ((hK i hi b).mp z)).2
        omega
  | succ d ih =>
    intro a ak tg hd hI
    refine br_f (nI_ge (by omega) (by omega)) ⟨n + 1, ?_⟩
    have ha : a < 8 := by omega
    have t := (hI a ha).2 (Nat.le_refl a)
    refine xa_cl14 (th := th) hn (by omega) hG (fun b => by rw [t.1]; exact hT a ha b) (ih (a + 1) _ _ (by omega) (fun i hi => ?_)) n 0 (by omega)
    by_cases z : i = a
    · subst z
      rw [pk_us, pk_us]
      exact ⟨fun _ => ⟨rfl, rfl⟩, fun h => by omega⟩
    · rw [pk_un z, pk_un z]
      exact ⟨fun h => (hI i hi).1 (by omega), fun h => (hI i hi).2 (by omega)⟩
end
theorem xa_bo0 : vp_nar .boolean 0 = 0 := rfl
theorem xa_bo1 : vp_nar .boolean 1 = 1 := rfl
theorem ya_cl4 {post : Int32 → SY → Prop} {N e : Int32} {th : Nat → Int32} (hp : ∀ th', (∀ i, i < 64 → th' i = 0) → post (qa_cc th 64) (N, e, th')) :
    ∀ d k th', k + d = 64 → (∀ i, i < 64 → (i < k → th' i = 0) ∧ (k ≤ i → th' i = th i)) → wY_clear_4 post N e (d + 1) (qa_cc th k) (nI k) th' := by
  intro d
  induction d with
  | zero =>
    intro k th' hd hI
    have e : k = 64 := by omega
    subst e
    exact br_t (ya_64 hd rfl) (hp th' (fun i hi => (hI i hi).1 hi))
  | succ d ih =>
    intro k th' hd hI
    have hk : k < 64 := by omega
    have hi : vp_in (nI k) 64 := vp_in_nI hk (by omega)
    have ek : th' k = th k := (hI k hk).2 (Nat.le_refl k)
    have hI' : ∀ i, i < 64 → (i < k + 1 → upd th' k 0 i = 0) ∧ (k + 1 ≤ i → upd th' k 0 i = th i) := by
      intro i hi
      by_cases z : i = k
      · subst z
        rw [pk_us]
        exact ⟨fun _ => rfl, fun h => by omega⟩
      · rw [pk_un z]
        exact ⟨fun h => (hI i hi).1 (by omega), fun h => (hI i hi).2 (by omega)⟩
    have t := ih (k + 1) _ (by omega) hI'
    refine br_f (ya_n64 hk) ⟨hi, ?_⟩
    rw [ya_cl (by omega : k < 256), xa_bo0]
    refine br_c (fun z => ⟨hi, nm_e (nm_r (nI_1 k) ?_)⟩) (fun z => nm_e ⟨hi, nm_e (nm_r (nI_1 k) ?_)⟩)
    · rw [qa_cc_f (ek.symm.trans z)] at t; exact t
    · rw [qa_cc_t (fun h => z (ek.trans h))] at t; exact t
end
section
/-! the relation -/
def qa_R (n : Nat) (th tg ak : Nat → Int32) : Prop := (∀ a b, qa_g th a b → a < n ∧ b < n) ∧ (∀ a, a < 8 → ∀ b, bt (tg a) b = true ↔ qa_g th a b) ∧ (∀ b, b < 8 → ∀ a, bt (ak b) a = true ↔ qa_g th a b)
def i_Rel (k : Nat) (u : SX) (v : SY) : Prop := match u, v with
  | (N, E, A, R, U, ch, se, ak, tg, fA, fR, fU, fa, ft, kd, rg), (M, F, th) => ∃ n, (2 ≤ n ∧ n ≤ 8) ∧ N = nI n ∧ E = nI (2 ^ n - 1) ∧ M = nI n ∧ F = nI (2 ^ n - 1) ∧ qa_R n th tg ak ∧ (¬ se = 0 → qa_good n (qa_g th) kd)
theorem i_up {k : Nat} {u : SX} {v : SY} (h : i_Rel k u v) : i_Rel (k + 3) u v := h
theorem ir_el {k : Nat} {u : SX} {v : SY} {P : SX → SY → Prop} (h : ∀ (n : Nat) (A R U ch se : Int32) (ak tg fA fR fU fa ft kd rg th : Nat → Int32), 2 ≤ n → n ≤ 8 → qa_R n th tg ak → (¬ se = 0 → qa_good n (qa_g th) kd) → P (nI n, nI (2 ^ n - 1), A, R, U, ch, se, ak, tg, fA, fR, fU, fa, ft, kd, rg) (nI n, nI (2 ^ n - 1), th)) (I : i_Rel k u v) : P u v := by
  obtain ⟨N, E, A, R, U, ch, se, ak, tg, fA, fR, fU, fa, ft, kd, rg⟩ := u
  obtain ⟨M, F, th⟩ := v
  obtain ⟨n, ⟨h2, h8⟩, e1, e2, e3, e4, hR, hg⟩ := I
  rw [e1, e2, e3, e4]
  exact h n A R U ch se ak tg fA fR fU fa ft kd rg th h2 h8 hR hg
theorem ir_mk {k n : Nat} {A R U ch se : Int32} {ak tg fA fR fU fa ft kd rg th : Nat → Int32} (h2 : 2 ≤ n) (h8 : n ≤ 8) (hR : qa_R n th tg ak) (hg : ¬ se = 0 → qa_good n (qa_g th) kd) : i_Rel k (nI n, nI (2 ^ n - 1), A, R, U, ch, se, ak, tg, fA, fR, fU, fa, ft, kd, rg) (nI n, nI (2 ^ n - 1), th) :=
  ⟨n, ⟨h2, h8⟩, rfl, rfl, rfl, rfl, hR, hg⟩
theorem qa_g0 (th : Nat → Int32) (h : ∀ i, i < 64 → th i = 0) (a b : Nat) : ¬ qa_g th a b := fun t => t.2.2 (h (8 * a + b) (by have := t.1; have := t.2.1; omega))
theorem qa_R0 {n : Nat} {th tg ak : Nat → Int32} (hth : ∀ i, i < 64 → th i = 0) (h : ∀ i, i < 8 → ∀ b, bt (tg i) b = false ∧ bt (ak i) b = false) : qa_R n th tg ak :=
  ⟨fun a b t => absurd t (qa_g0 th hth a b), fun a ha b => ⟨fun t => (zb_tf t (h a ha b).1).elim, fun t => absurd t (qa_g0 th hth a b)⟩, fun b hb a => ⟨fun t => (zb_tf t (h b hb a).2).elim, fun t => absurd t (qa_g0 th hth a b)⟩⟩
theorem ir_new {n : Nat} (h2 : 2 ≤ n) (h8 : n ≤ 8) {x : Int32} (hx : x = nI n) : wX_init_100 (fun u => wY_init_34 (fun v => i_Rel 1 u v) x 0 0 (fun _ => 0)) x 0 0 0 0 0 0 0 (fun _ => 0) (fun _ => 0) (fun _ => 0) (fun _ => 0) (fun _ => 0) (fun _ => 0) (fun _ => 0) (fun _ => 0) (fun _ => 0) := by
  subst hx
  refine nm_r (zb_init n (by omega)) ?_
  refine nm_r (zb_init n (by omega)) ?_
  exact ir_mk h2 h8 (qa_R0 (fun _ _ => rfl) (fun _ _ b => ⟨b_0 b, b_0 b⟩)) (fun z => absurd rfl z)
theorem i_vc0 (k0 : Int32) : wpX_init (fun u => wpY_init (fun v => i_Rel 1 u v) k0) k0 := by
  by_cases h : 2 ≤ k0
  · by_cases h' : k0 ≤ 8
    · have hp : ¬ k0 < 0 := fun z => absurd (Int32.lt_of_le_of_lt h z) (by decide)
      obtain ⟨n, hn, rfl⟩ := nI_of2 (M := 8) (n := 8) (by decide) hp h'
      have h2 : 2 ≤ n := (nI_leI (a := 2) (by decide) (by omega)).mp h
      refine br_t h (br_t h' ?_)
      have t := ir_new h2 hn rfl
      unfold wX_init_100 at t ⊢
      intro y hy
      exact br_t h (br_t h' (t y hy))
    · refine br_t h (br_f h' ?_)
      have t := ir_new (n := 8) (by omega) (by omega) rfl
      unfold wX_init_100 at t ⊢
      intro y hy
      exact br_t h (br_f h' (t y hy))
  · refine br_f h ?_
    have t := ir_new (n := 2) (by omega) (by omega) rfl
    unfold wX_init_100 at t ⊢
    intro y hy
    exact br_f h (t y hy)
end
section
/-! the owed statements -/
section
variable {n : Nat} {E A R U ch se : Int32} {ak tg fA fR fU fa ft kd rg th : Nat → Int32} {post : Int32 → Prop} {e : Int32}
theorem ir_arg (x : Int32) (hn : n ≤ 8) : (∃ a, a < n ∧ x = nI a) ∨ (x < 0 ∨ nI n ≤ x) := by
  rcases pk_ix x (by omega : n < 2 ^ 31) with h | h | h
  · exact Or.inr (Or.inl h)
  · exact Or.inr (Or.inr h)
  · exact Or.inl h
theorem xa_isT {a : Nat} (hn : n ≤ 8) (ha : a < n) (h : post 1) : wpX_isArgument post (nI n, E, A, R, U, ch, se, ak, tg, fA, fR, fU, fa, ft, kd, rg) (nI a) := br_f (nI_pos (by omega)) (br_f (nI_ge ha (by omega)) h)
theorem xa_isF {x : Int32} (hx : x < 0 ∨ nI n ≤ x) (h : post 0) : wpX_isArgument post (nI n, E, A, R, U, ch, se, ak, tg, fA, fR, fU, fa, ft, kd, rg) x := br_c (fun _ => h) (fun z => br_t (hx.elim (fun t => absurd t z) (fun t => t)) h)
theorem ya_isT {a : Nat} (hn : n ≤ 8) (ha : a < n) (h : post 1) : wpY_isArgument post (nI n, e, th) (nI a) := br_f (nI_pos (by omega)) (br_f (nI_ge ha (by omega)) h)
theorem ya_isF {x : Int32} (hx : x < 0 ∨ nI n ≤ x) (h : post 0) : wpY_isArgument post (nI n, e, th) x := br_c (fun _ => h) (fun z => br_t (hx.elim (fun t => absurd t z) (fun t => t)) h)
end
theorem ya_ix (a b : Nat) : (8 * nI a) + nI b = nI (8 * a + b) := by rw [show (8 : Int32) = nI 8 from rfl, pk_mul, nI_add]
theorem qa_g_put {th : Nat → Int32} {a b : Nat} (ha : a < 8) (hb : b < 8) (c d : Nat) : qa_g (upd th (8 * a + b) 1) c d ↔ (qa_g th c d ∨ (c = a ∧ d = b)) := by
  constructor
  · intro ⟨h1, h2, h3⟩
    by_cases z : 8 * c + d = 8 * a + b
    · exact Or.inr (by omega)
    · rw [pk_un z] at h3
      exact Or.inl ⟨h1, h2, h3⟩
  · intro h
    rcases h with ⟨h1, h2, h3⟩ | ⟨rfl, rfl⟩
    · refine ⟨h1, h2, ?_⟩
      by_cases z : 8 * c + d = 8 * a + b
      · rw [z, pk_us]; decide
      · rw [pk_un z]; exact h3
    · exact ⟨ha, hb, by rw [pk_us]; decide⟩
theorem qa_g_cut {th : Nat → Int32} {a b : Nat} (hb : b < 8) (c d : Nat) : qa_g (upd th (8 * a + b) 0) c d ↔ (qa_g th c d ∧ ¬ (c = a ∧ d = b)) := by
  constructor
  · intro ⟨h1, h2, h3⟩
    by_cases z : 8 * c + d = 8 * a + b
    · rw [z, pk_us] at h3
      exact absurd rfl h3
    · rw [pk_un z] at h3
      refine ⟨⟨h1, h2, h3⟩, fun t => z ?_⟩
      rw [t.1, t.2]
  · intro ⟨⟨h1, h2, h3⟩, h4⟩
    refine ⟨h1, h2, ?_⟩
    have z : 8 * c + d ≠ 8 * a + b := fun t => h4 (by omega)
    rw [pk_un z]; exact h3
theorem qa_bc {x : Int32} {a b : Nat} (ha : a < 32) : bt (x &&& (((1 : Int32) <<< (nI a &&& 31)) ^^^ (-1))) b = true ↔ (bt x b = true ∧ ¬ b = a) := by
  rw [b_and, Bool.and_eq_true]
  constructor
  · intro ⟨h1, h2⟩
    rw [zb_not _ (zb_lt h1), zb_b1 ha] at h2
    refine ⟨h1, fun t => ?_⟩
    rw [decide_eq_true t] at h2
    exact absurd h2 (by decide)
  · intro ⟨h1, h2⟩
    refine ⟨h1, ?_⟩
    rw [zb_not _ (zb_lt h1), zb_b1 ha, decide_eq_false h2]
    rfl
theorem qa_R_put {n a b : Nat} {th tg ak : Nat → Int32} (hn : n ≤ 8) (h : qa_R n th tg ak) (ha : a < n) (hb : b < n) : qa_R n (upd th (8 * a + b) 1) (upd tg a (tg a ||| ((1 : Int32) <<< (nI b &&& 31)))) (upd ak b (ak b ||| ((1 : Int32) <<< (nI a &&& 31)))) := by
  have hp := fun c d => qa_g_put (th := th) (a := a) (b := b) (by omega) (by omega) c d
  refine ⟨fun c d t => ?_, fun c hc d => ?_, fun d hd c => ?_⟩
  · rcases (hp c d).mp t with t | t
    · exact h.1 c d t
    · omega
  · rw [hp c d]
    by_cases z : c = a
    · subst z
      rw [pk_us, qa_b1 (by omega), h.2.1 c hc d]
      exact ⟨fun t => t.elim Or.inl (fun t => Or.inr ⟨rfl, t⟩), fun t => t.elim Or.inl (fun t => Or.inr t.2)⟩
    · rw [pk_un z, h.2.1 c hc d]
      exact ⟨Or.inl, fun t => t.elim (fun t => t) (fun t => absurd t.1 z)⟩
  · rw [hp c d]
    by_cases z : d = b
    · subst z
      rw [pk_us, qa_b1 (by omega), h.2.2 d hd c]
      exact ⟨fun t => t.elim Or.inl (fun t => Or.inr ⟨t, rfl⟩), fun t => t.elim Or.inl (fun t => Or.inr t.1)⟩
    · rw [pk_un z, h.2.2 d hd c]
      exact ⟨Or.inl, fun t => t.elim (fun t => t) (fun t => absurd t.2 z)⟩
theorem qa_R_cut {n a b : Nat} {th tg ak : Nat → Int32} (hn : n ≤ 8) (h : qa_R n th tg ak) (ha : a < n) (hb : b < n) : qa_R n (upd th (8 * a + b) 0) (upd tg a (tg a &&& (((1 : Int32) <<< (nI b &&& 31)) ^^^ (-1)))) (upd ak b (ak b &&& (((1 : Int32) <<< (nI a &&& 31)) ^^^ (-1)))) := by
  have hp := fun c d => qa_g_cut (th := th) (a := a) (b := b) (by omega) c d
  refine ⟨fun c d t => h.1 c d ((hp c d).mp t).1, fun c hc d => ?_, fun d hd c => ?_⟩
  · rw [hp c d]
    by_cases z : c = a
    · subst z
      rw [pk_us, qa_bc (by omega), h.2.1 c hc d]
      exact ⟨fun t => ⟨t.1, fun q => t.2 q.2⟩, fun t => ⟨t.1, fun q => t.2 ⟨rfl, q⟩⟩⟩
    · rw [pk_un z, h.2.1 c hc d]
      exact ⟨fun t => ⟨t, fun q => z q.1⟩, fun t => t.1⟩
  · rw [hp c d]
    by_cases z : d = b
    · subst z
      rw [pk_us, qa_bc (by omega), h.2.2 d hd c]
      exact ⟨fun t => ⟨t.1, fun q => t.2 q.1⟩, fun t => ⟨t.1, fun q => t.2 ⟨q, rfl⟩⟩⟩
    · rw [pk_un z, h.2.2 d hd c]
      exact ⟨fun t => ⟨t, fun q => z q.2⟩, fun t => t.1⟩
theorem i_vc_attack {k : Nat} {u : SX} {v : SY} (I : i_Rel k u v) (hk : k + 3 ≤ 1537) (v1 : Int32) (v2 : Int32) : wpX_attack (fun r u' => wpY_attack (fun r' v' => r' = r ∧ i_Rel (k + 3) u' v') v v1 v2) u v1 v2 := by
  refine ir_el (P := fun u v => wpX_attack (fun r u' => wpY_attack (fun r' v' => r' = r ∧ i_Rel (k + 3) u' v') v v1 v2) u v1 v2) ?_ I
  intro n A R U ch se ak tg fA fR fU fa ft kd rg th h2 h8 hR hg
  have rel : i_Rel (k + 3) (nI n, nI (2 ^ n - 1), A, R, U, ch, se, ak, tg, fA, fR, fU, fa, ft, kd, rg) (nI n, nI (2 ^ n - 1), th) := ir_mk h2 h8 hR hg
  unfold wpX_attack wpY_attack
  dsimp only
  rcases ir_arg v1 h8 with ⟨a, ha, rfl⟩ | hF
  · rcases ir_arg v2 h8 with ⟨b, hb, rfl⟩ | hF
    · have hia : vp_in (nI a) 8 := vp_in_nI (by omega) (by omega)
      have hib : vp_in (nI b) 8 := vp_in_nI (by omega) (by omega)
      have hix : vp_in (nI (8 * a + b)) 64 := vp_in_nI (by omega) (by omega)
      have hT := hR.2.1 a (by omega) b
      rw [ya_ix, ya_cl (by omega : a < 256), ya_cl (by omega : b < 256), ya_cl (by omega : 8 * a + b < 256), xa_bo1]
      refine xa_isT h8 ha (br_f (by decide) (xa_isT h8 hb (br_f (by decide) ⟨hia, zb_br (by omega) (fun z => ⟨hia, hia, nm_e ⟨hib, hib, nm_e (ya_isT h8 ha (br_f (by decide) (ya_isT h8 hb (br_f (by decide) ⟨hix, br_t ?_ ⟨hix, nm_e ⟨rfl, ir_mk h2 h8 (qa_R_put h8 hR ha hb) (fun z => absurd rfl z)⟩⟩⟩))))⟩⟩) (fun z => ya_isT h8 ha (br_f (by decide) (ya_isT h8 hb (br_f (by decide) ⟨hix, br_f (hT.mp z).2.2 ⟨rfl, rel⟩⟩))))⟩)))
      apply Classical.byContradiction
      intro t
      exact zb_tf (hT.mpr ⟨by omega, by omega, t⟩) z
    · exact xa_isT h8 ha (br_f (by decide) (xa_isF hF (br_t rfl (ya_isT h8 ha (br_f (by decide) (ya_isF hF (br_t rfl ⟨rfl, rel⟩)))))))
  · exact xa_isF hF (br_t rfl (ya_isF hF (br_t rfl ⟨rfl, rel⟩)))
theorem i_vc_withdraw {k : Nat} {u : SX} {v : SY} (I : i_Rel k u v) (hk : k + 3 ≤ 1537) (v1 : Int32) (v2 : Int32) : wpX_withdraw (fun r u' => wpY_withdraw (fun r' v' => r' = r ∧ i_Rel (k + 3) u' v') v v1 v2) u v1 v2 := by
  refine ir_el (P := fun u v => wpX_withdraw (fun r u' => wpY_withdraw (fun r' v' => r' = r ∧ i_Rel (k + 3) u' v') v v1 v2) u v1 v2) ?_ I
  intro n A R U ch se ak tg fA fR fU fa ft kd rg th h2 h8 hR hg
  have rel : i_Rel (k + 3) (nI n, nI (2 ^ n - 1), A, R, U, ch, se, ak, tg, fA, fR, fU, fa, ft, kd, rg) (nI n, nI (2 ^ n - 1), th) := ir_mk h2 h8 hR hg
  unfold wpX_withdraw wpY_withdraw
  dsimp only
  rcases ir_arg v1 h8 with ⟨a, ha, rfl⟩ | hF
  · rcases ir_arg v2 h8 with ⟨b, hb, rfl⟩ | hF
    · have hia : vp_in (nI a) 8 := vp_in_nI (by omega) (by omega)
      have hib : vp_in (nI b) 8 := vp_in_nI (by omega) (by omega)
      have hix : vp_in (nI (8 * a + b)) 64 := vp_in_nI (by omega) (by omega)
      have hT := hR.2.1 a (by omega) b
      rw [ya_ix, ya_cl (by omega : a < 256), ya_cl (by omega : b < 256), ya_cl (by omega : 8 * a + b < 256), xa_bo0]
      refine xa_isT h8 ha (br_f (by decide) (xa_isT h8 hb (br_f (by decide) ⟨hia, zb_br (by omega) (fun z => ya_isT h8 ha (br_f (by decide) (ya_isT h8 hb (br_f (by decide) ⟨hix, br_t ?_ ⟨rfl, rel⟩⟩)))) (fun z => ⟨hia, hia, nm_e ⟨hib, hib, nm_e (ya_isT h8 ha (br_f (by decide) (ya_isT h8 hb (br_f (by decide) ⟨hix, br_f (hT.mp z).2.2 ⟨hix, nm_e ⟨rfl, ir_mk h2 h8 (qa_R_cut h8 hR ha hb) (fun z => absurd rfl z)⟩⟩⟩))))⟩⟩)⟩)))
      apply Classical.byContradiction
      intro t
      exact zb_tf (hT.mpr ⟨by omega, by omega, t⟩) z
    · exact xa_isT h8 ha (br_f (by decide) (xa_isF hF (br_t rfl (ya_isT h8 ha (br_f (by decide) (ya_isF hF (br_t rfl ⟨rfl, rel⟩)))))))
  · exact xa_isF hF (br_t rfl (ya_isF hF (br_t rfl ⟨rfl, rel⟩)))
theorem i_vc_attacks {k : Nat} {u : SX} {v : SY} (I : i_Rel k u v) (hk : k + 3 ≤ 1537) (v1 : Int32) (v2 : Int32) : wpX_attacks (fun r => wpY_attacks (fun r' => r' = r ∧ i_Rel (k + 3) u v) v v1 v2) u v1 v2 := by
  refine ir_el (P := fun u v => wpX_attacks (fun r => wpY_attacks (fun r' => r' = r ∧ i_Rel (k + 3) u v) v v1 v2) u v1 v2) ?_ I
  intro n A R U ch se ak tg fA fR fU fa ft kd rg th h2 h8 hR hg
  have rel : i_Rel (k + 3) (nI n, nI (2 ^ n - 1), A, R, U, ch, se, ak, tg, fA, fR, fU, fa, ft, kd, rg) (nI n, nI (2 ^ n - 1), th) := ir_mk h2 h8 hR hg
  unfold wpX_attacks wpY_attacks
  dsimp only
  rcases ir_arg v1 h8 with ⟨a, ha, rfl⟩ | hF
  · rcases ir_arg v2 h8 with ⟨b, hb, rfl⟩ | hF
    · have hia : vp_in (nI a) 8 := vp_in_nI (by omega) (by omega)
      have hix : vp_in (nI (8 * a + b)) 64 := vp_in_nI (by omega) (by omega)
      have hT := hR.2.1 a (by omega) b
      rw [ya_ix, ya_cl (by omega : a < 256), ya_cl (by omega : 8 * a + b < 256)]
      refine xa_isT h8 ha (br_f (by decide) (xa_isT h8 hb (br_f (by decide) ⟨hia, zb_br (by omega) (fun z => ya_isT h8 ha (br_f (by decide) (ya_isT h8 hb (br_f (by decide) ⟨hix, br_t ?_ ⟨rfl, rel⟩⟩)))) (fun z => ya_isT h8 ha (br_f (by decide) (ya_isT h8 hb (br_f (by decide) ⟨hix, br_f (hT.mp z).2.2 ⟨rfl, rel⟩⟩))))⟩)))
      apply Classical.byContradiction
      intro t
      exact zb_tf (hT.mpr ⟨by omega, by omega, t⟩) z
    · exact xa_isT h8 ha (br_f (by decide) (xa_isF hF (br_t rfl (ya_isT h8 ha (br_f (by decide) (ya_isF hF (br_t rfl ⟨rfl, rel⟩)))))))
  · exact xa_isF hF (br_t rfl (ya_isF hF (br_t rfl ⟨rfl, rel⟩)))
end
section
/-! the owed statements: grounded, clear, the kinds -/
theorem i_vc_grounded {k : Nat} {u : SX} {v : SY} (I : i_Rel k u v) (hk : k + 3 ≤ 1537) : wpX_grounded (fun r u' => wpY_grounded (fun r' => r' = r ∧ i_Rel (k + 3) u' v) v) u := by
  refine ir_el (P := fun u v => wpX_grounded (fun r u' => wpY_grounded (fun r' => r' = r ∧ i_Rel (k + 3) u' v) v) u) ?_ I
  intro n A R U ch se ak tg fA fR fU fa ft kd rg th h2 h8 hR hg
  refine xa_grounded (g := qa_g th) h8 (fun a ha b => hR.2.2 a (by omega) b) (fun a ha b => hR.2.1 a (by omega) b) (fun A2 R2 ch2 h1 h3 => ?_)
  exact ya_grounded h8 h1 h3 ⟨rfl, ir_mk h2 h8 hR hg⟩
theorem i_vc_clear {k : Nat} {u : SX} {v : SY} (I : i_Rel k u v) (hk : k + 3 ≤ 1537) : wpX_clear (fun r u' => wpY_clear (fun r' v' => r' = r ∧ i_Rel (k + 3) u' v') v) u := by
  refine ir_el (P := fun u v => wpX_clear (fun r u' => wpY_clear (fun r' v' => r' = r ∧ i_Rel (k + 3) u' v') v) u) ?_ I
  intro n A R U ch se ak tg fA fR fU fa ft kd rg th h2 h8 hR hg
  refine ⟨n + 1, xa_cl4 (th := th) h8 hR.1 hR.2.1 hR.2.2 (fun ak' tg' hz => ?_) n 0 ak tg (by omega) (fun i hi => ⟨fun h => by omega, fun _ => ⟨rfl, rfl⟩⟩)⟩
  exact ⟨65, ya_cl4 (th := th) (fun th' hth => ⟨rfl, ir_mk h2 h8 (qa_R0 hth hz) (fun z => absurd rfl z)⟩) 64 0 th (by omega) (fun i hi => ⟨fun h => by omega, fun _ => rfl⟩)⟩
theorem ir_kind (x : Int32) : x < 0 ∨ (¬ x < 0 ∧ ¬ x ≤ 3 ∧ 3 < x) ∨ ∃ q, q < 4 ∧ x = nI q := by
  by_cases h : x < 0
  · exact Or.inl h
  · by_cases h3 : x ≤ 3
    · obtain ⟨q, hq, e⟩ := nI_of2 (M := 3) (n := 3) (by decide) h h3
      exact Or.inr (Or.inr ⟨q, by omega, e⟩)
    · exact Or.inr (Or.inl ⟨h, h3, Int32.not_le.mp h3⟩)
theorem ir_le3 {q : Nat} (h : q < 4) : nI q ≤ 3 := nI_le (b := 3) (by omega) (by decide)
theorem ir_nlt3 {q : Nat} (h : q < 4) : ¬ (3 : Int32) < nI q := nI_nlt (a := 3) (by omega) (by decide)
section
variable {post : Int32 → Prop} {n : Nat} {th : Nat → Int32} {q : Nat} {P : Nat → Bool}
theorem ya_kT {v : SY} (hq : q < 4) (h : post 1) : wpY_isKind post v (nI q) := by
  obtain ⟨a, b, c⟩ := v
  exact br_f (nI_pos (by omega)) (br_f (ir_nlt3 hq) h)
theorem ya_kF {v : SY} {x : Int32} (hx : x < 0 ∨ 3 < x) (h : post 0) : wpY_isKind post v x := by
  obtain ⟨a, b, c⟩ := v
  exact br_c (fun _ => h) (fun z => br_t (hx.elim (fun t => absurd t z) (fun t => t)) h)
theorem ya_far {f : Int32 → Nat → Int32} {z : Int32} (hn : n ≤ 8) (hG : ∀ a b, qa_g th a b → a < n ∧ b < n) (hP : ∀ s, s < 256 → (P s = true ↔ qa_is n (qa_g th) q (nI s))) : qa_fold f P z 256 = qa_fold f P z (2 ^ n) := by
  have h8 := zb_p8 hn
  have e : 256 = 2 ^ n + (256 - 2 ^ n) := by omega
  rw [e]
  exact qa_fold_skip _ (qa_Pfar hn hG hP)
theorem ya_count (hn : n ≤ 8) (hG : ∀ a b, qa_g th a b → a < n ∧ b < n) (hq : q < 4) (hP : ∀ s, s < 256 → (P s = true ↔ qa_is n (qa_g th) q (nI s))) (hp : post (qa_fold (fun x _ => x + 1) P 0 256)) : wpY_count post (nI n, nI (2 ^ n - 1), th) (nI q) := by
  unfold wpY_count
  dsimp only
  rw [ya_far hn hG hP] at hp
  exact ya_kT hq (br_f (by decide) ⟨2 ^ n + 1, ya_count_14 hn hG hq hP hp (2 ^ n) 0 (by omega)⟩)
theorem ya_inSome (hn : n ≤ 8) (hG : ∀ a b, qa_g th a b → a < n ∧ b < n) (hq : q < 4) (hP : ∀ s, s < 256 → (P s = true ↔ qa_is n (qa_g th) q (nI s))) (hp : post (qa_fold (fun x m => x ||| nI m) P 0 256)) : wpY_inSome post (nI n, nI (2 ^ n - 1), th) (nI q) := by
  unfold wpY_inSome
  dsimp only
  rw [ya_far hn hG hP] at hp
  exact ya_kT hq (br_f (by decide) ⟨2 ^ n + 1, ya_inSome_14 hn hG hq hP hp (2 ^ n) 0 (by omega)⟩)
theorem ya_inEvery (hn : n ≤ 8) (hG : ∀ a b, qa_g th a b → a < n ∧ b < n) (hq : q < 4) (hP : ∀ s, s < 256 → (P s = true ↔ qa_is n (qa_g th) q (nI s))) (hp : post (qa_fold (fun x m => x &&& nI m) P (nI (2 ^ n - 1)) 256)) : wpY_inEvery post (nI n, nI (2 ^ n - 1), th) (nI q) := by
  unfold wpY_inEvery
  dsimp only
  rw [ya_far hn hG hP] at hp
  exact ya_kT hq (br_f (by decide) ⟨2 ^ n + 1, ya_inEvery_17 hn hG hq hP hp (2 ^ n) 0 (by omega)⟩)
theorem ya_extension {x : Int32} (hn : n ≤ 8) (hG : ∀ a b, qa_g th a b → a < n ∧ b < n) (hq : q < 4) (hP : ∀ s, s < 256 → (P s = true ↔ qa_is n (qa_g th) q (nI s))) (hp : post (qa_ex P 256 x 0)) : wpY_extension post (nI n, nI (2 ^ n - 1), th) (nI q) x := by
  have h8 := zb_p8 hn
  unfold wpY_extension
  dsimp only
  rw [show 256 = 2 ^ n + (256 - 2 ^ n) by omega, qa_ex_skip (2 ^ n) x 0 (fun i h1 h2 => qa_Pfar hn hG hP i (by omega) (by omega))] at hp
  refine ya_kT hq (br_f (by decide) ⟨2 ^ n + 1, ya_extension_15 hn hG hq hP (2 ^ n) 0 0 (by omega) ?_⟩)
  rw [show x + -0 = x from Int32.add_zero x]
  exact hp
end
theorem i_vc_count {k : Nat} {u : SX} {v : SY} (I : i_Rel k u v) (hk : k + 3 ≤ 1537) (v1 : Int32) : wpX_count (fun r u' => wpY_count (fun r' => r' = r ∧ i_Rel (k + 3) u' v) v v1) u v1 := by
  refine ir_el (P := fun u v => wpX_count (fun r u' => wpY_count (fun r' => r' = r ∧ i_Rel (k + 3) u' v) v v1) u v1) ?_ I
  intro n A R U ch se ak tg fA fR fU fa ft kd rg th h2 h8 hR hg
  have rel : i_Rel (k + 3) (nI n, nI (2 ^ n - 1), A, R, U, ch, se, ak, tg, fA, fR, fU, fa, ft, kd, rg) (nI n, nI (2 ^ n - 1), th) := ir_mk h2 h8 hR hg
  rcases ir_kind v1 with h | ⟨h, h3, h4⟩ | ⟨q, hq, rfl⟩
  · refine br_t h ?_
    unfold wpY_count
    dsimp only
    exact ya_kF (Or.inl h) (br_t rfl ⟨rfl, rel⟩)
  · refine br_f h (br_f h3 ?_)
    unfold wpY_count
    dsimp only
    exact ya_kF (Or.inr h4) (br_t rfl ⟨rfl, rel⟩)
  · have fin : ∀ (A R U ch se : Int32) (fA fR fU fa ft kd rg : Nat → Int32), qa_good n (qa_g th) kd → ∃ n19 : Nat, wX_count_19 (fun r u' => wpY_count (fun r' => r' = r ∧ i_Rel (k + 3) u' (nI n, nI (2 ^ n - 1), th)) (nI n, nI (2 ^ n - 1), th) (nI q)) (nI q) (nI n) (nI (2 ^ n - 1)) A R U ch se ak tg fA fR fU fa ft kd rg n19 0 0 := by
      intro A R U ch se fA fR fU fa ft kd rg hgood
      exact ⟨257, xa_count_19 (P := fun s => bt (kd s) q) hq (fun _ _ => rfl) (ya_count h8 hR.1 hq (fun s hs => hgood s hs q hq) ⟨rfl, ir_mk h2 h8 hR (fun _ => hgood)⟩) 256 0 (by omega)⟩
    refine br_f (nI_pos (by omega)) (br_t (ir_le3 hq) (xa_search (g := qa_g th) h8 (ya_e h8) hR.1 (fun a ha b => hR.2.2 a (by omega) b) (fun z => ?_) (fun A R U ch se fA fR fU fa ft kd rg hgood => ?_)))
    · exact fin _ _ _ _ _ _ _ _ _ _ _ _ (hg z)
    · exact fin _ _ _ _ _ _ _ _ _ _ _ _ hgood
theorem i_vc_inSome {k : Nat} {u : SX} {v : SY} (I : i_Rel k u v) (hk : k + 3 ≤ 1537) (v1 : Int32) : wpX_inSome (fun r u' => wpY_inSome (fun r' => r' = r ∧ i_Rel (k + 3) u' v) v v1) u v1 := by
  refine ir_el (P := fun u v => wpX_inSome (fun r u' => wpY_inSome (fun r' => r' = r ∧ i_Rel (k + 3) u' v) v v1) u v1) ?_ I
  intro n A R U ch se ak tg fA fR fU fa ft kd rg th h2 h8 hR hg
  have rel : i_Rel (k + 3) (nI n, nI (2 ^ n - 1), A, R, U, ch, se, ak, tg, fA, fR, fU, fa, ft, kd, rg) (nI n, nI (2 ^ n - 1), th) := ir_mk h2 h8 hR hg
  rcases ir_kind v1 with h | ⟨h, h3, h4⟩ | ⟨q, hq, rfl⟩
  · refine br_t h ?_
    unfold wpY_inSome
    dsimp only
    exact ya_kF (Or.inl h) (br_t rfl ⟨rfl, rel⟩)
  · refine br_f h (br_f h3 ?_)
    unfold wpY_inSome
    dsimp only
    exact ya_kF (Or.inr h4) (br_t rfl ⟨rfl, rel⟩)
  · have fin : ∀ (A R U ch se : Int32) (fA fR fU fa ft kd rg : Nat → Int32), qa_good n (qa_g th) kd → ∃ n19 : Nat, wX_inSome_19 (fun r u' => wpY_inSome (fun r' => r' = r ∧ i_Rel (k + 3) u' (nI n, nI (2 ^ n - 1), th)) (nI n, nI (2 ^ n - 1), th) (nI q)) (nI q) (nI n) (nI (2 ^ n - 1)) A R U ch se ak tg fA fR fU fa ft kd rg n19 0 0 := by
      intro A R U ch se fA fR fU fa ft kd rg hgood
      exact ⟨257, xa_inSome_19 (P := fun s => bt (kd s) q) hq (fun _ _ => rfl) (ya_inSome h8 hR.1 hq (fun s hs => hgood s hs q hq) ⟨rfl, ir_mk h2 h8 hR (fun _ => hgood)⟩) 256 0 (by omega)⟩
    refine br_f (nI_pos (by omega)) (br_t (ir_le3 hq) (xa_search (g := qa_g th) h8 (ya_e h8) hR.1 (fun a ha b => hR.2.2 a (by omega) b) (fun z => ?_) (fun A R U ch se fA fR fU fa ft kd rg hgood => ?_)))
    · exact fin _ _ _ _ _ _ _ _ _ _ _ _ (hg z)
    · exact fin _ _ _ _ _ _ _ _ _ _ _ _ hgood
theorem i_vc_inEvery {k : Nat} {u : SX} {v : SY} (I : i_Rel k u v) (hk : k + 3 ≤ 1537) (v1 : Int32) : wpX_inEvery (fun r u' => wpY_inEvery (fun r' => r' = r ∧ i_Rel (k + 3) u' v) v v1) u v1 := by
  refine ir_el (P := fun u v => wpX_inEvery (fun r u' => wpY_inEvery (fun r' => r' = r ∧ i_Rel (k + 3) u' v) v v1) u v1) ?_ I
  intro n A R U ch se ak tg fA fR fU fa ft kd rg th h2 h8 hR hg
  have rel : i_Rel (k + 3) (nI n, nI (2 ^ n - 1), A, R, U, ch, se, ak, tg, fA, fR, fU, fa, ft, kd, rg) (nI n, nI (2 ^ n - 1), th) := ir_mk h2 h8 hR hg
  rcases ir_kind v1 with h | ⟨h, h3, h4⟩ | ⟨q, hq, rfl⟩
  · refine br_t h ?_
    unfold wpY_inEvery
    dsimp only
    exact ya_kF (Or.inl h) (br_t rfl ⟨rfl, rel⟩)
  · refine br_f h (br_f h3 ?_)
    unfold wpY_inEvery
    dsimp only
    exact ya_kF (Or.inr h4) (br_t rfl ⟨rfl, rel⟩)
  · have fin : ∀ (A R U ch se : Int32) (fA fR fU fa ft kd rg : Nat → Int32), qa_good n (qa_g th) kd → ∃ n22 : Nat, wX_inEvery_22 (fun r u' => wpY_inEvery (fun r' => r' = r ∧ i_Rel (k + 3) u' (nI n, nI (2 ^ n - 1), th)) (nI n, nI (2 ^ n - 1), th) (nI q)) (nI q) (nI n) (nI (2 ^ n - 1)) A R U ch se ak tg fA fR fU fa ft kd rg n22 (nI (2 ^ n - 1)) 0 := by
      intro A R U ch se fA fR fU fa ft kd rg hgood
      exact ⟨257, xa_inEvery_22 (P := fun s => bt (kd s) q) (z0 := nI (2 ^ n - 1)) hq (fun _ _ => rfl) (ya_inEvery h8 hR.1 hq (fun s hs => hgood s hs q hq) ⟨rfl, ir_mk h2 h8 hR (fun _ => hgood)⟩) 256 0 (by omega)⟩
    refine br_f (nI_pos (by omega)) (br_t (ir_le3 hq) (xa_search (g := qa_g th) h8 (ya_e h8) hR.1 (fun a ha b => hR.2.2 a (by omega) b) (fun z => ?_) (fun A R U ch se fA fR fU fa ft kd rg hgood => ?_)))
    · exact fin _ _ _ _ _ _ _ _ _ _ _ _ (hg z)
    · exact fin _ _ _ _ _ _ _ _ _ _ _ _ hgood
theorem i_vc_extension {k : Nat} {u : SX} {v : SY} (I : i_Rel k u v) (hk : k + 3 ≤ 1537) (v1 : Int32) (v2 : Int32) : wpX_extension (fun r u' => wpY_extension (fun r' => r' = r ∧ i_Rel (k + 3) u' v) v v1 v2) u v1 v2 := by
  refine ir_el (P := fun u v => wpX_extension (fun r u' => wpY_extension (fun r' => r' = r ∧ i_Rel (k + 3) u' v) v v1 v2) u v1 v2) ?_ I
  intro n A R U ch se ak tg fA fR fU fa ft kd rg th h2 h8 hR hg
  have rel : i_Rel (k + 3) (nI n, nI (2 ^ n - 1), A, R, U, ch, se, ak, tg, fA, fR, fU, fa, ft, kd, rg) (nI n, nI (2 ^ n - 1), th) := ir_mk h2 h8 hR hg
  rcases ir_kind v1 with h | ⟨h, h3, h4⟩ | ⟨q, hq, rfl⟩
  · refine br_t h ?_
    unfold wpY_extension
    dsimp only
    exact ya_kF (Or.inl h) (br_t rfl ⟨rfl, rel⟩)
  · refine br_f h (br_f h3 ?_)
    unfold wpY_extension
    dsimp only
    exact ya_kF (Or.inr h4) (br_t rfl ⟨rfl, rel⟩)
  · have fin : ∀ (A R U ch se : Int32) (fA fR fU fa ft kd rg : Nat → Int32), qa_good n (qa_g th) kd → ∃ n20 : Nat, wX_extension_20 (fun r u' => wpY_extension (fun r' => r' = r ∧ i_Rel (k + 3) u' (nI n, nI (2 ^ n - 1), th)) (nI n, nI (2 ^ n - 1), th) (nI q) v2) (nI q) (nI n) (nI (2 ^ n - 1)) A R U ch se ak tg fA fR fU fa ft kd rg n20 v2 0 := by
      intro A R U ch se fA fR fU fa ft kd rg hgood
      exact ⟨257, xa_extension_20 (P := fun s => bt (kd s) q) hq (fun _ _ => rfl) 256 0 v2 (by omega) (ya_extension h8 hR.1 hq (fun s hs => hgood s hs q hq) ⟨rfl, ir_mk h2 h8 hR (fun _ => hgood)⟩)⟩
    refine br_f (nI_pos (by omega)) (br_t (ir_le3 hq) (xa_search (g := qa_g th) h8 (ya_e h8) hR.1 (fun a ha b => hR.2.2 a (by omega) b) (fun z => ?_) (fun A R U ch se fA fR fU fa ft kd rg hgood => ?_)))
    · exact fin _ _ _ _ _ _ _ _ _ _ _ _ (hg z)
    · exact fin _ _ _ _ _ _ _ _ _ _ _ _ hgood
end
