section
/-! 01: stores, bits, narrowing -/
theorem tp_uu (f : Nat → Int32) (k : Nat) (x y : Int32) : upd (upd f k x) k y = upd f k y := by
  funext j
  unfold upd
  by_cases h : j = k
  · rw [if_pos h, if_pos h]
  · rw [if_neg h, if_neg h, if_neg h]
theorem tp_us {f : Nat → Int32} {k : Nat} {x : Int32} (h : f k = x) : upd f k x = f := by
  funext j
  unfold upd
  by_cases e : j = k
  · rw [if_pos e, e, h]
  · rw [if_neg e]
theorem tp_or (a b : Nat) : nI a ||| nI b = nI (a ||| b) := by
  apply Int32.toBitVec_inj.1
  show BitVec.ofNat 32 a ||| BitVec.ofNat 32 b = BitVec.ofNat 32 (a ||| b)
  apply BitVec.eq_of_getLsbD_eq
  intro i hi
  simp [hi]
theorem tp_and (a b : Nat) : nI a &&& nI b = nI (a &&& b) := by
  apply Int32.toBitVec_inj.1
  show BitVec.ofNat 32 a &&& BitVec.ofNat 32 b = BitVec.ofNat 32 (a &&& b)
  apply BitVec.eq_of_getLsbD_eq
  intro i hi
  simp [hi]
theorem tp_xor (a b : Nat) : nI a ^^^ nI b = nI (a ^^^ b) := by
  apply Int32.toBitVec_inj.1
  show BitVec.ofNat 32 a ^^^ BitVec.ofNat 32 b = BitVec.ofNat 32 (a ^^^ b)
  apply BitVec.eq_of_getLsbD_eq
  intro i hi
  simp [hi]
theorem tp_shl : ∀ k, k < 31 → (1 : Int32) <<< (nI k &&& 31) = nI (2 ^ k) := by decide +kernel
theorem tp_sm : ∀ k, k < 32 → ((nI k &&& 31).toBitVec.smod 32).toNat = k := by decide +kernel
theorem tp_bit {v k : Nat} (hv : v < 2 ^ 31) (hk : k < 31) : ((nI v >>> (nI k &&& 31)) &&& 1) = nI (v / 2 ^ k % 2) := by
  have h2 : v / 2 ^ k ≤ v := Nat.div_le_self _ _
  rw [pk_shrN hv _ k (tp_sm k (by omega)), pk_andN (show v / 2 ^ k < 2 ^ 32 by omega) 1 (by decide)]
theorem tp_tb (v k : Nat) : v.testBit k = decide (v / 2 ^ k % 2 = 1) := by
  rw [Nat.testBit_eq_decide_div_mod_eq]
theorem tp_bit0 {v k : Nat} (hv : v < 2 ^ 31) (hk : k < 31) : ((nI v >>> (nI k &&& 31)) &&& 1) = 0 ↔ v.testBit k = false := by
  rw [tp_bit hv hk, tp_tb, ← nI_0, nI_eq (by omega) (by omega)]
  constructor
  · intro h
    exact decide_eq_false (by omega)
  · intro h
    have := of_decide_eq_false h
    omega
theorem tp_bit1 {v k : Nat} (hv : v < 2 ^ 31) (hk : k < 31) : ((nI v >>> (nI k &&& 31)) &&& 1) = 1 ↔ v.testBit k = true := by
  rw [tp_bit hv hk, tp_tb, show (1 : Int32) = nI 1 from rfl, nI_eq (by omega) (by omega)]
  constructor
  · intro h
    exact decide_eq_true h
  · intro h
    exact of_decide_eq_true h
/-- a bit cleared -/
def tp_clr (v k : Nat) : Nat := v &&& (2 ^ k ^^^ 4294967295)
theorem tp_clr_I (v k : Nat) (hk : k < 31) : nI v &&& (((1 : Int32) <<< (nI k &&& 31)) ^^^ (-1)) = nI (tp_clr v k) := by
  rw [tp_shl k hk, show (-1 : Int32) = nI 4294967295 from by decide, tp_xor, tp_and]
  rfl
theorem tp_clr_b {v k j : Nat} (hj : j < 32) : (tp_clr v k).testBit j = (v.testBit j && decide (j ≠ k)) := by
  unfold tp_clr
  rw [Nat.testBit_and, Nat.testBit_xor, Nat.testBit_two_pow, show 4294967295 = 2 ^ 32 - 1 from rfl, Nat.testBit_two_pow_sub_one]
  by_cases e : j = k
  · subst e
    simp [hj]
  · have e2 : ¬ k = j := fun z => e z.symm
    simp [hj, e, e2]
theorem tp_clr_le (v k : Nat) : tp_clr v k ≤ v := Nat.and_le_left
theorem tp_or_b {v k j : Nat} : (v ||| 2 ^ k).testBit j = (v.testBit j || decide (k = j)) := by
  rw [Nat.testBit_or, Nat.testBit_two_pow]
theorem tp_or_lt {v k n : Nat} (hv : v < 2 ^ n) (hk : k < n) : v ||| 2 ^ k < 2 ^ n := Nat.or_lt_two_pow hv (Nat.pow_lt_pow_right (by omega) hk)
theorem tp_n8 : ∀ k, k < 128 → (nI k).toInt8.toInt32 = nI k := by decide +kernel
theorem tp_n8m : ((-1 : Int32)).toInt8.toInt32 = -1 := by decide
theorem tp_n16 {v : Nat} (h : v < 4096) : (nI v).toInt16.toInt32 = nI v := by
  apply Int32.toInt_inj.mp
  rw [Int16.toInt_toInt32, Int32.toInt_toInt16, nI_toInt (by omega)]
  rw [Int.bmod_eq_of_le (by omega) (by omega)]
theorem tp_ne1 {t : Nat} (h : t < 2 ^ 31) : nI t ≠ -1 := by
  intro e
  have e2 := congrArg Int32.toInt e
  rw [nI_toInt h] at e2
  have e3 : (-1 : Int32).toInt = -1 := by decide
  omega
theorem tp_ix3 (t m : Nat) : nI t * 3 + nI m = nI (t * 3 + m) := by
  rw [show (3 : Int32) = nI 3 from rfl, pk_mul, nI_add]
theorem tp_ix12 (t m : Nat) : nI t * 12 + nI m = nI (t * 12 + m) := by
  rw [show (12 : Int32) = nI 12 from rfl, pk_mul, nI_add]
theorem tp_ix64 (t m : Nat) : nI t * 64 + nI m = nI (t * 64 + m) := by
  rw [show (64 : Int32) = nI 64 from rfl, pk_mul, nI_add]
theorem tp_ix64' (t : Nat) : nI t * 64 = nI (t * 64) := by
  rw [show (64 : Int32) = nI 64 from rfl, pk_mul]
theorem tp_p3 (m i : Nat) : nI (m + 3 * i) + 3 = nI (m + 3 * (i + 1)) := by
  rw [show (3 : Int32) = nI 3 from rfl, nI_add, Nat.mul_add, Nat.mul_one, Nat.add_assoc]
/-- the bits of a word of keys -/
def tp_wb (x : Int32) (k : Nat) : Bool := x.toNatClampNeg.testBit k
theorem tp_wb_nI {v k : Nat} (h : v < 4096) : tp_wb (nI v) k = v.testBit k := by
  unfold tp_wb
  rw [nI_clamp (by omega)]
/-- the bits on machine m cleared, i of them -/
def tp_cm (v m : Nat) : Nat → Nat
  | 0 => v
  | i + 1 => tp_clr (tp_cm v m i) (m + 3 * i)
theorem tp_cm_le (v m : Nat) : ∀ i, tp_cm v m i ≤ v
  | 0 => Nat.le_refl v
  | i + 1 => Nat.le_trans (tp_clr_le _ _) (tp_cm_le v m i)
theorem tp_cm_b {v m j : Nat} (hj : j < 32) : ∀ i, (tp_cm v m i).testBit j = (v.testBit j && decide (¬ (m ≤ j ∧ j < m + 3 * i ∧ j % 3 = m % 3)))
  | 0 => by
    have : ¬ (m ≤ j ∧ j < m + 3 * 0 ∧ j % 3 = m % 3) := by omega
    rw [decide_eq_true this, Bool.and_true]
    rfl
  | i + 1 => by
    show (tp_clr (tp_cm v m i) (m + 3 * i)).testBit j = _
    rw [tp_clr_b hj, tp_cm_b hj i, Bool.and_assoc]
    congr 1
    by_cases h1 : j = m + 3 * i
    · have h2 : m ≤ j ∧ j < m + 3 * (i + 1) ∧ j % 3 = m % 3 := by omega
      simp [h1]
    · have e : (¬ (m ≤ j ∧ j < m + 3 * (i + 1) ∧ j % 3 = m % 3)) ↔ ¬ (m ≤ j ∧ j < m + 3 * i ∧ j % 3 = m % 3) := by omega
      rw [decide_eq_decide.mpr e, decide_eq_true (show j ≠ m + 3 * i from h1), Bool.and_true]
/-- a sum of Int32 -/
def tp_sum (f : Nat → Int32) : Nat → Int32
  | 0 => 0
  | n + 1 => tp_sum f n + f n
theorem tp_sum_cg {f g : Nat → Int32} : ∀ n, (∀ k, k < n → f k = g k) → tp_sum f n = tp_sum g n
  | 0, _ => rfl
  | n + 1, h => by
    show tp_sum f n + f n = tp_sum g n + g n
    rw [tp_sum_cg n (fun k hk => h k (by omega)), h n (by omega)]
theorem tp_sum_add (f g : Nat → Int32) : ∀ n, tp_sum (fun k => f k + g k) n = tp_sum f n + tp_sum g n
  | 0 => by
    show (0 : Int32) = 0 + 0
    decide
  | n + 1 => by
    show tp_sum (fun k => f k + g k) n + (f n + g n) = (tp_sum f n + f n) + (tp_sum g n + g n)
    rw [tp_sum_add f g n]
    ac_rfl
theorem tp_sum_up {f g : Nat → Int32} {j : Nat} : ∀ n, j < n → (∀ k, k < n → k ≠ j → g k = f k) → tp_sum g n = tp_sum f n + (g j - f j)
  | 0, h, _ => absurd h (by omega)
  | n + 1, h, hk => by
    show tp_sum g n + g n = (tp_sum f n + f n) + (g j - f j)
    by_cases e : j = n
    · subst e
      rw [tp_sum_cg (f := g) (g := f) j (fun k hk' => hk k (by omega) (by omega))]
      grind
    · rw [tp_sum_up n (by omega) (fun k hk' he => hk k (by omega) he), hk n (by omega) (fun z => e z.symm)]
      grind
/-- who holds a key: nobody, or one of four -/
def tp_HR (h : Nat → Int32) : Prop := ∀ k, k < 12 → h k = -1 ∨ ∃ t, t < 4 ∧ h k = nI t
theorem tp_HRb {h : Nat → Int32} (H : tp_HR h) {k : Nat} (hk : k < 12) : vp_nar .byte (h k) = h k := by
  rw [vp_nar_byte]
  rcases H k hk with e | ⟨t, ht, e⟩
  · rw [e]
    decide
  · rw [e]
    exact tp_n8 t (by omega)
end
section
/-! 02: logs, what they say when they are read again; no program in sight -/
/-- what the entries of transaction tr among j entries from place g on make of f -/
def tp_app (K T Y V : Nat → Int32) (g : Nat) (tr : Int32) (f : Nat → Int32) : Nat → Nat → Int32
  | 0 => f
  | j + 1 => if K (g + j) = 1 ∧ T (g + j) = tr then upd (tp_app K T Y V g tr f j) (Y (g + j)).toNatClampNeg (V (g + j)) else tp_app K T Y V g tr f j
/-- a log of sz entries read again, j of them -/
def tp_run (K T Y V : Nat → Int32) (g sz : Nat) (f : Nat → Int32) : Nat → (Nat → Int32) × Int32
  | 0 => (f, 0)
  | j + 1 =>
    if K (g + j) = 2 then ((tp_run K T Y V g sz f j).1, T (g + j))
    else if K (g + j) = 3 then (tp_app K T Y V g (T (g + j)) (tp_run K T Y V g sz f j).1 sz, 0)
    else if K (g + j) = 4 then ((tp_run K T Y V g sz f j).1, 0)
    else tp_run K T Y V g sz f j
/-- two logs agree on n entries from g on -/
def tp_ag (K T Y V K' T' Y' V' : Nat → Int32) (g n : Nat) : Prop := ∀ i, i < n → K' (g + i) = K (g + i) ∧ T' (g + i) = T (g + i) ∧ Y' (g + i) = Y (g + i) ∧ V' (g + i) = V (g + i)
theorem tp_app_cg {K T Y V K' T' Y' V' : Nat → Int32} {g : Nat} {tr : Int32} {f : Nat → Int32} : ∀ j, tp_ag K T Y V K' T' Y' V' g j → tp_app K' T' Y' V' g tr f j = tp_app K T Y V g tr f j
  | 0, _ => rfl
  | j + 1, h => by
    obtain ⟨e1, e2, e3, e4⟩ := h j (by omega)
    show (if K' (g + j) = 1 ∧ T' (g + j) = tr then upd (tp_app K' T' Y' V' g tr f j) (Y' (g + j)).toNatClampNeg (V' (g + j)) else tp_app K' T' Y' V' g tr f j) = (if K (g + j) = 1 ∧ T (g + j) = tr then upd (tp_app K T Y V g tr f j) (Y (g + j)).toNatClampNeg (V (g + j)) else tp_app K T Y V g tr f j)
    rw [tp_app_cg j (fun i hi => h i (by omega)), e1, e2, e3, e4]
theorem tp_app_t {K T Y V : Nat → Int32} {g : Nat} {tr : Int32} {f : Nat → Int32} {j : Nat} (h : K (g + j) = 1 ∧ T (g + j) = tr) : tp_app K T Y V g tr f (j + 1) = upd (tp_app K T Y V g tr f j) (Y (g + j)).toNatClampNeg (V (g + j)) := if_pos h
theorem tp_app_f {K T Y V : Nat → Int32} {g : Nat} {tr : Int32} {f : Nat → Int32} {j : Nat} (h : ¬ (K (g + j) = 1 ∧ T (g + j) = tr)) : tp_app K T Y V g tr f (j + 1) = tp_app K T Y V g tr f j := if_neg h
theorem tp_run_cg {K T Y V K' T' Y' V' : Nat → Int32} {g sz : Nat} {f : Nat → Int32} (h : tp_ag K T Y V K' T' Y' V' g sz) : ∀ j, j ≤ sz → tp_run K' T' Y' V' g sz f j = tp_run K T Y V g sz f j
  | 0, _ => rfl
  | j + 1, hj => by
    obtain ⟨e1, e2, e3, e4⟩ := h j (by omega)
    unfold tp_run
    rw [tp_run_cg h j (by omega), e1, e2, tp_app_cg sz h]
/-- one entry more: the earlier ones say the same -/
theorem tp_run_ext {K T Y V : Nat → Int32} {g sz : Nat} {f : Nat → Int32} (h : K (g + sz) = 1 → ∀ i, i < sz → K (g + i) = 3 → T (g + i) ≠ T (g + sz)) : ∀ j, j ≤ sz → tp_run K T Y V g (sz + 1) f j = tp_run K T Y V g sz f j
  | 0, _ => rfl
  | j + 1, hj => by
    unfold tp_run
    rw [tp_run_ext h j (by omega)]
    by_cases e3 : K (g + j) = 3
    · have e : tp_app K T Y V g (T (g + j)) (tp_run K T Y V g sz f j).1 (sz + 1) = tp_app K T Y V g (T (g + j)) (tp_run K T Y V g sz f j).1 sz :=
        tp_app_f (fun z => h z.1 j (by omega) e3 z.2.symm)
      rw [e]
    · rw [if_neg e3, if_neg e3]
/-- the logs after one more entry -/
theorem tp_ag_upd (K T Y V : Nat → Int32) (g sz : Nat) (x1 x2 x3 x4 : Int32) : tp_ag K T Y V (upd K (g + sz) x1) (upd T (g + sz) x2) (upd Y (g + sz) x3) (upd V (g + sz) x4) g sz :=
  fun i hi => ⟨pk_un (by omega), pk_un (by omega), pk_un (by omega), pk_un (by omega)⟩
theorem tp_ag_far {K T Y V : Nat → Int32} {g n p : Nat} {x1 x2 x3 x4 : Int32} (h : p < g ∨ g + n ≤ p) : tp_ag K T Y V (upd K p x1) (upd T p x2) (upd Y p x3) (upd V p x4) g n :=
  fun i hi => ⟨pk_un (by omega), pk_un (by omega), pk_un (by omega), pk_un (by omega)⟩
theorem tp_ag_less {K T Y V K' T' Y' V' : Nat → Int32} {g n n' : Nat} (h : tp_ag K T Y V K' T' Y' V' g n) (hn : n' ≤ n) : tp_ag K T Y V K' T' Y' V' g n' := fun i hi => h i (by omega)
/-- the keys of the entries that write lie on machine m -/
def tp_KO (K Y : Nat → Int32) (g m sz : Nat) : Prop := ∀ i, i < sz → K (g + i) = 1 → ∃ k, k < 12 ∧ k % 3 = m ∧ Y (g + i) = nI k
/-- image and log give num on machine m, and op is in doubt -/
def tp_RP (K T Y V : Nat → Int32) (g m sz : Nat) (img num : Nat → Int32) (op : Int32) : Prop :=
  ∀ f, (∀ k, k < 12 → k % 3 = m → f k = img k) → (∀ k, k < 12 → k % 3 = m → (tp_run K T Y V g sz f sz).1 k = num k) ∧ (∀ k, k < 12 → k % 3 ≠ m → (tp_run K T Y V g sz f sz).1 k = f k) ∧ (tp_run K T Y V g sz f sz).2 = op
theorem tp_RP_cg {K T Y V K' T' Y' V' : Nat → Int32} {g m sz : Nat} {img img' num num' : Nat → Int32} {op : Int32} (h : tp_RP K T Y V g m sz img num op) (a : tp_ag K T Y V K' T' Y' V' g sz) (e1 : ∀ k, k < 12 → k % 3 = m → img' k = img k) (e2 : ∀ k, k < 12 → k % 3 = m → num' k = num k) : tp_RP K' T' Y' V' g m sz img' num' op := by
  intro f hf
  rw [tp_run_cg a sz (Nat.le_refl _)]
  obtain ⟨h1, h2, h3⟩ := h f (fun k hk hm => by rw [hf k hk hm, e1 k hk hm])
  exact ⟨fun k hk hm => by rw [h1 k hk hm, e2 k hk hm], h2, h3⟩
theorem tp_RP_0 {K T Y V : Nat → Int32} {g m : Nat} {img num : Nat → Int32} (h : ∀ k, k < 12 → k % 3 = m → img k = num k) : tp_RP K T Y V g m 0 img num 0 :=
  fun f hf => ⟨fun k hk hm => by show f k = num k; rw [hf k hk hm, h k hk hm], fun k _ _ => rfl, rfl⟩
/-- an entry written behind sz others: what the log says then -/
theorem tp_run_log {K T Y V : Nat → Int32} {g sz : Nat} (kd tr ky v : Int32) (h : kd = 1 → ∀ i, i < sz → K (g + i) = 3 → T (g + i) ≠ tr) (f : Nat → Int32) :
    tp_run (upd K (g + sz) kd) (upd T (g + sz) tr) (upd Y (g + sz) ky) (upd V (g + sz) v) g (sz + 1) f (sz + 1) =
      (if kd = 2 then ((tp_run K T Y V g sz f sz).1, tr) else if kd = 3 then (tp_app K T Y V g tr (tp_run K T Y V g sz f sz).1 sz, 0) else if kd = 4 then ((tp_run K T Y V g sz f sz).1, 0) else tp_run K T Y V g sz f sz) := by
  have a := tp_ag_upd K T Y V g sz kd tr ky v
  have e : tp_run (upd K (g + sz) kd) (upd T (g + sz) tr) (upd Y (g + sz) ky) (upd V (g + sz) v) g (sz + 1) f sz = tp_run K T Y V g sz f sz := by
    rw [tp_run_ext _ sz (Nat.le_refl _), tp_run_cg a sz (Nat.le_refl _)]
    intro e1 i hi e3
    rw [pk_us] at e1
    rw [pk_un (by omega)] at e3
    rw [pk_un (by omega), pk_us]
    exact h e1 i hi e3
  show (if (upd K (g + sz) kd) (g + sz) = 2 then ((tp_run (upd K (g + sz) kd) (upd T (g + sz) tr) (upd Y (g + sz) ky) (upd V (g + sz) v) g (sz + 1) f sz).1, (upd T (g + sz) tr) (g + sz))
    else if (upd K (g + sz) kd) (g + sz) = 3 then (tp_app (upd K (g + sz) kd) (upd T (g + sz) tr) (upd Y (g + sz) ky) (upd V (g + sz) v) g ((upd T (g + sz) tr) (g + sz)) (tp_run (upd K (g + sz) kd) (upd T (g + sz) tr) (upd Y (g + sz) ky) (upd V (g + sz) v) g (sz + 1) f sz).1 (sz + 1), 0)
    else if (upd K (g + sz) kd) (g + sz) = 4 then ((tp_run (upd K (g + sz) kd) (upd T (g + sz) tr) (upd Y (g + sz) ky) (upd V (g + sz) v) g (sz + 1) f sz).1, 0)
    else tp_run (upd K (g + sz) kd) (upd T (g + sz) tr) (upd Y (g + sz) ky) (upd V (g + sz) v) g (sz + 1) f sz) = _
  rw [e, pk_us, pk_us]
  by_cases e3 : kd = 3
  · have z : tp_app (upd K (g + sz) kd) (upd T (g + sz) tr) (upd Y (g + sz) ky) (upd V (g + sz) v) g tr (tp_run K T Y V g sz f sz).1 (sz + 1) = tp_app K T Y V g tr (tp_run K T Y V g sz f sz).1 sz := by
      rw [tp_app_f, tp_app_cg sz a]
      intro z
      have z1 := z.1
      rw [pk_us, e3] at z1
      exact absurd z1 (by decide)
    rw [z]
  · rw [if_neg e3, if_neg e3]
/-- the entries of transaction n: they write just what W says, and all of it -/
def tp_PA (K T Y V : Nat → Int32) (g m sz : Nat) (tr : Int32) (W : Nat → Bool) (d : Nat → Int32) : Prop :=
  (∀ i, i < sz → K (g + i) = 1 → T (g + i) = tr → ∃ k, k < 12 ∧ k % 3 = m ∧ W k = true ∧ Y (g + i) = nI k ∧ V (g + i) = d k) ∧
  (∀ k, k < 12 → k % 3 = m → W k = true → ∃ i, i < sz ∧ K (g + i) = 1 ∧ T (g + i) = tr ∧ Y (g + i) = nI k)
theorem tp_app_w {K T Y V : Nat → Int32} {g m sz : Nat} {tr : Int32} {W : Nat → Bool} {d : Nat → Int32} {f : Nat → Int32}
    (h : ∀ i, i < sz → K (g + i) = 1 → T (g + i) = tr → ∃ k, k < 12 ∧ k % 3 = m ∧ W k = true ∧ Y (g + i) = nI k ∧ V (g + i) = d k) :
    ∀ j, j ≤ sz → ∀ k, (tp_app K T Y V g tr f j k = f k ∨ (W k = true ∧ k % 3 = m ∧ tp_app K T Y V g tr f j k = d k)) ∧ ((∃ i, i < j ∧ K (g + i) = 1 ∧ T (g + i) = tr ∧ Y (g + i) = nI k) → k < 12 → tp_app K T Y V g tr f j k = d k)
  | 0, _, k => ⟨Or.inl rfl, fun ⟨i, hi, _⟩ => absurd hi (by omega)⟩
  | j + 1, hj, k => by
    have ih := tp_app_w (f := f) h j (by omega) k
    by_cases c : K (g + j) = 1 ∧ T (g + j) = tr
    · rw [tp_app_t c]
      obtain ⟨q, hq, hm, hw, ey, ev⟩ := h j (by omega) c.1 c.2
      rw [ey, nI_clamp (by omega), ev]
      by_cases e : k = q
      · subst e
        rw [pk_us]
        exact ⟨Or.inr ⟨hw, hm, rfl⟩, fun _ _ => rfl⟩
      · rw [pk_un e]
        refine ⟨ih.1, fun ⟨i, hi, k1, t1, y1⟩ hk => ?_⟩
        by_cases ei : i = j
        · subst ei
          rw [ey] at y1
          exact absurd ((nI_eq (by omega) (by omega)).mp y1).symm e
        · exact ih.2 ⟨i, by omega, k1, t1, y1⟩ hk
    · rw [tp_app_f c]
      refine ⟨ih.1, fun ⟨i, hi, k1, t1, y1⟩ hk => ?_⟩
      by_cases ei : i = j
      · subst ei
        exact absurd ⟨k1, t1⟩ c
      · exact ih.2 ⟨i, by omega, k1, t1, y1⟩ hk
theorem tp_app_PA {K T Y V : Nat → Int32} {g m sz : Nat} {tr : Int32} {W : Nat → Bool} {d : Nat → Int32} (h : tp_PA K T Y V g m sz tr W d) (f : Nat → Int32) :
    (∀ k, k < 12 → k % 3 = m → W k = true → tp_app K T Y V g tr f sz k = d k) ∧ (∀ k, ¬ (k % 3 = m ∧ W k = true) → tp_app K T Y V g tr f sz k = f k) := by
  constructor
  · intro k hk hm hw
    exact (tp_app_w (f := f) h.1 sz (Nat.le_refl _) k).2 (h.2 k hk hm hw) hk
  · intro k hn
    rcases (tp_app_w (f := f) h.1 sz (Nat.le_refl _) k).1 with e | ⟨z1, z2, _⟩
    · exact e
    · exact absurd ⟨z2, z1⟩ hn
/-- what is written, done: the image and the log give it -/
theorem tp_RP_done {K T Y V : Nat → Int32} {g m sz : Nat} {img b d : Nat → Int32} {op tr ky v : Int32} {W : Nat → Bool} (h : tp_RP K T Y V g m sz img b op) (p : tp_PA K T Y V g m sz tr W d) (hd : ∀ k, k < 12 → W k = false → d k = b k) :
    tp_RP (upd K (g + sz) 3) (upd T (g + sz) tr) (upd Y (g + sz) ky) (upd V (g + sz) v) g m (sz + 1) img d 0 := by
  intro f hf
  obtain ⟨h1, h2, h3⟩ := h f hf
  rw [tp_run_log 3 tr ky v (fun z => absurd z (by decide))]
  rw [if_neg (by decide), if_pos rfl]
  obtain ⟨p1, p2⟩ := tp_app_PA p (tp_run K T Y V g sz f sz).1
  refine ⟨fun k hk hm => ?_, fun k hk hm => ?_, rfl⟩
  · cases hw : W k with
    | true => exact p1 k hk hm hw
    | false =>
      show tp_app K T Y V g tr (tp_run K T Y V g sz f sz).1 sz k = d k
      rw [p2 k (fun z => by rw [hw] at z; exact absurd z.2 (by decide)), h1 k hk hm, hd k hk hw]
  · show tp_app K T Y V g tr (tp_run K T Y V g sz f sz).1 sz k = f k
    rw [p2 k (fun z => hm z.1), h2 k hk hm]
theorem tp_RP_write {K T Y V : Nat → Int32} {g m sz : Nat} {img b : Nat → Int32} {op tr ky v : Int32} (h : tp_RP K T Y V g m sz img b op) (hn : ∀ i, i < sz → K (g + i) = 3 → T (g + i) ≠ tr) :
    tp_RP (upd K (g + sz) 1) (upd T (g + sz) tr) (upd Y (g + sz) ky) (upd V (g + sz) v) g m (sz + 1) img b op := by
  intro f hf
  rw [tp_run_log 1 tr ky v (fun _ => hn), if_neg (by decide), if_neg (by decide), if_neg (by decide)]
  exact h f hf
theorem tp_RP_prom {K T Y V : Nat → Int32} {g m sz : Nat} {img b : Nat → Int32} {op tr ky v : Int32} (h : tp_RP K T Y V g m sz img b op) :
    tp_RP (upd K (g + sz) 2) (upd T (g + sz) tr) (upd Y (g + sz) ky) (upd V (g + sz) v) g m (sz + 1) img b tr := by
  intro f hf
  obtain ⟨h1, h2, h3⟩ := h f hf
  rw [tp_run_log 2 tr ky v (fun z => absurd z (by decide)), if_pos rfl]
  exact ⟨h1, h2, rfl⟩
theorem tp_RP_undo {K T Y V : Nat → Int32} {g m sz : Nat} {img b : Nat → Int32} {op tr ky v : Int32} (h : tp_RP K T Y V g m sz img b op) :
    tp_RP (upd K (g + sz) 4) (upd T (g + sz) tr) (upd Y (g + sz) ky) (upd V (g + sz) v) g m (sz + 1) img b 0 := by
  intro f hf
  obtain ⟨h1, h2, h3⟩ := h f hf
  rw [tp_run_log 4 tr ky v (fun z => absurd z (by decide)), if_neg (by decide), if_neg (by decide), if_pos rfl]
  exact ⟨h1, h2, rfl⟩
end
section
/-! 03: the machine of the messages alone: state, votes, heard, happened, sent, lost, what became of each machine, and what is under way.
 machines: 0 fresh, 1 gone, 2 promised, 3 promised and broken down since, 4 done, 5 undone, 9 never -/
abbrev tp_A : Type := Int32 × Int32 × Int32 × Int32 × Int32 × Int32 × (Nat → Nat) × List (Nat × Nat × Nat)
def tp_up (σ : Nat → Nat) (m x : Nat) : Nat → Nat := fun j => if j = m then x else σ j
def tp_snd (tr : Int32) (kd fr to : Nat) : tp_A → tp_A
  | (st, vo, he, hp, se, lo, σ, q) =>
    if tr = 6 ∧ ¬ 10 ≤ lo ∧ ¬ 3 ≤ ((se + 1) * 7) - ((se + 1) * 7) / 5 * 5 then (st, vo, he, hp, se + 1, lo + 1, σ, q)
    else (st, vo, he, hp, se + 1, lo, σ, (q ++ (if tr = 7 then [(kd, fr, to), (kd, fr, to)] else [(kd, fr, to)])).take 64)
def tp_rm1 (pa tr : Int32) (m : Nat) : tp_A → tp_A
  | (st, vo, he, hp, se, lo, σ, q) =>
    if ((pa >>> (nI m &&& 31)) &&& 1) = 0 then (st, vo, he, hp, se, lo, σ, q)
    else if st = 1 then (if ((vo >>> (nI m &&& 31)) &&& 1) = 0 then tp_snd tr 1 3 m (st, vo, he, hp, se, lo, σ, q) else (st, vo, he, hp, se, lo, σ, q))
    else if ((he >>> (nI m &&& 31)) &&& 1) = 0 then
      (if st = 2 then tp_snd tr 4 3 m (st, vo, he, hp, se, lo, σ, q)
      else if st = 3 then (if σ m = 2 ∨ σ m = 3 then tp_snd tr 7 m 3 (st, vo, he, hp, se, lo, σ, q) else tp_snd tr 5 3 m (st, vo, he, hp, se, lo, σ, q))
      else (st, vo, he, hp, se, lo, σ, q))
    else (st, vo, he, hp, se, lo, σ, q)
def tp_rem (pa tr : Int32) (a : tp_A) : tp_A := tp_rm1 pa tr 2 (tp_rm1 pa tr 1 (tp_rm1 pa tr 0 a))
def tp_bx (pa : Int32) (m x : Nat) : Nat := if x = 0 then (if ((pa >>> (nI m &&& 31)) &&& 1) = 0 then 0 else 1) else if x = 2 then 3 else x
def tp_bkd (pa : Int32) (m : Nat) : tp_A → tp_A
  | (st, vo, he, _, se, lo, σ, q) => (st, vo, he, 1, se, lo, tp_up σ m (tp_bx pa m (σ m)), q)
def tp_dec (pa tr : Int32) (td : Nat) : tp_A → tp_A
  | (st, vo, he, hp, se, lo, σ, q) =>
    if vo = pa then
      (if tr = 2 ∧ hp = 0 then (3, 0, 0, 1, se, lo, σ, q)
      else if tr = 3 ∧ hp = 0 then tp_rem pa tr (2, 0, 0, 1, se, lo, σ, q)
      else if ((pa >>> (nI td &&& 31)) &&& 1) = 0 ∧ (tr = 4 ∨ tr = 5) ∧ hp = 0 then tp_rem pa tr (tp_bkd pa td (2, vo, he, hp, se, lo, σ, q))
      else tp_rem pa tr (2, vo, he, hp, se, lo, σ, q))
    else (st, vo, he, hp, se, lo, σ, q)
def tp_bad (m : Nat) : tp_A → tp_A
  | (st, vo, he, hp, se, lo, σ, q) => (st, vo, he, hp, se, lo, fun _ => 9, q)
def tp_hp (pa tr : Int32) (td m : Nat) : tp_A → tp_A
  | (st, vo, he, hp, se, lo, σ, q) =>
    if tr = 1 ∧ hp = 0 ∧ m = td then tp_bkd pa m (st, vo, he, hp, se, lo, σ, q)
    else if σ m = 0 then tp_snd tr 2 m 3 (st, vo, he, hp, se, lo, tp_up σ m 2, q)
    else if σ m = 2 then tp_snd tr 2 m 3 (st, vo, he, hp, se, lo, σ, q)
    else if σ m = 1 then tp_snd tr 3 m 3 (st, vo, he, hp, se, lo, σ, q)
    else tp_bad m (st, vo, he, hp, se, lo, σ, q)
def tp_hc (pa tr : Int32) (td m : Nat) : tp_A → tp_A
  | (st, vo, he, hp, se, lo, σ, q) =>
    if tr = 4 ∧ hp = 0 ∧ m = td then tp_bkd pa m (st, vo, he, hp, se, lo, σ, q)
    else if tr = 5 ∧ hp = 0 ∧ m = td then tp_bkd pa m (st, vo, he, hp, se, lo, (if σ m = 2 ∨ σ m = 3 then tp_up σ m 4 else σ), q)
    else tp_snd tr 6 m 3 (st, vo, he, hp, se, lo, (if σ m = 2 ∨ σ m = 3 then tp_up σ m 4 else σ), q)
def tp_hr (tr : Int32) (m : Nat) : tp_A → tp_A
  | (st, vo, he, hp, se, lo, σ, q) =>
    if σ m = 4 then tp_bad m (st, vo, he, hp, se, lo, σ, q)
    else tp_snd tr 6 m 3 (st, vo, he, hp, se, lo, tp_up σ m 5, q)
def tp_hl (pa tr : Int32) (td kd fr : Nat) : tp_A → tp_A
  | (st, vo, he, hp, se, lo, σ, q) =>
    if kd = 2 ∧ st = 1 then tp_dec pa tr td (st, vo ||| ((1 : Int32) <<< (nI fr &&& 31)), he, hp, se, lo, σ, q)
    else if kd = 3 ∧ st = 1 then (3, vo, he, hp, se, lo, σ, q)
    else if kd = 6 ∧ (st = 2 ∨ st = 3) then (st, vo, he ||| ((1 : Int32) <<< (nI fr &&& 31)), hp, se, lo, σ, q)
    else if kd = 7 then tp_snd tr (if st = 2 then 4 else 5) 3 fr (st, vo, he, hp, se, lo, σ, q)
    else (st, vo, he, hp, se, lo, σ, q)
def tp_del (pa tr : Int32) (td : Nat) : tp_A → tp_A
  | (st, vo, he, hp, se, lo, σ, []) => (st, vo, he, hp, se, lo, σ, [])
  | (st, vo, he, hp, se, lo, σ, (kd, fr, to) :: q) =>
    if to = 3 then (if fr < 3 then tp_hl pa tr td kd fr (st, vo, he, hp, se, lo, σ, q) else tp_bad 0 (st, vo, he, hp, se, lo, σ, q))
    else if to < 3 then
      (if kd = 1 then tp_hp pa tr td to (st, vo, he, hp, se, lo, σ, q)
      else if kd = 4 then tp_hc pa tr td to (st, vo, he, hp, se, lo, σ, q)
      else tp_hr tr to (st, vo, he, hp, se, lo, σ, q))
    else tp_bad 0 (st, vo, he, hp, se, lo, σ, q)
def tp_stp (pa tr : Int32) (td : Nat) : tp_A → tp_A
  | (st, vo, he, hp, se, lo, σ, []) => tp_rem pa tr (st, vo, he, hp, se, lo, σ, [])
  | (st, vo, he, hp, se, lo, σ, e :: q) => tp_del pa tr td (st, vo, he, hp, se, lo, σ, e :: q)
def tp_ok : tp_A → Bool
  | (_, _, _, _, _, _, σ, _) => decide (σ 0 < 6) && decide (σ 1 < 6) && decide (σ 2 < 6)
def tp_ovr (pa : Int32) : tp_A → Bool
  | (st, _, he, _, _, _, _, _) => decide ((st = 2 ∨ st = 3) ∧ he = pa)
def tp_fm (pa st : Int32) (m x : Nat) : Bool := if ((pa >>> (nI m &&& 31)) &&& 1) = 0 then decide (x = 0) else decide (x = if st = 2 then 4 else 5)
def tp_fin (pa tr : Int32) : tp_A → Bool
  | (st, _, _, _, _, _, σ, _) => tp_fm pa st 0 (σ 0) && tp_fm pa st 1 (σ 1) && tp_fm pa st 2 (σ 2) && decide ((tr = 0 ∨ ¬ tr < 6) → st = 2)
def tp_good (pa tr : Int32) (td : Nat) : Nat → tp_A → Bool
  | 0, _ => false
  | f + 1, a => tp_ok a && (if tp_ovr pa a = true then tp_fin pa tr a else tp_good pa tr td f (tp_stp pa tr td a))
def tp_st0 (pa tr : Int32) (td : Nat) : tp_A :=
  if ((pa >>> (nI td &&& 31)) &&& 1) = 0 ∧ tr = 1 then tp_bkd pa td (1, 0, 0, 0, 0, 0, fun _ => 0, []) else (1, 0, 0, 0, 0, 0, fun _ => 0, [])
theorem tp_all : ∀ p, p < 8 → ∀ tr, tr < 8 → ∀ td, td < 3 → tp_good (nI p) (nI tr) td 400 (tp_dec (nI p) (nI tr) td (tp_st0 (nI p) (nI tr) td)) = true := by decide +kernel
end
section
/-! 04: the walks of the small methods -/
/-- keys of t on machine m let go, those below m + 3 i -/
def tp_ri (h : Nat → Int32) (t m i : Nat) : Nat → Int32 := fun k => if (k < 12 ∧ k % 3 = m ∧ k < m + 3 * i) ∧ h k = nI t then -1 else h k
def tp_ro (h : Nat → Int32) (t m : Nat) : Nat → Int32 := fun k => if (k < 12 ∧ k % 3 = m) ∧ h k = nI t then -1 else h k
theorem tp_ri_0 (h : Nat → Int32) (t m : Nat) : tp_ri h t m 0 = h := by
  funext k
  exact if_neg (by omega)
theorem tp_ri_4 (h : Nat → Int32) (t m : Nat) : tp_ri h t m 4 = tp_ro h t m := by
  funext k
  have e : ((k < 12 ∧ k % 3 = m ∧ k < m + 3 * 4) ∧ h k = nI t) ↔ ((k < 12 ∧ k % 3 = m) ∧ h k = nI t) := by
    constructor
    · exact fun z => ⟨⟨z.1.1, z.1.2.1⟩, z.2⟩
    · exact fun z => ⟨⟨z.1.1, z.1.2, by omega⟩, z.2⟩
  unfold tp_ri tp_ro
  by_cases c : (k < 12 ∧ k % 3 = m) ∧ h k = nI t
  · rw [if_pos c, if_pos (e.mpr c)]
  · rw [if_neg c, if_neg (fun z => c (e.mp z))]
theorem tp_ri_at (h : Nat → Int32) (t m i : Nat) : tp_ri h t m i (m + 3 * i) = h (m + 3 * i) := if_neg (by omega)
theorem tp_ri_n {h : Nat → Int32} {t m i : Nat} (hm : m < 3) (hi : i < 4) {z : Int32} (hz : z = if h (m + 3 * i) = nI t then -1 else h (m + 3 * i)) : upd (tp_ri h t m i) (m + 3 * i) z = tp_ri h t m (i + 1) := by
  funext k
  by_cases e : k = m + 3 * i
  · subst e
    rw [pk_us, hz]
    unfold tp_ri
    by_cases c : h (m + 3 * i) = nI t
    · rw [if_pos c, if_pos ⟨by omega, c⟩]
    · rw [if_neg c, if_neg (fun z => c z.2)]
  · rw [pk_un e]
    unfold tp_ri
    by_cases c : (k < 12 ∧ k % 3 = m ∧ k < m + 3 * i) ∧ h k = nI t
    · rw [if_pos c, if_pos ⟨by omega, c.2⟩]
    · rw [if_neg c, if_neg (fun z => c ⟨by omega, z.2⟩)]
theorem tp_ri_HR {h : Nat → Int32} {t m i : Nat} (H : tp_HR h) : tp_HR (tp_ri h t m i) := by
  intro k hk
  unfold tp_ri
  by_cases c : (k < 12 ∧ k % 3 = m ∧ k < m + 3 * i) ∧ h k = nI t
  · rw [if_pos c]
    exact Or.inl rfl
  · rw [if_neg c]
    exact H k hk
theorem tp_rel33 {post : St1 → Prop} {J : Int32 → (Nat → Int32) → (Nat → Int32) → (Nat → Int32) → (Nat → Int32) → (Nat → Int32) → (Nat → Int32) → (Nat → Int32) → (Nat → Int32) → (Nat → Int32) → (Nat → Int32) → (Nat → Int32) → (Nat → Int32) → (Nat → Int32) → (Nat → Int32) → (Nat → Int32) → (Nat → Int32) → Prop} {o st vo he ns nm sl pa tr td hp cc fi wa se lo : Int32} {a1 a2 a3 a4 a5 a6 a7 a8 a9 a10 a11 a12 a13 a14 a15 a16 : Nat → Int32} {t m i v : Nat} {x2 z0 : Int32} (ht : t < 4) (hi : m + 3 * i < 12) (hz : vp_nar .byte z0 = z0) (h9 : a9 t = nI v) (hv : v < 4096)
    (H : J (nI (m + 3 * (i + 1))) a1 a2 a3 a4 a5 a6 a7 (upd a8 (m + 3 * i) z0) (upd a9 t (nI (tp_clr v (m + 3 * i)))) a10 a11 a12 a13 a14 a15 a16) : wX_releaseOn_33 post J (nI t) x2 (nI (m + 3 * i)) z0 (nI (m + 3 * i)) o st vo he ns nm sl pa tr td hp cc fi wa se lo a1 a2 a3 a4 a5 a6 a7 a8 a9 a10 a11 a12 a13 a14 a15 a16 :=
  ⟨pk_in (m + 3 * i) 12 hi, nm_r (by rw [nI_clamp (by omega), hz]) ⟨pk_in t 4 ht, pk_in t 4 ht, nm_r (by rw [nI_clamp (by omega), h9, tp_clr_I _ _ (by omega), tp_n16 (Nat.lt_of_le_of_lt (tp_clr_le _ _) hv)]) (nm_r (tp_p3 m i) H)⟩⟩
theorem tp_releaseOn {post : St1 → Prop} {o st vo he ns nm sl pa tr td hp cc fi wa se lo : Int32} {a1 a2 a3 a4 a5 a6 a7 a8 a9 a10 a11 a12 a13 a14 a15 a16 : Nat → Int32} {t m v : Nat} (ht : t < 4) (hm : m < 3) (hH : tp_HR a8) (h9 : a9 t = nI v) (hv : v < 4096)
    (H : post (o, st, vo, he, ns, nm, sl, pa, tr, td, hp, cc, fi, wa, se, lo, a1, a2, a3, a4, a5, a6, a7, tp_ro a8 t m, upd a9 t (nI (tp_cm v m 4)), a10, upd a11 (t * 3 + m) 0, a12, a13, a14, a15, a16)) : wpX_releaseOn post (o, st, vo, he, ns, nm, sl, pa, tr, td, hp, cc, fi, wa, se, lo, a1, a2, a3, a4, a5, a6, a7, a8, a9, a10, a11, a12, a13, a14, a15, a16) (nI t) (nI m) := by
  refine pk_loop (fun n i s => wX_releaseOn_2 post (nI t) (nI m) o st vo he ns nm sl pa tr td hp cc fi wa se lo n (nI (m + 3 * i)) a1 a2 a3 a4 a5 a6 a7 s.1 s.2 a10 a11 a12 a13 a14 a15 a16) (fun i s => s = (tp_ri a8 t m i, upd a9 t (nI (tp_cm v m i)))) 4 0 (a8, a9) (by omega) ?_ ?_ ?_
  · rw [tp_ri_0]
    show (a8, a9) = (a8, upd a9 t (nI v))
    rw [tp_us h9]
  · intro n s h
    subst h
    refine pk_le 12 (m + 3 * 4) (fun _ => ⟨pk_in (t * 3 + m) 12 (by omega) (tp_ix3 t m), nm_r (by rw [tp_ix3, nI_clamp (by omega)]) ?_⟩) (fun z => absurd z (by omega))
    show post _
    rw [tp_ri_4]
    exact H
  · intro n i s hi h hw
    subst h
    have hv' : tp_cm v m i < 4096 := Nat.lt_of_le_of_lt (tp_cm_le v m i) hv
    refine pk_le 12 (m + 3 * i) (fun z => absurd z (by omega)) (fun _ => ⟨pk_in (m + 3 * i) 12 (by omega), ?_⟩)
    have c : (nI (m + 3 * i)).toNatClampNeg = m + 3 * i := nI_clamp (by omega)
    rw [c]
    refine br_c (fun e => ?_) (fun e => ⟨pk_in (m + 3 * i) 12 (by omega), ?_⟩)
    · refine tp_rel33 ht (by omega) (by decide) pk_us hv' (hw (_, _) ?_)
      show (upd (tp_ri a8 t m i) (m + 3 * i) (-1), upd (upd a9 t (nI (tp_cm v m i))) t (nI (tp_clr (tp_cm v m i) (m + 3 * i)))) = _
      rw [tp_uu, tp_ri_n hm hi (by rw [if_pos]; rw [← tp_ri_at a8 t m i]; exact e)]
      rfl
    · refine tp_rel33 ht (by omega) (tp_HRb (tp_ri_HR hH) (by omega)) pk_us hv' (hw (_, _) ?_)
      show (upd (tp_ri a8 t m i) (m + 3 * i) (tp_ri a8 t m i (m + 3 * i)), upd (upd a9 t (nI (tp_cm v m i))) t (nI (tp_clr (tp_cm v m i) (m + 3 * i)))) = _
      rw [tp_uu, tp_ri_n hm hi (by rw [if_neg]; exact tp_ri_at a8 t m i; rw [← tp_ri_at a8 t m i]; exact e)]
      rfl
theorem tp_log {post : St1 → Prop} {o st vo he ns nm sl pa tr td hp cc fi wa se lo : Int32} {a1 a2 a3 a4 a5 a6 a7 a8 a9 a10 a11 a12 a13 a14 a15 a16 : Nat → Int32} {m kd ky sz : Nat} {x v : Int32} (hm : m < 4) (hk : kd < 128) (hy : ky < 128) (h2 : a2 m = nI sz) (hs : sz < 64)
    (H : post (o, st, vo, he, ns, nm, sl, pa, tr, td, hp, cc, fi, wa, se, lo, a1, upd a2 m (nI (sz + 1)), upd a3 (m * 64 + sz) (nI kd), upd a4 (m * 64 + sz) x, upd a5 (m * 64 + sz) (nI ky), upd a6 (m * 64 + sz) v, a7, a8, a9, a10, a11, a12, a13, a14, a15, a16)) : wpX_log post (o, st, vo, he, ns, nm, sl, pa, tr, td, hp, cc, fi, wa, se, lo, a1, a2, a3, a4, a5, a6, a7, a8, a9, a10, a11, a12, a13, a14, a15, a16) (nI m) (nI kd) x (nI ky) v := by
  have c : (nI m).toNatClampNeg = m := nI_clamp (by omega)
  have c2 : (nI (m * 64 + sz)).toNatClampNeg = m * 64 + sz := nI_clamp (by omega)
  have i : vp_in (nI (m * 64 + sz)) 256 := pk_in (m * 64 + sz) 256 (by omega)
  have i4 : vp_in (nI m) 4 := pk_in m 4 hm
  exact ⟨i4, nm_r (by rw [c, h2, tp_ix64]) ⟨i, nm_r (by rw [c2, tp_n8 kd hk]) ⟨i, nm_r (by rw [c2]) ⟨i, nm_r (by rw [c2, tp_n8 ky hy]) ⟨i, nm_r (by rw [c2]) ⟨i4, i4, nm_r (by rw [c, h2, nI_1]) H⟩⟩⟩⟩⟩⟩
theorem tp_writeKey {post : St1 → Prop} {o st vo he ns nm sl pa tr td hp cc fi wa se lo : Int32} {a1 a2 a3 a4 a5 a6 a7 a8 a9 a10 a11 a12 a13 a14 a15 a16 : Nat → Int32} {t k w : Nat} {v : Int32} (ht : t < 4) (hk : k < 12) (h9 : a9 t = nI w) (hw : w < 4096)
    (H : post (o, st, vo, he, ns, nm, sl, pa, tr, td, hp, cc, fi, wa, se, lo, a1, a2, a3, a4, a5, a6, a7, upd a8 k (nI t), upd a9 t (nI (w ||| 2 ^ k)), upd a10 (t * 12 + k) v, a11, a12, a13, a14, a15, a16)) : wpX_writeKey post (o, st, vo, he, ns, nm, sl, pa, tr, td, hp, cc, fi, wa, se, lo, a1, a2, a3, a4, a5, a6, a7, a8, a9, a10, a11, a12, a13, a14, a15, a16) (nI t) (nI k) v := by
  have c : (nI t).toNatClampNeg = t := nI_clamp (by omega)
  have c2 : (nI k).toNatClampNeg = k := nI_clamp (by omega)
  have i4 : vp_in (nI t) 4 := pk_in t 4 ht
  exact ⟨pk_in k 12 hk, nm_r (by rw [c2, tp_n8 t (by omega)]) ⟨i4, i4, nm_r (by rw [c, h9, tp_shl k (by omega), tp_or, tp_n16 (tp_or_lt (n := 12) hw hk)]) ⟨pk_in (t * 12 + k) 48 (by omega) (tp_ix12 t k), nm_r (by rw [tp_ix12, nI_clamp (by omega)]) H⟩⟩⟩
theorem tp_strikes {post : Int32 → St1 → Prop} {o st vo he ns nm sl pa tr td hp cc fi wa se lo : Int32} {a1 a2 a3 a4 a5 a6 a7 a8 a9 a10 a11 a12 a13 a14 a15 a16 : Nat → Int32} {wh mm : Int32} (hh : hp = 0 ∨ hp = 1) (H1 : (tr = wh ∧ hp = 0 ∧ mm = td) → post 1 (o, st, vo, he, ns, nm, sl, pa, tr, td, 1, cc, fi, wa, se, lo, a1, a2, a3, a4, a5, a6, a7, a8, a9, a10, a11, a12, a13, a14, a15, a16)) (H0 : ¬ (tr = wh ∧ hp = 0 ∧ mm = td) → post 0 (o, st, vo, he, ns, nm, sl, pa, tr, td, hp, cc, fi, wa, se, lo, a1, a2, a3, a4, a5, a6, a7, a8, a9, a10, a11, a12, a13, a14, a15, a16)) : wpX_strikes post (o, st, vo, he, ns, nm, sl, pa, tr, td, hp, cc, fi, wa, se, lo, a1, a2, a3, a4, a5, a6, a7, a8, a9, a10, a11, a12, a13, a14, a15, a16) wh mm := by
  have k0 : ¬ (tr = wh ∧ hp = 0 ∧ mm = td) → wX_strikes_28 post 0 o st vo he ns nm sl pa tr td hp cc fi wa se lo a1 a2 a3 a4 a5 a6 a7 a8 a9 a10 a11 a12 a13 a14 a15 a16 := by
    intro g
    refine br_c (fun e => ?_) (fun e => ?_)
    · refine br_t rfl ⟨rfl, ?_⟩
      have := H0 g
      rw [e] at this
      exact this
    · refine ⟨rfl, ?_⟩
      have := H0 g
      rw [hh.resolve_left e] at this
      exact this
  refine br_c (fun e1 => br_c (fun e2 => br_c (fun e3 => ?_) (fun e3 => ?_)) (fun e2 => ?_)) (fun e1 => ?_)
  · exact br_t e2 (br_f (by decide) ⟨rfl, H1 ⟨e1, e2, e3⟩⟩)
  · exact k0 (fun z => e3 z.2.2)
  · exact k0 (fun z => e2 z.2.1)
  · exact k0 (fun z => e1 z.1)
theorem tp_isLogged {post : Int32 → Prop} {o st vo he ns nm sl pa tr td hp cc fi wa se lo : Int32} {a1 a2 a3 a4 a5 a6 a7 a8 a9 a10 a11 a12 a13 a14 a15 a16 : Nat → Int32} {sz : Nat} {x : Int32} (h2 : a2 3 = nI sz) (hs : sz ≤ 64) (H1 : (∃ i, i < sz ∧ a3 (192 + i) = 5 ∧ a4 (192 + i) = x) → post 1) (H0 : ¬ (∃ i, i < sz ∧ a3 (192 + i) = 5 ∧ a4 (192 + i) = x) → post 0) : wpX_isLogged post (o, st, vo, he, ns, nm, sl, pa, tr, td, hp, cc, fi, wa, se, lo, a1, a2, a3, a4, a5, a6, a7, a8, a9, a10, a11, a12, a13, a14, a15, a16) 3 5 x := by
  have c : (nI 3).toNatClampNeg = 3 := nI_clamp (by omega)
  refine nm_r (show (3 : Int32) * 64 = nI (192 + 0) by decide) ?_
  refine pk_loop (σ := Unit) (fun n i _ => wX_isLogged_6 post 3 5 x o st vo he ns nm sl pa tr td hp cc fi wa se lo a1 a2 a3 a4 a5 a6 a7 a8 a9 a10 a11 a12 a13 a14 a15 a16 n (nI (192 + i))) (fun i _ => ∀ j, j < i → ¬ (a3 (192 + j) = 5 ∧ a4 (192 + j) = x)) sz 0 () (Nat.zero_le _) (fun j hj => absurd hj (by omega)) ?_ ?_
  · intro n _ h
    refine ⟨pk_in 3 4 (by omega), pk_le (192 + sz) (192 + sz) (fun _ => H0 (fun ⟨i, hi, z⟩ => h i hi z)) (fun z => absurd z (by omega)) ?_⟩
    show (nI 3) * 64 + a2 (nI 3).toNatClampNeg = _
    rw [c, h2, tp_ix64]
  · intro n i _ hi h hw
    have c2 : (nI (192 + i)).toNatClampNeg = 192 + i := nI_clamp (by omega)
    refine ⟨pk_in 3 4 (by omega), pk_le (192 + sz) (192 + i) (fun z => absurd z (by omega)) (fun _ => ⟨pk_in (192 + i) 256 (by omega), ?_⟩) ?_⟩
    rotate_left
    · show (nI 3) * 64 + a2 (nI 3).toNatClampNeg = _
      rw [c, h2, tp_ix64]
    · rw [c2]
      have nx : ¬ (a3 (192 + i) = 5 ∧ a4 (192 + i) = x) → wX_isLogged_6 post 3 5 x o st vo he ns nm sl pa tr td hp cc fi wa se lo a1 a2 a3 a4 a5 a6 a7 a8 a9 a10 a11 a12 a13 a14 a15 a16 n (nI (192 + (i + 1))) := by
        intro g
        refine hw () (fun j hj => ?_)
        by_cases e : j = i
        · rw [e]
          exact g
        · exact h j (by omega)
      refine br_c (fun e1 => ⟨pk_in (192 + i) 256 (by omega), br_c (fun e2 => H1 ⟨i, hi, e1, e2⟩) (fun e2 => nm_r (nI_1 _) (nx (fun z => e2 z.2)))⟩) (fun e1 => nm_r (nI_1 _) (nx (fun z => e1 z.1)))
theorem tp_holdersOn {post : Int32 → Prop} {o st vo he ns nm sl pa tr td hp cc fi wa se lo : Int32} {a1 a2 a3 a4 a5 a6 a7 a8 a9 a10 a11 a12 a13 a14 a15 a16 : Nat → Int32} {m : Nat} (hm : m < 3) (hH : tp_HR a8) (H : ∀ w, w < 16 → (∀ t, t < 4 → (w.testBit t = true ↔ ∃ k, k < 12 ∧ k % 3 = m ∧ a8 k = nI t)) → post (nI w)) : wpX_holdersOn post (o, st, vo, he, ns, nm, sl, pa, tr, td, hp, cc, fi, wa, se, lo, a1, a2, a3, a4, a5, a6, a7, a8, a9, a10, a11, a12, a13, a14, a15, a16) (nI m) := by
  refine pk_loop (fun n i s => wX_holdersOn_4 post o st vo he ns nm sl pa tr td hp cc fi wa se lo a1 a2 a3 a4 a5 a6 a7 a8 a9 a10 a11 a12 a13 a14 a15 a16 n s (nI (m + 3 * i))) (fun i s => ∃ w, w < 16 ∧ s = nI w ∧ ∀ t, t < 4 → (w.testBit t = true ↔ ∃ k, k < m + 3 * i ∧ k % 3 = m ∧ a8 k = nI t)) 4 0 0 (by omega) ?_ ?_ ?_
  · refine ⟨0, by omega, rfl, fun t ht => ⟨fun z => ?_, fun ⟨k, hk, hk2, _⟩ => absurd hk (by omega)⟩⟩
    rw [Nat.zero_testBit] at z
    exact absurd z (by decide)
  · intro n s ⟨w, hw, e, h⟩
    subst e
    refine pk_le 12 (m + 3 * 4) (fun _ => H w hw (fun t ht => (h t ht).trans ⟨fun ⟨k, hk, hk2, e⟩ => ⟨k, by omega, hk2, e⟩, fun ⟨k, hk, hk2, e⟩ => ⟨k, by omega, hk2, e⟩⟩)) (fun z => absurd z (by omega))
  · intro n i s hi ⟨w, hw, e, h⟩ hn
    subst e
    refine pk_le 12 (m + 3 * i) (fun z => absurd z (by omega)) (fun _ => ⟨pk_in (m + 3 * i) 12 (by omega), ?_⟩)
    have c : (nI (m + 3 * i)).toNatClampNeg = m + 3 * i := nI_clamp (by omega)
    rw [c]
    rcases hH (m + 3 * i) (by omega) with e | ⟨t0, ht0, e⟩
    · refine br_t e (nm_r (show nI w ||| 0 = nI w by rw [← nI_0, tp_or, Nat.or_zero]) (nm_r (tp_p3 m i) (hn _ ⟨w, hw, rfl, fun t ht => (h t ht).trans ⟨fun ⟨k, hk, hk2, e2⟩ => ⟨k, by omega, hk2, e2⟩, fun ⟨k, hk, hk2, e2⟩ => ?_⟩⟩)))
      refine ⟨k, ?_, hk2, e2⟩
      by_cases ek : k = m + 3 * i
      · rw [ek, e] at e2
        exact absurd e2.symm (tp_ne1 (by omega))
      · omega
    · refine br_f (by rw [e]; exact tp_ne1 (by omega)) ⟨pk_in (m + 3 * i) 12 (by omega), nm_r (show nI w ||| ((1 : Int32) <<< (a8 (m + 3 * i) &&& 31)) = nI (w ||| 2 ^ t0) by rw [e, tp_shl t0 (by omega), tp_or]) (nm_r (tp_p3 m i) (hn _ ⟨w ||| 2 ^ t0, tp_or_lt (n := 4) hw ht0, rfl, fun t ht => ?_⟩))⟩
      rw [tp_or_b, Bool.or_eq_true, h t ht, decide_eq_true_iff]
      constructor
      · rintro (⟨k, hk, hk2, e2⟩ | e2)
        · exact ⟨k, by omega, hk2, e2⟩
        · exact ⟨m + 3 * i, by omega, by omega, by rw [e, e2]⟩
      · rintro ⟨k, hk, hk2, e2⟩
        by_cases ek : k = m + 3 * i
        · rw [ek, e] at e2
          exact Or.inr ((nI_eq (by omega) (by omega)).mp e2)
        · exact Or.inl ⟨k, by omega, hk2, e2⟩
theorem tp_applyLogged {post : St1 → Prop} {o st vo he ns nm sl pa tr td hp cc fi wa se lo : Int32} {a1 a2 a3 a4 a5 a6 a7 a8 a9 a10 a11 a12 a13 a14 a15 a16 : Nat → Int32} {m sz : Nat} {x : Int32} (hm : m < 4) (h2 : a2 m = nI sz) (hs : sz ≤ 64) (hk : ∀ i, i < sz → a3 (m * 64 + i) = 1 → ∃ k, k < 12 ∧ a5 (m * 64 + i) = nI k)
    (H : post (o, st, vo, he, ns, nm, sl, pa, tr, td, hp, cc, fi, wa, se, lo, a1, a2, a3, a4, a5, a6, tp_app a3 a4 a5 a6 (m * 64) x a7 sz, a8, a9, a10, a11, a12, a13, a14, a15, a16)) : wpX_applyLogged post (o, st, vo, he, ns, nm, sl, pa, tr, td, hp, cc, fi, wa, se, lo, a1, a2, a3, a4, a5, a6, a7, a8, a9, a10, a11, a12, a13, a14, a15, a16) (nI m) x := by
  have cm : (nI m).toNatClampNeg = m := nI_clamp (by omega)
  refine nm_r (tp_ix64' m) ?_
  refine pk_loop (fun n i s => wX_applyLogged_5 post (nI m) x o st vo he ns nm sl pa tr td hp cc fi wa se lo n (nI (m * 64 + i)) a1 a2 a3 a4 a5 a6 s a8 a9 a10 a11 a12 a13 a14 a15 a16) (fun i s => s = tp_app a3 a4 a5 a6 (m * 64) x a7 i) sz 0 a7 (Nat.zero_le _) rfl ?_ ?_
  · intro n s h
    subst h
    exact ⟨pk_in m 4 hm, pk_le (m * 64 + sz) (m * 64 + sz) (fun _ => H) (fun z => absurd z (by omega)) (by rw [cm, h2, tp_ix64])⟩
  · intro n i s hi h hw
    subst h
    have c : (nI (m * 64 + i)).toNatClampNeg = m * 64 + i := nI_clamp (by omega)
    have iv : vp_in (nI (m * 64 + i)) 256 := pk_in (m * 64 + i) 256 (by omega)
    refine ⟨pk_in m 4 hm, pk_le (m * 64 + sz) (m * 64 + i) (fun z => absurd z (by omega)) (fun _ => ⟨iv, ?_⟩) (by rw [cm, h2, tp_ix64])⟩
    rw [c]
    refine br_c (fun e1 => ⟨iv, br_c (fun e2 => ⟨iv, iv, ?_⟩) (fun e2 => nm_r (nI_1 _) (hw _ (tp_app_f (fun z => e2 z.2)).symm))⟩) (fun e1 => nm_r (nI_1 _) (hw _ (tp_app_f (fun z => e1 z.1)).symm))
    obtain ⟨k, hk1, ek⟩ := hk i hi e1
    exact ⟨pk_in k 12 hk1 ek, nm_r (tp_app_t ⟨e1, e2⟩).symm (nm_r (nI_1 _) (hw _ rfl))⟩
end
section
/-! 05: rollBack, comeBack, holdLogged -/
def tp_rb (h : Nat → Int32) (t : Nat) : Nat → Int32 := fun k => if k < 12 ∧ h k = nI t then -1 else h k
def tp_p0 (p : Nat → Int32) (t : Nat) : Nat → Int32 := fun i => if i / 3 = t then 0 else p i
theorem tp_ro_HR {h : Nat → Int32} {t m : Nat} (H : tp_HR h) : tp_HR (tp_ro h t m) := by
  rw [← tp_ri_4]
  exact tp_ri_HR H
theorem tp_ro3 (h : Nat → Int32) {t : Nat} (ht : t < 4) : tp_ro (tp_ro (tp_ro h t 0) t 1) t 2 = tp_rb h t := by
  funext k
  have n1 : nI t ≠ -1 := tp_ne1 (by omega)
  unfold tp_ro tp_rb
  by_cases c : k < 12 ∧ h k = nI t
  · have hc : k % 3 = 0 ∨ k % 3 = 1 ∨ k % 3 = 2 := by omega
    rcases hc with c3 | c3 | c3
    · simp [c.1, c.2, c3]
    · simp [c.1, c.2, c3]
    · simp [c.1, c.2, c3]
  · by_cases c2 : h k = nI t
    · have c1 : ¬ k < 12 := fun z => c ⟨z, c2⟩
      simp [c1]
    · simp [c2]
theorem tp_p03 (p : Nat → Int32) (t : Nat) : upd (upd (upd p (t * 3 + 0) 0) (t * 3 + 1) 0) (t * 3 + 2) 0 = tp_p0 p t := by
  funext i
  unfold upd tp_p0
  by_cases c : i / 3 = t
  · rw [if_pos c]
    have hc : i = t * 3 + 0 ∨ i = t * 3 + 1 ∨ i = t * 3 + 2 := by omega
    rcases hc with e | e | e
    · simp [e]
    · simp [e]
    · simp [e]
  · rw [if_neg c, if_neg (by omega), if_neg (by omega), if_neg (by omega)]
theorem tp_cm3 {v : Nat} (hv : v < 4096) : tp_cm (tp_cm (tp_cm v 0 4) 1 4) 2 4 = 0 := by
  apply Nat.eq_of_testBit_eq
  intro j
  rw [Nat.zero_testBit]
  by_cases hj : j < 12
  · rw [tp_cm_b (by omega), tp_cm_b (by omega), tp_cm_b (by omega)]
    have hc : j % 3 = 0 ∨ j % 3 = 1 ∨ j % 3 = 2 := by omega
    rcases hc with e | e | e
    · have e2 : ¬ ¬ (0 ≤ j ∧ j < 0 + 3 * 4 ∧ j % 3 = 0 % 3) := by omega
      rw [decide_eq_false e2]
      simp
    · have e2 : ¬ ¬ (1 ≤ j ∧ j < 1 + 3 * 4 ∧ j % 3 = 1 % 3) := by omega
      rw [decide_eq_false e2]
      simp
    · have e2 : ¬ ¬ (2 ≤ j ∧ j < 2 + 3 * 4 ∧ j % 3 = 2 % 3) := by omega
      rw [decide_eq_false e2]
      simp
  · apply Nat.testBit_lt_two_pow
    have l : tp_cm (tp_cm (tp_cm v 0 4) 1 4) 2 4 ≤ v := Nat.le_trans (tp_cm_le _ _ _) (Nat.le_trans (tp_cm_le _ _ _) (tp_cm_le _ _ _))
    have l2 : 2 ^ 12 ≤ 2 ^ j := Nat.pow_le_pow_right (by omega) (by omega)
    omega
theorem tp_rollBack {post : St1 → Prop} {st vo he ns nm sl pa tr td hp cc fi wa se lo : Int32} {a1 a2 a3 a4 a5 a6 a7 a8 a9 a10 a11 a12 a13 a14 a15 a16 : Nat → Int32} {on t v : Nat} (ht : t < 4) (hH : tp_HR a8) (h9 : a9 t = nI v) (hv : v < 4096)
    (H : post (nI (tp_clr on t), st, vo, he, ns, nm, sl, pa, tr, td, hp, cc, fi, wa, se, lo, a1, a2, a3, a4, a5, a6, a7, tp_rb a8 t, upd a9 t 0, a10, tp_p0 a11 t, a12, a13, a14, a15, a16)) : wpX_rollBack post (nI on, st, vo, he, ns, nm, sl, pa, tr, td, hp, cc, fi, wa, se, lo, a1, a2, a3, a4, a5, a6, a7, a8, a9, a10, a11, a12, a13, a14, a15, a16) (nI t) := by
  have w1 : tp_cm v 0 4 < 4096 := Nat.lt_of_le_of_lt (tp_cm_le _ _ _) hv
  have w2 : tp_cm (tp_cm v 0 4) 1 4 < 4096 := Nat.lt_of_le_of_lt (tp_cm_le _ _ _) w1
  refine ⟨4, ?_⟩
  refine pk_le 3 0 (fun z => absurd z (by omega)) (fun _ => ?_)
  refine tp_releaseOn (m := 0) ht (by omega) hH h9 hv (nm_r (nI_1 0) ?_)
  refine pk_le 3 1 (fun z => absurd z (by omega)) (fun _ => ?_)
  refine tp_releaseOn (m := 1) ht (by omega) (tp_ro_HR hH) pk_us w1 (nm_r (nI_1 1) ?_)
  refine pk_le 3 2 (fun z => absurd z (by omega)) (fun _ => ?_)
  refine tp_releaseOn (m := 2) ht (by omega) (tp_ro_HR (tp_ro_HR hH)) pk_us w2 (nm_r (nI_1 2) ?_)
  refine pk_le 3 3 (fun _ => ?_) (fun z => absurd z (by omega))
  refine nm_r (tp_clr_I on t (by omega)) ?_
  rw [tp_ro3 a8 ht, tp_uu, tp_uu, tp_cm3 hv, tp_p03]
  exact H
/-- the image taken over -/
def tp_mg (f img : Nat → Int32) (m i : Nat) : Nat → Int32 := fun k => if k < 12 ∧ k % 3 = m ∧ k < m + 3 * i then img k else f k
theorem tp_mg_n {f img : Nat → Int32} {m i : Nat} (hm : m < 3) (hi : i < 4) : upd (tp_mg f img m i) (m + 3 * i) (img (m + 3 * i)) = tp_mg f img m (i + 1) := by
  funext k
  by_cases e : k = m + 3 * i
  · subst e
    rw [pk_us]
    exact (if_pos (by omega)).symm
  · rw [pk_un e]
    unfold tp_mg
    by_cases c : k < 12 ∧ k % 3 = m ∧ k < m + 3 * i
    · rw [if_pos c, if_pos (by omega)]
    · rw [if_neg c, if_neg (by omega)]
theorem tp_comeBack33 {post : St1 → Prop} {o st vo he ns nm sl pa tr td hp cc fi wa se lo : Int32} {a1 a2 a3 a4 a5 a6 a7 a8 a9 a10 a11 a12 a13 a14 a15 a16 : Nat → Int32} {m sz : Nat} (hm : m < 3) (h2 : a2 m = nI sz) (hs : sz ≤ 64) (hk : ∀ i, i < sz → a3 (m * 64 + i) = 1 → ∃ k, k < 12 ∧ a5 (m * 64 + i) = nI k)
    (H0 : (tp_run a3 a4 a5 a6 (m * 64) sz a7 sz).2 = 0 → post (o, st, vo, he, ns, nm, sl, pa, tr, td, hp, cc, fi, wa, se, lo, a1, a2, a3, a4, a5, a6, (tp_run a3 a4 a5 a6 (m * 64) sz a7 sz).1, a8, a9, a10, a11, a12, a13, a14, a15, a16))
    (H1 : ¬ (tp_run a3 a4 a5 a6 (m * 64) sz a7 sz).2 = 0 → ∀ ψ : St1 → Prop, (∀ u, post u → ψ u) → wpX_holdLogged ψ (o, st, vo, he, ns, nm, sl, pa, tr, td, hp, cc, fi, wa, se, lo, a1, a2, a3, a4, a5, a6, (tp_run a3 a4 a5 a6 (m * 64) sz a7 sz).1, a8, a9, a10, a11, a12, a13, a14, a15, a16) (nI m) (tp_run a3 a4 a5 a6 (m * 64) sz a7 sz).2) :
    ∃ n, wX_comeBack_33 post (nI m) n 0 (nI (m * 64)) o st vo he ns nm sl pa tr td hp cc fi wa se lo a1 a2 a3 a4 a5 a6 a7 a8 a9 a10 a11 a12 a13 a14 a15 a16 := by
  have cm : (nI m).toNatClampNeg = m := nI_clamp (by omega)
  refine pk_loop (fun n i s => wX_comeBack_33 post (nI m) n s.2 (nI (m * 64 + i)) o st vo he ns nm sl pa tr td hp cc fi wa se lo a1 a2 a3 a4 a5 a6 s.1 a8 a9 a10 a11 a12 a13 a14 a15 a16) (fun i s => s = tp_run a3 a4 a5 a6 (m * 64) sz a7 i) sz 0 (a7, 0) (Nat.zero_le _) rfl ?_ ?_
  · intro n s h
    subst h
    refine ⟨pk_in m 4 (by omega), pk_le (m * 64 + sz) (m * 64 + sz) (fun _ => br_c H0 (fun z => H1 z _ ?_)) (fun z => absurd z (by omega)) (by rw [cm, h2, tp_ix64])⟩
    exact fun (o, st, vo, he, ns, nm, sl, pa, tr, td, hp, cc, fi, wa, se, lo, a1, a2, a3, a4, a5, a6, a7, a8, a9, a10, a11, a12, a13, a14, a15, a16) h => h
  · intro n i s hi h hw
    have c : (nI (m * 64 + i)).toNatClampNeg = m * 64 + i := nI_clamp (by omega)
    have iv : vp_in (nI (m * 64 + i)) 256 := pk_in (m * 64 + i) 256 (by omega)
    have hw' : ∀ s', s' = tp_run a3 a4 a5 a6 (m * 64) sz a7 (i + 1) → wX_comeBack_33 post (nI m) n s'.2 (nI (m * 64 + (i + 1))) o st vo he ns nm sl pa tr td hp cc fi wa se lo a1 a2 a3 a4 a5 a6 s'.1 a8 a9 a10 a11 a12 a13 a14 a15 a16 := hw
    refine ⟨pk_in m 4 (by omega), pk_le (m * 64 + sz) (m * 64 + i) (fun z => absurd z (by omega)) (fun _ => ⟨iv, nm_r (by rw [c]) ⟨iv, ?_⟩⟩) (by rw [cm, h2, tp_ix64])⟩
    rw [c]
    have E : tp_run a3 a4 a5 a6 (m * 64) sz a7 (i + 1) = (if a3 (m * 64 + i) = 2 then (s.1, a4 (m * 64 + i)) else if a3 (m * 64 + i) = 3 then (tp_app a3 a4 a5 a6 (m * 64) (a4 (m * 64 + i)) s.1 sz, 0) else if a3 (m * 64 + i) = 4 then (s.1, 0) else s) := by
      rw [h]
      rfl
    by_cases e2 : a3 (m * 64 + i) = 2
    · rw [if_pos e2] at E
      exact br_t e2 (nm_r (nI_1 _) (hw' (s.1, a4 (m * 64 + i)) E.symm))
    · rw [if_neg e2] at E
      refine br_f e2 ⟨iv, ?_⟩
      by_cases e3 : a3 (m * 64 + i) = 3
      · rw [if_pos e3] at E
        refine br_t e3 (tp_applyLogged (by omega) h2 hs hk ?_)
        exact nm_r (nI_1 _) (hw' (tp_app a3 a4 a5 a6 (m * 64) (a4 (m * 64 + i)) s.1 sz, 0) E.symm)
      · rw [if_neg e3] at E
        refine br_f e3 ⟨iv, ?_⟩
        by_cases e4 : a3 (m * 64 + i) = 4
        · rw [if_pos e4] at E
          exact br_t e4 (nm_r (nI_1 _) (hw' (s.1, 0) E.symm))
        · rw [if_neg e4] at E
          exact br_f e4 (nm_r (nI_1 _) (hw' s E.symm))
theorem tp_comeBack {post : St1 → Prop} {o st vo he ns nm sl pa tr td hp cc fi wa se lo : Int32} {a1 a2 a3 a4 a5 a6 a7 a8 a9 a10 a11 a12 a13 a14 a15 a16 : Nat → Int32} {m sz : Nat} {num : Nat → Int32} {op : Int32} (hm : m < 3) (h2 : a2 m = nI sz) (hs : sz ≤ 64) (hk : tp_KO a3 a5 (m * 64) m sz) (hR : tp_RP a3 a4 a5 a6 (m * 64) m sz a1 num op)
    (H0 : op = 0 → ∀ a7', (∀ k, k < 12 → k % 3 = m → a7' k = num k) → (∀ k, k < 12 → k % 3 ≠ m → a7' k = a7 k) → post (o, st, vo, he, ns, nm, sl, pa, tr, td, hp, cc, fi, wa, se, lo, a1, a2, a3, a4, a5, a6, a7', a8, a9, a10, a11, a12, a13, a14, a15, a16))
    (H1 : ¬ op = 0 → ∀ a7', (∀ k, k < 12 → k % 3 = m → a7' k = num k) → (∀ k, k < 12 → k % 3 ≠ m → a7' k = a7 k) → ∀ ψ : St1 → Prop, (∀ u, post u → ψ u) → wpX_holdLogged ψ (o, st, vo, he, ns, nm, sl, pa, tr, td, hp, cc, fi, wa, se, lo, a1, a2, a3, a4, a5, a6, a7', a8, a9, a10, a11, a12, a13, a14, a15, a16) (nI m) op) : wpX_comeBack post (o, st, vo, he, ns, nm, sl, pa, tr, td, hp, cc, fi, wa, se, lo, a1, a2, a3, a4, a5, a6, a7, a8, a9, a10, a11, a12, a13, a14, a15, a16) (nI m) := by
  obtain ⟨r1, r2, r3⟩ := hR (tp_mg a7 a1 m 4) (fun k hk hm => if_pos (by omega))
  have r2' : ∀ k, k < 12 → k % 3 ≠ m → (tp_run a3 a4 a5 a6 (m * 64) sz (tp_mg a7 a1 m 4) sz).1 k = a7 k := fun k hk hm => (r2 k hk hm).trans (if_neg (by omega))
  have hk' : ∀ i, i < sz → a3 (m * 64 + i) = 1 → ∃ k, k < 12 ∧ a5 (m * 64 + i) = nI k := fun i hi e => by
    obtain ⟨k, k1, k2, k3⟩ := hk i hi e
    exact ⟨k, k1, k3⟩
  refine pk_loop (fun n i s => wX_comeBack_2 post (nI m) o st vo he ns nm sl pa tr td hp cc fi wa se lo n (nI (m + 3 * i)) a1 a2 a3 a4 a5 a6 s a8 a9 a10 a11 a12 a13 a14 a15 a16) (fun i s => s = tp_mg a7 a1 m i) 4 0 a7 (by omega) (by funext k; exact (if_neg (by omega)).symm) ?_ ?_
  · intro n s h
    subst h
    refine pk_le 12 (m + 3 * 4) (fun _ => nm_r (tp_ix64' m) ?_) (fun z => absurd z (by omega))
    refine tp_comeBack33 hm h2 hs hk' (fun z => H0 (by rw [← r3]; exact z) _ r1 r2') (fun z ψ hψ => ?_)
    rw [r3] at z ⊢
    exact H1 z _ r1 r2' ψ hψ
  · intro n i s hi h hw
    subst h
    have c : (nI (m + 3 * i)).toNatClampNeg = m + 3 * i := nI_clamp (by omega)
    exact pk_le 12 (m + 3 * i) (fun z => absurd z (by omega)) (fun _ => ⟨pk_in (m + 3 * i) 12 (by omega), pk_in (m + 3 * i) 12 (by omega), nm_r (by rw [c, tp_mg_n hm hi]) (nm_r (tp_p3 m i) (hw _ rfl))⟩)
theorem tp_holdLogged {post : St1 → Prop} {o st vo he ns nm pa tr td hp cc fi wa se lo : Int32} {a1 a2 a3 a4 a5 a6 a7 a8 a9 a10 a11 a12 a13 a14 a15 a16 : Nat → Int32} {m sz s v : Nat} {x : Int32} {W : Nat → Bool} {d : Nat → Int32} (hm : m < 3) (hs4 : s < 4) (h2 : a2 m = nI sz) (hs : sz ≤ 64) (hP : tp_PA a3 a4 a5 a6 (m * 64) m sz x W d) (h9 : a9 s = nI v) (hv : v < 4096)
    (H : ∀ (a8' : Nat → Int32) (v' : Nat) (a10' : Nat → Int32), v' < 4096 → (∀ k, k < 12 → k % 3 = m → W k = true → a8' k = nI s) → (∀ k, ¬ (k % 3 = m ∧ W k = true) → a8' k = a8 k) →
      (∀ k, k < 12 → (v'.testBit k = true ↔ v.testBit k = true ∨ (k % 3 = m ∧ W k = true))) → (∀ k, k < 12 → k % 3 = m → W k = true → a10' (s * 12 + k) = d k) → (∀ i, (∀ k, k < 12 → k % 3 = m → W k = true → i ≠ s * 12 + k) → a10' i = a10 i) →
      post (o, st, vo, he, ns, nm, nI s, pa, tr, td, hp, cc, fi, wa, se, lo, a1, a2, a3, a4, a5, a6, a7, a8', upd a9 s (nI v'), a10', upd a11 (s * 3 + m) x, a12, a13, a14, a15, a16)) : wpX_holdLogged post (o, st, vo, he, ns, nm, nI s, pa, tr, td, hp, cc, fi, wa, se, lo, a1, a2, a3, a4, a5, a6, a7, a8, a9, a10, a11, a12, a13, a14, a15, a16) (nI m) x := by
  have cm : (nI m).toNatClampNeg = m := nI_clamp (by omega)
  refine nm_r (tp_ix64' m) ?_
  have z : ∃ n, wX_holdLogged_5 post (nI m) x n (nI (m * 64)) o st vo he ns nm (nI s) pa tr td hp cc fi wa se lo a1 a2 a3 a4 a5 a6 a7 a8 (upd a9 s (nI v)) a10 a11 a12 a13 a14 a15 a16 := by
    refine pk_loop (σ := (Nat → Int32) × Nat × (Nat → Int32)) (fun n i q => wX_holdLogged_5 post (nI m) x n (nI (m * 64 + i)) o st vo he ns nm (nI s) pa tr td hp cc fi wa se lo a1 a2 a3 a4 a5 a6 a7 q.1 (upd a9 s (nI q.2.1)) q.2.2 a11 a12 a13 a14 a15 a16)
      (fun i q => q.2.1 < 4096 ∧ (∀ k, k < 12 → (∃ j, j < i ∧ a3 (m * 64 + j) = 1 ∧ a4 (m * 64 + j) = x ∧ a5 (m * 64 + j) = nI k) → q.1 k = nI s ∧ q.2.1.testBit k = true ∧ q.2.2 (s * 12 + k) = d k) ∧ (∀ k, ¬ (k % 3 = m ∧ W k = true) → q.1 k = a8 k) ∧
        (∀ k, k < 12 → (q.2.1.testBit k = true → v.testBit k = true ∨ (k % 3 = m ∧ W k = true))) ∧ (∀ k, v.testBit k = true → q.2.1.testBit k = true) ∧ (∀ i, (∀ k, k < 12 → k % 3 = m → W k = true → i ≠ s * 12 + k) → q.2.2 i = a10 i)) sz 0 (a8, v, a10) (Nat.zero_le _) ?_ ?_ ?_
    · exact ⟨hv, fun k hk ⟨j, hj, _⟩ => absurd hj (by omega), fun k _ => rfl, fun k _ z => Or.inl z, fun k z => z, fun i _ => rfl⟩
    · intro n ⟨a8', v', a10'⟩ ⟨i1, i2, i3, i4, i5, i6⟩
      refine ⟨pk_in m 4 (by omega), pk_le (m * 64 + sz) (m * 64 + sz) (fun _ => ⟨pk_in (s * 3 + m) 12 (by omega) (tp_ix3 s m), nm_r (by rw [tp_ix3, nI_clamp (by omega)]) ?_⟩) (fun z => absurd z (by omega)) (by rw [cm, h2, tp_ix64])⟩
      refine H a8' v' a10' i1 (fun k hk h3 hw => (i2 k hk (hP.2 k hk h3 hw)).1) i3 (fun k hk => ⟨i4 k hk, ?_⟩) (fun k hk h3 hw => (i2 k hk (hP.2 k hk h3 hw)).2.2) i6
      rintro (z | ⟨z1, z2⟩)
      · exact i5 k z
      · exact (i2 k hk (hP.2 k hk z1 z2)).2.1
    · intro n i ⟨a8', v', a10'⟩ hi ⟨i1, i2, i3, i4, i5, i6⟩ hw
      have c : (nI (m * 64 + i)).toNatClampNeg = m * 64 + i := nI_clamp (by omega)
      have iv : vp_in (nI (m * 64 + i)) 256 := pk_in (m * 64 + i) 256 (by omega)
      refine ⟨pk_in m 4 (by omega), pk_le (m * 64 + sz) (m * 64 + i) (fun z => absurd z (by omega)) (fun _ => ⟨iv, ?_⟩) (by rw [cm, h2, tp_ix64])⟩
      rw [c]
      have skip : ¬ (a3 (m * 64 + i) = 1 ∧ a4 (m * 64 + i) = x) → wX_holdLogged_5 post (nI m) x n (nI (m * 64 + (i + 1))) o st vo he ns nm (nI s) pa tr td hp cc fi wa se lo a1 a2 a3 a4 a5 a6 a7 a8' (upd a9 s (nI v')) a10' a11 a12 a13 a14 a15 a16 := by
        intro g
        refine hw (a8', v', a10') ⟨i1, fun k hk ⟨j, hj, z1, z2, z3⟩ => ?_, i3, i4, i5, i6⟩
        by_cases e : j = i
        · rw [e] at z1 z2
          exact absurd ⟨z1, z2⟩ g
        · exact i2 k hk ⟨j, by omega, z1, z2, z3⟩
      refine br_c (fun e1 => ⟨iv, br_c (fun e2 => ⟨iv, iv, ?_⟩) (fun e2 => nm_r (nI_1 _) (skip (fun z => e2 z.2)))⟩) (fun e1 => nm_r (nI_1 _) (skip (fun z => e1 z.1)))
      obtain ⟨k0, hk0, h30, hw0, ey, ev⟩ := hP.1 i hi e1 e2
      rw [ey]
      refine tp_writeKey hs4 hk0 pk_us i1 ?_
      rw [tp_uu, ev]
      refine nm_r (nI_1 _) (hw (upd a8' k0 (nI s), v' ||| 2 ^ k0, upd a10' (s * 12 + k0) (d k0)) ⟨tp_or_lt (n := 12) i1 hk0, fun k hk ⟨j, hj, z1, z2, z3⟩ => ?_, fun k g => ?_, fun k hk g => ?_, fun k g => ?_, fun j g => ?_⟩)
      · show upd a8' k0 (nI s) k = nI s ∧ (v' ||| 2 ^ k0).testBit k = true ∧ upd a10' (s * 12 + k0) (d k0) (s * 12 + k) = d k
        by_cases e : k = k0
        · subst e
          rw [pk_us, pk_us, tp_or_b]
          exact ⟨rfl, by simp, rfl⟩
        · have ej : j ≠ i := by
            intro ej
            rw [ej, ey] at z3
            exact e ((nI_eq (by omega) (by omega)).mp z3).symm
          obtain ⟨y1, y2, y3⟩ := i2 k hk ⟨j, by omega, z1, z2, z3⟩
          have y1' : a8' k = nI s := y1
          have y2' : v'.testBit k = true := y2
          have y3' : a10' (s * 12 + k) = d k := y3
          rw [pk_un e, pk_un (by omega), tp_or_b, y2']
          exact ⟨y1', rfl, y3'⟩
      · show upd a8' k0 (nI s) k = a8 k
        rw [pk_un (fun z => g (by rw [z]; exact ⟨h30, hw0⟩))]
        exact i3 k g
      · have g' : (v' ||| 2 ^ k0).testBit k = true := g
        rw [tp_or_b, Bool.or_eq_true, decide_eq_true_iff] at g'
        rcases g' with z | z
        · exact i4 k hk z
        · exact Or.inr (by rw [← z]; exact ⟨h30, hw0⟩)
      · show (v' ||| 2 ^ k0).testBit k = true
        have g' : v'.testBit k = true := i5 k g
        rw [tp_or_b, g']
        rfl
      · show upd a10' (s * 12 + k0) (d k0) j = a10 j
        rw [pk_un (g k0 hk0 h30 hw0)]
        exact i6 j g
  rw [tp_us h9] at z
  exact z
end
section
/-! 06: messages: the ring of 64 places, send, remind -/
def tp_Q (n f : Nat) (q : List (Nat × Nat × Nat)) (a13 a14 a15 a16 : Nat → Int32) : Prop :=
  f < 64 ∧ q.length ≤ 64 ∧ ∀ i e, q[i]? = some e → a13 ((f + i) % 64) = nI e.1 ∧ a14 ((f + i) % 64) = nI e.2.1 ∧ a15 ((f + i) % 64) = nI e.2.2 ∧ a16 ((f + i) % 64) = nI n ∧ e.1 < 8 ∧ e.2.1 < 4 ∧ e.2.2 < 4
theorem tp_Q_push {n f kd fr to p : Nat} {q : List (Nat × Nat × Nat)} {a13 a14 a15 a16 : Nat → Int32} (h : tp_Q n f q a13 a14 a15 a16) (hl : q.length < 64) (hk : kd < 8) (hf : fr < 4) (ht : to < 4) (hp : p = (f + q.length) % 64) :
    tp_Q n f (q ++ [(kd, fr, to)]) (upd a13 p (nI kd)) (upd a14 p (nI fr)) (upd a15 p (nI to)) (upd a16 p (nI n)) := by
  obtain ⟨h1, h2, h3⟩ := h
  refine ⟨h1, by rw [List.length_append]; show q.length + 1 ≤ 64; omega, fun i e he => ?_⟩
  by_cases c : i < q.length
  · rw [List.getElem?_append_left c] at he
    have ne : (f + i) % 64 ≠ p := by omega
    rw [pk_un ne, pk_un ne, pk_un ne, pk_un ne]
    exact h3 i e he
  · by_cases c2 : i = q.length
    · subst c2
      rw [List.getElem?_append_right (Nat.le_refl _), Nat.sub_self] at he
      have e2 : e = (kd, fr, to) := (Option.some.inj he).symm
      subst e2
      rw [← hp, pk_us, pk_us, pk_us, pk_us]
      exact ⟨rfl, rfl, rfl, rfl, hk, hf, ht⟩
    · rw [List.getElem?_append_right (by omega)] at he
      have : ([(kd, fr, to)] : List (Nat × Nat × Nat))[i - q.length]? = none := by
        apply List.getElem?_eq_none
        show 1 ≤ _
        omega
      rw [this] at he
      exact absurd he (by simp)
theorem tp_Q_pop {n f : Nat} {e : Nat × Nat × Nat} {q : List (Nat × Nat × Nat)} {a13 a14 a15 a16 : Nat → Int32} (h : tp_Q n f (e :: q) a13 a14 a15 a16) : tp_Q n ((f + 1) % 64) q a13 a14 a15 a16 := by
  obtain ⟨h1, h2, h3⟩ := h
  refine ⟨by omega, by have : (e :: q).length = q.length + 1 := rfl; omega, fun i e' he => ?_⟩
  have := h3 (i + 1) e' he
  have ee : (f + (i + 1)) % 64 = ((f + 1) % 64 + i) % 64 := by omega
  rw [ee] at this
  exact this
theorem tp_send95 {post : St1 → Prop} {o st vo he ns sl pa tr td hp cc se lo : Int32} {a1 a2 a3 a4 a5 a6 a7 a8 a9 a10 a11 a12 : Nat → Int32} {n kd fr to f c : Nat} (hk : kd < 8) (hf : fr < 4) (ht : to < 4) (hc : c ≤ 2) :
    ∀ (r i : Nat) (q : List (Nat × Nat × Nat)) (a13 a14 a15 a16 : Nat → Int32), i + r = c → tp_Q n f q a13 a14 a15 a16 →
    (∀ a13' a14' a15' a16', tp_Q n f ((q ++ List.replicate r (kd, fr, to)).take 64) a13' a14' a15' a16' → post (o, st, vo, he, ns, nI n, sl, pa, tr, td, hp, cc, nI f, nI ((q ++ List.replicate r (kd, fr, to)).take 64).length, se, lo, a1, a2, a3, a4, a5, a6, a7, a8, a9, a10, a11, a12, a13', a14', a15', a16')) →
    wX_send_95 post (nI kd) (nI fr) (nI to) (nI c) o st vo he ns (nI n) sl pa tr td hp cc (nI f) se lo (r + 1) (nI i) (nI q.length) a1 a2 a3 a4 a5 a6 a7 a8 a9 a10 a11 a12 a13 a14 a15 a16 := by
  intro r
  induction r with
  | zero =>
    intro i q a13 a14 a15 a16 hi hQ H
    have hl : q.length ≤ 64 := hQ.2.1
    have e : (q ++ List.replicate 0 (kd, fr, to)).take 64 = q := by
      rw [List.replicate_zero, List.append_nil, List.take_of_length_le hl]
    refine pk_le c i (fun _ => ?_) (fun z => absurd z (by omega))
    rw [e] at H
    exact H a13 a14 a15 a16 hQ
  | succ r ih =>
    intro i q a13 a14 a15 a16 hi hQ H
    have hl : q.length ≤ 64 := hQ.2.1
    refine pk_le c i (fun z => absurd z (by omega)) (fun _ => ?_)
    refine pk_le 64 q.length (fun z => ?_) (fun z => ⟨by decide, ?_⟩)
    · have e : (q ++ List.replicate (r + 1) (kd, fr, to)).take 64 = q := List.take_left' (by omega)
      rw [e] at H
      exact H a13 a14 a15 a16 hQ
    · have hf64 : f < 64 := hQ.1
      have e7 : (nI f + nI q.length) - (nI f + nI q.length) / 64 * 64 = nI ((f + q.length) % 64) := by
        rw [nI_add]
        exact pk_rem (d := 64) (by omega) (by omega) (by omega)
      have c7 : (nI ((f + q.length) % 64)).toNatClampNeg = (f + q.length) % 64 := nI_clamp (by omega)
      have iv : vp_in (nI ((f + q.length) % 64)) 64 := pk_in ((f + q.length) % 64) 64 (by omega)
      have e8 : q ++ List.replicate (r + 1) (kd, fr, to) = (q ++ [(kd, fr, to)]) ++ List.replicate r (kd, fr, to) := by
        rw [List.replicate_succ, List.append_assoc]
        rfl
      rw [e8] at H
      have el : (q ++ [(kd, fr, to)]).length = q.length + 1 := by
        rw [List.length_append]
        rfl
      refine nm_r e7 ⟨iv, nm_r (by rw [c7, tp_n8 kd (by omega)]) ⟨iv, nm_r (by rw [c7, tp_n8 fr (by omega)]) ⟨iv, nm_r (by rw [c7, tp_n8 to (by omega)]) ⟨iv, nm_r (by rw [c7]) (nm_r (show nI q.length + 1 = nI (q ++ [(kd, fr, to)]).length by rw [el, nI_1]) (nm_r (nI_1 i) ?_))⟩⟩⟩⟩
      exact ih (i + 1) (q ++ [(kd, fr, to)]) _ _ _ _ (by omega) (tp_Q_push hQ (by omega) hk hf ht rfl) H
theorem tp_send {post : St1 → Prop} {o st vo he ns sl pa tr td hp cc se lo : Int32} {a1 a2 a3 a4 a5 a6 a7 a8 a9 a10 a11 a12 a13 a14 a15 a16 : Nat → Int32} {n kd fr to f : Nat} {q : List (Nat × Nat × Nat)} (hk : kd < 8) (hf : fr < 4) (ht : to < 4) (hQ : tp_Q n f q a13 a14 a15 a16)
    (H : ∀ se' lo' q' a13' a14' a15' a16', (∀ st vo he hp σ, tp_snd tr kd fr to (st, vo, he, hp, se, lo, σ, q) = (st, vo, he, hp, se', lo', σ, q')) → tp_Q n f q' a13' a14' a15' a16' →
      post (o, st, vo, he, ns, nI n, sl, pa, tr, td, hp, cc, nI f, nI q'.length, se', lo', a1, a2, a3, a4, a5, a6, a7, a8, a9, a10, a11, a12, a13', a14', a15', a16')) :
    wpX_send post (o, st, vo, he, ns, nI n, sl, pa, tr, td, hp, cc, nI f, nI q.length, se, lo, a1, a2, a3, a4, a5, a6, a7, a8, a9, a10, a11, a12, a13, a14, a15, a16) (nI kd) (nI fr) (nI to) := by
  have hl : q.length ≤ 64 := hQ.2.1
  have k0 : ¬ (tr = 6 ∧ ¬ 10 ≤ lo ∧ ¬ 3 ≤ ((se + 1) * 7) - ((se + 1) * 7) / 5 * 5) → wX_send_45 post (nI kd) (nI fr) (nI to) o st vo he ns (nI n) sl pa tr td hp cc (nI f) (nI q.length) (se + 1) lo a1 a2 a3 a4 a5 a6 a7 a8 a9 a10 a11 a12 a13 a14 a15 a16 := by
    intro g
    refine br_t rfl (nm_r (show lo + 0 = lo from Int32.add_zero lo) (br_t rfl ?_))
    refine br_c (fun e7 => ⟨2 + 1, ?_⟩) (fun e7 => ⟨1 + 1, ?_⟩)
    · refine tp_send95 (c := 2) hk hf ht (by omega) 2 0 q _ _ _ _ rfl hQ (fun a13' a14' a15' a16' hQ' => ?_)
      refine H _ _ _ _ _ _ _ (fun st vo he hp σ => ?_) hQ'
      unfold tp_snd
      dsimp only
      rw [if_neg g, if_pos e7]
      rfl
    · refine tp_send95 (c := 1) hk hf ht (by omega) 1 0 q _ _ _ _ rfl hQ (fun a13' a14' a15' a16' hQ' => ?_)
      refine H _ _ _ _ _ _ _ (fun st vo he hp σ => ?_) hQ'
      unfold tp_snd
      dsimp only
      rw [if_neg g, if_neg e7]
      rfl
  refine nm_e ?_
  refine br_c (fun e6 => br_c (fun e10 => k0 (fun z => z.2.1 e10)) (fun e10 => ⟨by decide, br_c (fun e3 => k0 (fun z => z.2.2 e3)) (fun e3 => ?_)⟩)) (fun e6 => k0 (fun z => e6 z.1))
  refine br_f (by decide) (nm_e (br_f (by decide) ⟨1, ?_⟩))
  refine tp_send95 (c := 0) hk hf ht (by omega) 0 0 q _ _ _ _ rfl hQ (fun a13' a14' a15' a16' hQ' => ?_)
  have e : (q ++ List.replicate 0 (kd, fr, to)).take 64 = q := by
    rw [List.replicate_zero, List.append_nil, List.take_of_length_le hl]
  rw [e] at hQ' ⊢
  refine H _ _ _ _ _ _ _ (fun st vo he hp σ => ?_) hQ'
  unfold tp_snd
  dsimp only
  rw [if_pos ⟨e6, e10, e3⟩]
/-! remind -/
theorem tp_isPart {post : Int32 → Prop} {o st vo he ns nm sl pa tr td hp cc fi wa se lo : Int32} {a1 a2 a3 a4 a5 a6 a7 a8 a9 a10 a11 a12 a13 a14 a15 a16 : Nat → Int32} {m : Int32} (H0 : ((pa >>> (m &&& 31)) &&& 1) = 0 → post 0) (H1 : ¬ ((pa >>> (m &&& 31)) &&& 1) = 0 → post 1) : wpX_isPart post (o, st, vo, he, ns, nm, sl, pa, tr, td, hp, cc, fi, wa, se, lo, a1, a2, a3, a4, a5, a6, a7, a8, a9, a10, a11, a12, a13, a14, a15, a16) m := br_c H0 H1
theorem tp_r95s {post : St1 → Prop} {J : Int32 → Int32 → Int32 → Int32 → Int32 → Int32 → Int32 → Int32 → Int32 → Int32 → Int32 → Int32 → Int32 → Int32 → Int32 → Int32 → Int32 → (Nat → Int32) → (Nat → Int32) → (Nat → Int32) → (Nat → Int32) → (Nat → Int32) → (Nat → Int32) → (Nat → Int32) → (Nat → Int32) → (Nat → Int32) → (Nat → Int32) → (Nat → Int32) → (Nat → Int32) → (Nat → Int32) → (Nat → Int32) → (Nat → Int32) → (Nat → Int32) → Prop} {o st vo he ns nm sl pa tr td hp cc fi wa se lo : Int32} {a1 a2 a3 a4 a5 a6 a7 a8 a9 a10 a11 a12 a13 a14 a15 a16 : Nat → Int32} {m : Nat} {x3 : Int32} (h : ((pa >>> (nI m &&& 31)) &&& 1) = 0 ∨ ¬ st = 3 ∨ ¬ x3 = 0) (H : J (nI (m + 1)) o st vo he ns nm sl pa tr td hp cc fi wa se lo a1 a2 a3 a4 a5 a6 a7 a8 a9 a10 a11 a12 a13 a14 a15 a16) : wX_remind_95 post J (nI m) x3 o st vo he ns nm sl pa tr td hp cc fi wa se lo a1 a2 a3 a4 a5 a6 a7 a8 a9 a10 a11 a12 a13 a14 a15 a16 := by
  refine tp_isPart (fun e => br_t rfl (nm_r (nI_1 m) H)) (fun e => br_f (by decide) (br_c (fun e3 => br_c (fun e0 => ?_) (fun e0 => nm_r (nI_1 m) H)) (fun e3 => nm_r (nI_1 m) H)))
  rcases h with z | z | z
  · exact absurd z e
  · exact absurd e3 z
  · exact absurd e0 z
theorem tp_r68s {post : St1 → Prop} {J : Int32 → Int32 → Int32 → Int32 → Int32 → Int32 → Int32 → Int32 → Int32 → Int32 → Int32 → Int32 → Int32 → Int32 → Int32 → Int32 → Int32 → (Nat → Int32) → (Nat → Int32) → (Nat → Int32) → (Nat → Int32) → (Nat → Int32) → (Nat → Int32) → (Nat → Int32) → (Nat → Int32) → (Nat → Int32) → (Nat → Int32) → (Nat → Int32) → (Nat → Int32) → (Nat → Int32) → (Nat → Int32) → (Nat → Int32) → (Nat → Int32) → Prop} {o st vo he ns nm sl pa tr td hp cc fi wa se lo : Int32} {a1 a2 a3 a4 a5 a6 a7 a8 a9 a10 a11 a12 a13 a14 a15 a16 : Nat → Int32} {m : Nat} {x3 : Int32} (h : ((pa >>> (nI m &&& 31)) &&& 1) = 0 ∨ ¬ st = 2 ∨ ¬ x3 = 0) (H : wX_remind_95 post J (nI m) x3 o st vo he ns nm sl pa tr td hp cc fi wa se lo a1 a2 a3 a4 a5 a6 a7 a8 a9 a10 a11 a12 a13 a14 a15 a16) : wX_remind_68 post J (nI m) x3 o st vo he ns nm sl pa tr td hp cc fi wa se lo a1 a2 a3 a4 a5 a6 a7 a8 a9 a10 a11 a12 a13 a14 a15 a16 := by
  refine tp_isPart (fun e => br_t rfl H) (fun e => br_f (by decide) (br_c (fun e3 => br_c (fun e0 => ?_) (fun e0 => H)) (fun e3 => H)))
  rcases h with z | z | z
  · exact absurd z e
  · exact absurd e3 z
  · exact absurd e0 z
theorem tp_r40s {post : St1 → Prop} {J : Int32 → Int32 → Int32 → Int32 → Int32 → Int32 → Int32 → Int32 → Int32 → Int32 → Int32 → Int32 → Int32 → Int32 → Int32 → Int32 → Int32 → (Nat → Int32) → (Nat → Int32) → (Nat → Int32) → (Nat → Int32) → (Nat → Int32) → (Nat → Int32) → (Nat → Int32) → (Nat → Int32) → (Nat → Int32) → (Nat → Int32) → (Nat → Int32) → (Nat → Int32) → (Nat → Int32) → (Nat → Int32) → (Nat → Int32) → (Nat → Int32) → Prop} {o st vo he ns nm sl pa tr td hp cc fi wa se lo : Int32} {a1 a2 a3 a4 a5 a6 a7 a8 a9 a10 a11 a12 a13 a14 a15 a16 : Nat → Int32} {m : Nat} {x2 x3 : Int32} (h : ((pa >>> (nI m &&& 31)) &&& 1) = 0 ∨ ¬ st = 1 ∨ ¬ x2 = 0) (H : wX_remind_68 post J (nI m) x3 o st vo he ns nm sl pa tr td hp cc fi wa se lo a1 a2 a3 a4 a5 a6 a7 a8 a9 a10 a11 a12 a13 a14 a15 a16) : wX_remind_40 post J (nI m) x2 x3 o st vo he ns nm sl pa tr td hp cc fi wa se lo a1 a2 a3 a4 a5 a6 a7 a8 a9 a10 a11 a12 a13 a14 a15 a16 := by
  refine tp_isPart (fun e => br_t rfl H) (fun e => br_f (by decide) (br_c (fun e3 => br_c (fun e0 => ?_) (fun e0 => H)) (fun e3 => H)))
  rcases h with z | z | z
  · exact absurd z e
  · exact absurd e3 z
  · exact absurd e0 z
theorem tp_rmB {post : St1 → Prop} {J : Int32 → Int32 → Int32 → Int32 → Int32 → Int32 → Int32 → Int32 → Int32 → Int32 → Int32 → Int32 → Int32 → Int32 → Int32 → Int32 → Int32 → (Nat → Int32) → (Nat → Int32) → (Nat → Int32) → (Nat → Int32) → (Nat → Int32) → (Nat → Int32) → (Nat → Int32) → (Nat → Int32) → (Nat → Int32) → (Nat → Int32) → (Nat → Int32) → (Nat → Int32) → (Nat → Int32) → (Nat → Int32) → (Nat → Int32) → (Nat → Int32) → Prop} {o st vo he ns pa tr td hp cc se lo : Int32} {a1 a2 a3 a4 a5 a6 a7 a8 a9 a10 a11 a12 a13 a14 a15 a16 : Nat → Int32} {n f m s : Nat} {q : List (Nat × Nat × Nat)} {σ : Nat → Nat} {x2 x3 : Int32} (hm : m < 3) (hs : s < 4) (hQ : tp_Q n f q a13 a14 a15 a16)
    (hx2 : x2 = 0 ↔ ((vo >>> (nI m &&& 31)) &&& 1) = 0) (hx3 : x3 = 0 ↔ ((he >>> (nI m &&& 31)) &&& 1) = 0) (hpr : a11 (s * 3 + m) = nI n ↔ (σ m = 2 ∨ σ m = 3))
    (H : ∀ se' lo' q' a13' a14' a15' a16', tp_rm1 pa tr m (st, vo, he, hp, se, lo, σ, q) = (st, vo, he, hp, se', lo', σ, q') → tp_Q n f q' a13' a14' a15' a16' →
      J (nI (m + 1)) o st vo he ns (nI n) (nI s) pa tr td hp cc (nI f) (nI q'.length) se' lo' a1 a2 a3 a4 a5 a6 a7 a8 a9 a10 a11 a12 a13' a14' a15' a16') :
    wX_remind_40 post J (nI m) x2 x3 o st vo he ns (nI n) (nI s) pa tr td hp cc (nI f) (nI q.length) se lo a1 a2 a3 a4 a5 a6 a7 a8 a9 a10 a11 a12 a13 a14 a15 a16 := by
  by_cases ep : ((pa >>> (nI m &&& 31)) &&& 1) = 0
  · refine tp_r40s (Or.inl ep) (tp_r68s (Or.inl ep) (tp_r95s (Or.inl ep) (H _ _ _ _ _ _ _ ?_ hQ)))
    unfold tp_rm1
    dsimp only
    rw [if_pos ep]
  · by_cases e1 : st = 1
    · have n2 : ¬ st = 2 := by rw [e1]; decide
      have n3 : ¬ st = 3 := by rw [e1]; decide
      by_cases ev : x2 = 0
      · refine tp_isPart (fun e => absurd e ep) (fun e => br_f (by decide) (br_t e1 (br_t ev ?_)))
        refine tp_send (kd := 1) (fr := 3) (to := m) (by omega) (by omega) (by omega) hQ (fun se' lo' q' b13 b14 b15 b16 he' hQ' => ?_)
        refine tp_r68s (Or.inr (Or.inl n2)) (tp_r95s (Or.inr (Or.inl n3)) (H _ _ _ _ _ _ _ ?_ hQ'))
        unfold tp_rm1
        dsimp only
        rw [if_neg ep, if_pos e1, if_pos (hx2.mp ev)]
        exact he' _ _ _ _ _
      · refine tp_r40s (Or.inr (Or.inr ev)) (tp_r68s (Or.inr (Or.inl n2)) (tp_r95s (Or.inr (Or.inl n3)) (H _ _ _ _ _ _ _ ?_ hQ)))
        unfold tp_rm1
        dsimp only
        rw [if_neg ep, if_pos e1, if_neg (fun z => ev (hx2.mpr z))]
    · refine tp_r40s (Or.inr (Or.inl e1)) ?_
      by_cases eh : x3 = 0
      · by_cases e2 : st = 2
        · have n3 : ¬ st = 3 := by rw [e2]; decide
          refine tp_isPart (fun e => absurd e ep) (fun e => br_f (by decide) (br_t e2 (br_t eh ?_)))
          refine tp_send (kd := 4) (fr := 3) (to := m) (by omega) (by omega) (by omega) hQ (fun se' lo' q' b13 b14 b15 b16 he' hQ' => ?_)
          refine tp_r95s (Or.inr (Or.inl n3)) (H _ _ _ _ _ _ _ ?_ hQ')
          unfold tp_rm1
          dsimp only
          rw [if_neg ep, if_neg e1, if_pos (hx3.mp eh), if_pos e2]
          exact he' _ _ _ _ _
        · refine tp_r68s (Or.inr (Or.inl e2)) ?_
          by_cases e3 : st = 3
          · refine tp_isPart (fun e => absurd e ep) (fun e => br_f (by decide) (br_t e3 (br_t eh ?_)))
            refine ⟨pk_in (s * 3 + m) 12 (by omega) (tp_ix3 s m), ?_⟩
            rw [tp_ix3, nI_clamp (show s * 3 + m < 2 ^ 31 by omega)]
            refine br_c (fun eg => ?_) (fun eg => ?_)
            · refine tp_send (kd := 7) (fr := m) (to := 3) (by omega) (by omega) (by omega) hQ (fun se' lo' q' b13 b14 b15 b16 he' hQ' => ?_)
              refine nm_r (nI_1 m) (H _ _ _ _ _ _ _ ?_ hQ')
              unfold tp_rm1
              dsimp only
              rw [if_neg ep, if_neg e1, if_pos (hx3.mp eh), if_neg e2, if_pos e3, if_pos (hpr.mp eg)]
              exact he' _ _ _ _ _
            · refine tp_send (kd := 5) (fr := 3) (to := m) (by omega) (by omega) (by omega) hQ (fun se' lo' q' b13 b14 b15 b16 he' hQ' => ?_)
              refine nm_r (nI_1 m) (H _ _ _ _ _ _ _ ?_ hQ')
              unfold tp_rm1
              dsimp only
              rw [if_neg ep, if_neg e1, if_pos (hx3.mp eh), if_neg e2, if_pos e3, if_neg (fun z => eg (hpr.mpr z))]
              exact he' _ _ _ _ _
          · refine tp_r95s (Or.inr (Or.inl e3)) (H _ _ _ _ _ _ _ ?_ hQ)
            unfold tp_rm1
            dsimp only
            rw [if_neg ep, if_neg e1, if_pos (hx3.mp eh), if_neg e2, if_neg e3]
      · refine tp_r68s (Or.inr (Or.inr eh)) (tp_r95s (Or.inr (Or.inr eh)) (H _ _ _ _ _ _ _ ?_ hQ))
        unfold tp_rm1
        dsimp only
        rw [if_neg ep, if_neg e1, if_neg (fun z => eh (hx3.mpr z))]
theorem tp_rm2 {post : St1 → Prop} {o st vo he ns pa tr td hp cc se lo : Int32} {a1 a2 a3 a4 a5 a6 a7 a8 a9 a10 a11 a12 a13 a14 a15 a16 : Nat → Int32} {n f m s g : Nat} {q : List (Nat × Nat × Nat)} {σ : Nat → Nat} (hm : m < 3) (hs : s < 4) (hQ : tp_Q n f q a13 a14 a15 a16)
    (hpr : a11 (s * 3 + m) = nI n ↔ (σ m = 2 ∨ σ m = 3))
    (H : ∀ se' lo' q' a13' a14' a15' a16', tp_rm1 pa tr m (st, vo, he, hp, se, lo, σ, q) = (st, vo, he, hp, se', lo', σ, q') → tp_Q n f q' a13' a14' a15' a16' →
      wX_remind_2 post g (nI (m + 1)) o st vo he ns (nI n) (nI s) pa tr td hp cc (nI f) (nI q'.length) se' lo' a1 a2 a3 a4 a5 a6 a7 a8 a9 a10 a11 a12 a13' a14' a15' a16') :
    wX_remind_2 post (g + 1) (nI m) o st vo he ns (nI n) (nI s) pa tr td hp cc (nI f) (nI q.length) se lo a1 a2 a3 a4 a5 a6 a7 a8 a9 a10 a11 a12 a13 a14 a15 a16 := by
  refine pk_le 3 m (fun z => absurd z (by omega)) (fun _ => ?_)
  refine br_c (fun ev => br_c (fun eh => ?_) (fun eh => ?_)) (fun ev => br_c (fun eh => ?_) (fun eh => ?_))
  · exact tp_rmB hm hs hQ ⟨fun _ => ev, fun _ => rfl⟩ ⟨fun _ => eh, fun _ => rfl⟩ hpr H
  · exact tp_rmB hm hs hQ ⟨fun _ => ev, fun _ => rfl⟩ ⟨fun z => absurd z (by decide), fun z => absurd z eh⟩ hpr H
  · exact tp_rmB hm hs hQ ⟨fun z => absurd z (by decide), fun z => absurd z ev⟩ ⟨fun _ => eh, fun _ => rfl⟩ hpr H
  · exact tp_rmB hm hs hQ ⟨fun z => absurd z (by decide), fun z => absurd z ev⟩ ⟨fun z => absurd z (by decide), fun z => absurd z eh⟩ hpr H
theorem tp_remind {post : St1 → Prop} {o st vo he ns pa tr td hp cc se lo : Int32} {a1 a2 a3 a4 a5 a6 a7 a8 a9 a10 a11 a12 a13 a14 a15 a16 : Nat → Int32} {n f s : Nat} {q : List (Nat × Nat × Nat)} {σ : Nat → Nat} (hs : s < 4) (hQ : tp_Q n f q a13 a14 a15 a16)
    (hpr : ∀ m, m < 3 → (a11 (s * 3 + m) = nI n ↔ (σ m = 2 ∨ σ m = 3)))
    (H : ∀ se' lo' q' a13' a14' a15' a16', tp_rem pa tr (st, vo, he, hp, se, lo, σ, q) = (st, vo, he, hp, se', lo', σ, q') → tp_Q n f q' a13' a14' a15' a16' →
      post (o, st, vo, he, ns, nI n, nI s, pa, tr, td, hp, cc, nI f, nI q'.length, se', lo', a1, a2, a3, a4, a5, a6, a7, a8, a9, a10, a11, a12, a13', a14', a15', a16')) :
    wpX_remind post (o, st, vo, he, ns, nI n, nI s, pa, tr, td, hp, cc, nI f, nI q.length, se, lo, a1, a2, a3, a4, a5, a6, a7, a8, a9, a10, a11, a12, a13, a14, a15, a16) := by
  refine ⟨4, ?_⟩
  refine tp_rm2 (m := 0) (by omega) hs hQ (hpr 0 (by omega)) (fun se0 lo0 q0 b13 b14 b15 b16 e0 hQ0 => ?_)
  refine tp_rm2 (m := 1) (by omega) hs hQ0 (hpr 1 (by omega)) (fun se1 lo1 q1 c13 c14 c15 c16 e1 hQ1 => ?_)
  refine tp_rm2 (m := 2) (by omega) hs hQ1 (hpr 2 (by omega)) (fun se2 lo2 q2 d13 d14 d15 d16 e2 hQ2 => ?_)
  refine pk_le 3 3 (fun _ => H _ _ _ _ _ _ _ ?_ hQ2) (fun z => absurd z (by omega))
  unfold tp_rem
  rw [e0, e1, e2]
end
section
/-! 07: the invariants -/
def tp_zs (b a9 a10 : Nat → Int32) (t : Nat) : Prop := tp_sum (fun k => if tp_wb (a9 t) k = true then a10 (t * 12 + k) - b k else 0) 12 = 0
/-- keys, holders, what is written; s: the transaction that is being committed (4: none) -/
def tp_C (b : Nat → Int32) (s o : Nat) (a8 a9 a10 a11 a12 : Nat → Int32) : Prop :=
  o < 16 ∧ (∀ k, k < 12 → a8 k = -1 ∨ ∃ t, t < 4 ∧ a8 k = nI t ∧ o.testBit t = true) ∧
  (∀ t, t < 4 → ∃ v, v < 4096 ∧ a9 t = nI v ∧ ∀ k, k < 12 → v.testBit k = true → a8 k = nI t) ∧
  (∀ t, t < 4 → t ≠ s → ∀ m, m < 3 → a11 (t * 3 + m) = 0) ∧
  (∀ t, t < 4 → t ≠ s → o.testBit t = true → ∀ m, m < 3 → a12 (t * 3 + m) = 0) ∧
  (∀ t, t < 4 → 2 ≤ t → t ≠ s → o.testBit t = true → tp_zs b a9 a10 t)
theorem tp_C_HR {b a8 a9 a10 a11 a12 : Nat → Int32} {s o : Nat} (h : tp_C b s o a8 a9 a10 a11 a12) : tp_HR a8 := by
  intro k hk
  rcases h.2.1 k hk with e | ⟨t, ht, e, _⟩
  · exact Or.inl e
  · exact Or.inr ⟨t, ht, e⟩
theorem tp_nIn {a b : Nat} (h : a ≠ b) (ha : a < 100) (hb : b < 100) : nI a ≠ nI b := fun z => h ((nI_eq (by omega) (by omega)).mp z)
theorem tp_rb_t {h : Nat → Int32} {t k : Nat} (hk : k < 12) (e : h k = nI t) : tp_rb h t k = -1 := if_pos ⟨hk, e⟩
theorem tp_rb_f {h : Nat → Int32} {t k : Nat} (e : h k ≠ nI t) : tp_rb h t k = h k := if_neg (fun z => e z.2)
theorem tp_ro_t {h : Nat → Int32} {t m k : Nat} (hk : k < 12) (h3 : k % 3 = m) (e : h k = nI t) : tp_ro h t m k = -1 := if_pos ⟨⟨hk, h3⟩, e⟩
theorem tp_ro_f {h : Nat → Int32} {t m k : Nat} (e : h k ≠ nI t ∨ k % 3 ≠ m) : tp_ro h t m k = h k := if_neg (fun z => by
  rcases e with e | e
  · exact e z.2
  · exact e z.1.2)
theorem tp_rbro (h : Nat → Int32) {t m : Nat} (ht : t < 4) : tp_rb (tp_ro h t m) t = tp_rb h t := by
  funext k
  have n1 : (-1 : Int32) ≠ nI t := (tp_ne1 (by omega)).symm
  by_cases e : h k = nI t
  · by_cases hk : k < 12
    · rw [tp_rb_t hk e]
      by_cases h3 : k % 3 = m
      · rw [tp_rb_f (by rw [tp_ro_t hk h3 e]; exact n1), tp_ro_t hk h3 e]
      · have e2 : tp_ro h t m k = h k := tp_ro_f (Or.inr h3)
        exact tp_rb_t hk (by rw [e2, e])
    · have e2 : tp_ro h t m k = h k := if_neg (fun z => hk z.1.1)
      have e3 : tp_rb (tp_ro h t m) t k = tp_ro h t m k := if_neg (fun z => hk z.1)
      have e4 : tp_rb h t k = h k := if_neg (fun z => hk z.1)
      rw [e3, e2, e4]
  · have e2 : tp_ro h t m k = h k := tp_ro_f (Or.inl e)
    rw [tp_rb_f (by rw [e2]; exact e), e2, tp_rb_f e]
theorem tp_p0u (p : Nat → Int32) {t m : Nat} (hm : m < 3) : tp_p0 (upd p (t * 3 + m) 0) t = tp_p0 p t := by
  funext i
  unfold tp_p0
  by_cases c : i / 3 = t
  · rw [if_pos c, if_pos c]
  · rw [if_neg c, if_neg c, pk_un (by omega)]
/-- t lets all go: if t isn't the one that is being committed, or if that one ends -/
theorem tp_C_rb {b a8 a9 a10 a11 a12 : Nat → Int32} {s s' o t : Nat} (h : tp_C b s o a8 a9 a10 a11 a12) (ht : t < 4) (hs : ∀ t', t' ≠ t → t' < 4 → t' ≠ s' → t' ≠ s) :
    tp_C b s' (tp_clr o t) (tp_rb a8 t) (upd a9 t 0) a10 (tp_p0 a11 t) a12 := by
  obtain ⟨c1, c2, c3, c4, c5, c6⟩ := h
  have ob : ∀ t', t' < 4 → (tp_clr o t).testBit t' = true → t' ≠ t ∧ o.testBit t' = true := by
    intro t' ht' z
    rw [tp_clr_b (by omega), Bool.and_eq_true, decide_eq_true_iff] at z
    exact ⟨z.2, z.1⟩
  refine ⟨Nat.lt_of_le_of_lt (tp_clr_le o t) c1, fun k hk => ?_, fun t' ht' => ?_, fun t' ht' hn m hm => ?_, fun t' ht' hn ho m hm => ?_, fun t' ht' h2 hn ho => ?_⟩
  · by_cases e : a8 k = nI t
    · exact Or.inl (tp_rb_t hk e)
    · rw [tp_rb_f e]
      rcases c2 k hk with z | ⟨t', ht', z, zo⟩
      · exact Or.inl z
      · refine Or.inr ⟨t', ht', z, ?_⟩
        rw [tp_clr_b (by omega), zo, Bool.true_and, decide_eq_true_iff]
        intro et
        rw [et] at z
        exact e z
  · by_cases et : t' = t
    · subst et
      refine ⟨0, by omega, by rw [pk_us, nI_0], fun k hk z => ?_⟩
      rw [Nat.zero_testBit] at z
      exact absurd z (by decide)
    · obtain ⟨v, hv, e9, hb⟩ := c3 t' ht'
      refine ⟨v, hv, by rw [pk_un et, e9], fun k hk z => ?_⟩
      have e8 := hb k hk z
      rw [tp_rb_f (by rw [e8]; exact tp_nIn et (by omega) (by omega)), e8]
  · unfold tp_p0
    by_cases et : (t' * 3 + m) / 3 = t
    · rw [if_pos et]
    · rw [if_neg et]
      exact c4 t' ht' (hs t' (by omega) ht' hn) m hm
  · obtain ⟨z1, z2⟩ := ob t' ht' ho
    exact c5 t' ht' (hs t' z1 ht' hn) z2 m hm
  · obtain ⟨z1, z2⟩ := ob t' ht' ho
    have := c6 t' ht' h2 (hs t' z1 ht' hn) z2
    unfold tp_zs at this ⊢
    rw [pk_un z1]
    exact this
/-- the one that is being committed lets go on one machine -/
theorem tp_C_ro {b a8 a9 a10 a11 a12 : Nat → Int32} {s o m v : Nat} (h : tp_C b s o a8 a9 a10 a11 a12) (hs : s < 4) (hm : m < 3) (h9 : a9 s = nI v) (hv : v < 4096) :
    tp_C b s o (tp_ro a8 s m) (upd a9 s (nI (tp_cm v m 4))) a10 (upd a11 (s * 3 + m) 0) a12 := by
  obtain ⟨c1, c2, c3, c4, c5, c6⟩ := h
  refine ⟨c1, fun k hk => ?_, fun t' ht' => ?_, fun t' ht' hn m' hm' => ?_, c5, fun t' ht' h2 hn ho => ?_⟩
  · by_cases e : a8 k = nI s ∧ k % 3 = m
    · exact Or.inl (tp_ro_t hk e.2 e.1)
    · have e' : a8 k ≠ nI s ∨ k % 3 ≠ m := by
        by_cases z : a8 k = nI s
        · exact Or.inr (fun z2 => e ⟨z, z2⟩)
        · exact Or.inl z
      rw [tp_ro_f e']
      exact c2 k hk
  · obtain ⟨v', hv', e9, hb⟩ := c3 t' ht'
    by_cases et : t' = s
    · subst et
      refine ⟨tp_cm v m 4, Nat.lt_of_le_of_lt (tp_cm_le _ _ _) hv, pk_us, fun k hk z => ?_⟩
      have ev : v' = v := by
        rw [h9] at e9
        exact ((nI_eq (by omega) (by omega)).mp e9).symm
      subst ev
      rw [tp_cm_b (by omega), Bool.and_eq_true, decide_eq_true_iff] at z
      rw [tp_ro_f (Or.inr (fun z2 => z.2 (by omega)))]
      exact hb k hk z.1
    · refine ⟨v', hv', by rw [pk_un et, e9], fun k hk z => ?_⟩
      have e8 := hb k hk z
      rw [tp_ro_f (Or.inl (by rw [e8]; exact tp_nIn et (by omega) (by omega))), e8]
  · rw [pk_un (by omega)]
    exact c4 t' ht' hn m' hm'
  · have := c6 t' ht' h2 hn ho
    unfold tp_zs at this ⊢
    rw [pk_un hn]
    exact this
theorem tp_C_gone {b a8 a9 a10 a11 a12 : Nat → Int32} {s o m : Nat} {x : Int32} (h : tp_C b s o a8 a9 a10 a11 a12) (hm : m < 3) : tp_C b s o a8 a9 a10 a11 (upd a12 (s * 3 + m) x) := by
  obtain ⟨c1, c2, c3, c4, c5, c6⟩ := h
  refine ⟨c1, c2, c3, c4, fun t' ht' hn ho m' hm' => ?_, c6⟩
  rw [pk_un (by omega)]
  exact c5 t' ht' hn ho m' hm'
theorem tp_C_prom {b a8 a9 a10 a11 a12 : Nat → Int32} {s o m : Nat} {x : Int32} (h : tp_C b s o a8 a9 a10 a11 a12) (hm : m < 3) : tp_C b s o a8 a9 a10 (upd a11 (s * 3 + m) x) a12 := by
  obtain ⟨c1, c2, c3, c4, c5, c6⟩ := h
  refine ⟨c1, c2, c3, fun t' ht' hn m' hm' => ?_, c5, c6⟩
  rw [pk_un (by omega)]
  exact c4 t' ht' hn m' hm'
/-- what is in doubt holds its keys again -/
theorem tp_C_hold {b a8 a9 a10 a11 a12 a8' a10' : Nat → Int32} {s o m v v' : Nat} {x : Int32} {W : Nat → Bool} (h : tp_C b s o a8 a9 a10 a11 a12) (hs : s < 4) (hm : m < 3) (ho : o.testBit s = true) (h9 : a9 s = nI v) (hv : v < 4096) (hv' : v' < 4096)
    (k0 : ∀ k, k < 12 → k % 3 = m → W k = true → a8 k = -1 ∨ a8 k = nI s)
    (k1 : ∀ k, k < 12 → k % 3 = m → W k = true → a8' k = nI s) (k2 : ∀ k, ¬ (k % 3 = m ∧ W k = true) → a8' k = a8 k) (k3 : ∀ k, k < 12 → (v'.testBit k = true ↔ v.testBit k = true ∨ (k % 3 = m ∧ W k = true)))
    (k4 : ∀ i, (∀ k, k < 12 → k % 3 = m → W k = true → i ≠ s * 12 + k) → a10' i = a10 i) : tp_C b s o a8' (upd a9 s (nI v')) a10' (upd a11 (s * 3 + m) x) a12 := by
  obtain ⟨c1, c2, c3, c4, c5, c6⟩ := tp_C_prom (x := x) h hm
  refine ⟨c1, fun k hk => ?_, fun t' ht' => ?_, c4, c5, fun t' ht' h2 hn ho' => ?_⟩
  · by_cases e : k % 3 = m ∧ W k = true
    · exact Or.inr ⟨s, hs, k1 k hk e.1 e.2, ho⟩
    · rw [k2 k e]
      exact c2 k hk
  · obtain ⟨w, hw, e9, hb⟩ := c3 t' ht'
    by_cases et : t' = s
    · subst et
      refine ⟨v', hv', pk_us, fun k hk z => ?_⟩
      have ev : w = v := by
        rw [h9] at e9
        exact ((nI_eq (by omega) (by omega)).mp e9).symm
      subst ev
      by_cases e : k % 3 = m ∧ W k = true
      · exact k1 k hk e.1 e.2
      · rw [k2 k e]
        rcases (k3 k hk).mp z with z | z
        · exact hb k hk z
        · exact absurd z e
    · refine ⟨w, hw, by rw [pk_un et, e9], fun k hk z => ?_⟩
      have e8 := hb k hk z
      by_cases e : k % 3 = m ∧ W k = true
      · rcases k0 k hk e.1 e.2 with z | z
        · rw [z] at e8
          exact absurd e8.symm (tp_ne1 (by omega))
        · rw [z] at e8
          exact absurd e8.symm (tp_nIn et (by omega) (by omega))
      · rw [k2 k e, e8]
  · have := c6 t' ht' h2 hn ho'
    unfold tp_zs at this ⊢
    rw [pk_un hn, tp_sum_cg 12 (g := fun k => if tp_wb (a9 t') k = true then a10 (t' * 12 + k) - b k else 0) (fun k hk => ?_)]
    · exact this
    · rw [k4 (t' * 12 + k) (fun k' hk' _ _ => by omega)]
/-! a machine's disk -/
def tp_cap (x : Nat) : Nat := if x < 2 then 40 else if x < 4 then 45 else 46
def tp_nm (b d : Nat → Int32) (x : Nat) : Nat → Int32 := if x = 4 then d else b
def tp_opn (n x : Nat) : Int32 := if x = 2 ∨ x = 3 then nI n else 0
def tp_DS (b d : Nat → Int32) (W : Nat → Bool) (n x m : Nat) (a1 a2 a3 a4 a5 a6 a7 : Nat → Int32) : Prop :=
  ∃ sz, a2 m = nI sz ∧ sz ≤ tp_cap x ∧ (∀ i, i < sz → ∃ c, (if x < 2 then c < n else c ≤ n) ∧ a4 (m * 64 + i) = nI c) ∧ tp_KO a3 a5 (m * 64) m sz ∧
    tp_RP a3 a4 a5 a6 (m * 64) m sz a1 (tp_nm b d x) (tp_opn n x) ∧ (∀ k, k < 12 → k % 3 = m → a7 k = tp_nm b d x k) ∧ (x = 2 ∨ x = 3 → tp_PA a3 a4 a5 a6 (m * 64) m sz (nI n) W d)
theorem tp_cap_le (x : Nat) : tp_cap x ≤ 46 := by
  unfold tp_cap
  by_cases h : x < 2
  · rw [if_pos h]
    omega
  · rw [if_neg h]
    by_cases h2 : x < 4
    · rw [if_pos h2]
      omega
    · rw [if_neg h2]
      omega
theorem tp_DS_cg {b d a1 a2 a3 a4 a5 a6 a7 b1 b2 b3 b4 b5 b6 b7 : Nat → Int32} {W : Nat → Bool} {n x m : Nat} (h : tp_DS b d W n x m a1 a2 a3 a4 a5 a6 a7)
    (e1 : ∀ k, k < 12 → k % 3 = m → b1 k = a1 k) (e2 : b2 m = a2 m) (ag : tp_ag a3 a4 a5 a6 b3 b4 b5 b6 (m * 64) 64) (e7 : ∀ k, k < 12 → k % 3 = m → b7 k = a7 k) : tp_DS b d W n x m b1 b2 b3 b4 b5 b6 b7 := by
  obtain ⟨sz, s1, s2, s3, s4, s5, s6, s7⟩ := h
  have hc := tp_cap_le x
  refine ⟨sz, by rw [e2, s1], s2, fun i hi => ?_, fun i hi => ?_, tp_RP_cg s5 (tp_ag_less ag (by omega)) e1 (fun _ _ _ => rfl), fun k hk hm => by rw [e7 k hk hm, s6 k hk hm], fun hx => ⟨fun i hi => ?_, fun k hk hm hw => ?_⟩⟩
  · obtain ⟨g1, g2, g3, g4⟩ := ag i (by omega)
    rw [g2]
    exact s3 i hi
  · obtain ⟨g1, g2, g3, g4⟩ := ag i (by omega)
    rw [g1, g3]
    exact s4 i hi
  · obtain ⟨g1, g2, g3, g4⟩ := ag i (by omega)
    rw [g1, g2, g3, g4]
    exact (s7 hx).1 i hi
  · obtain ⟨i, hi, z1, z2, z3⟩ := (s7 hx).2 k hk hm hw
    obtain ⟨g1, g2, g3, g4⟩ := ag i (by omega)
    exact ⟨i, hi, by rw [g1, z1], by rw [g2, z2], by rw [g3, z3]⟩
/-! a machine's memory, of the transaction s that is being committed -/
def tp_LS (d h0 : Nat → Int32) (W : Nat → Bool) (n s x m : Nat) (a8 a9 a10 a11 a12 : Nat → Int32) : Prop :=
  (∀ k, k < 12 → k % 3 = m → (x = 0 ∨ x = 2 → h0 k = nI s → a8 k = nI s) ∧ (x = 0 ∨ x = 2 ∨ x = 3 → W k = true → a8 k = nI s) ∧ (x = 1 ∨ x = 4 ∨ x = 5 → a8 k ≠ nI s) ∧
    (x = 0 ∨ x = 2 ∨ x = 3 → tp_wb (a9 s) k = W k ∧ (W k = true → a10 (s * 12 + k) = d k))) ∧
  a11 (s * 3 + m) = tp_opn n x ∧ (x = 0 ∨ x = 2 → a12 (s * 3 + m) = 0) ∧ (x = 1 → a12 (s * 3 + m) ≠ 0)
theorem tp_LS_cg {d h0 a8 a9 a10 a11 a12 b8 b9 b10 b11 b12 : Nat → Int32} {W : Nat → Bool} {n s x m : Nat} (h : tp_LS d h0 W n s x m a8 a9 a10 a11 a12)
    (e8 : ∀ k, k < 12 → k % 3 = m → (b8 k = nI s ↔ a8 k = nI s)) (e9 : ∀ k, k < 12 → k % 3 = m → tp_wb (b9 s) k = tp_wb (a9 s) k) (e10 : ∀ k, k < 12 → k % 3 = m → b10 (s * 12 + k) = a10 (s * 12 + k))
    (e11 : b11 (s * 3 + m) = a11 (s * 3 + m)) (e12 : b12 (s * 3 + m) = a12 (s * 3 + m)) : tp_LS d h0 W n s x m b8 b9 b10 b11 b12 := by
  obtain ⟨h1, h2, h3, h4⟩ := h
  refine ⟨fun k hk hm => ?_, by rw [e11, h2], fun z => by rw [e12, h3 z], fun z => by rw [e12]; exact h4 z⟩
  obtain ⟨g1, g2, g3, g4⟩ := h1 k hk hm
  exact ⟨fun z y => (e8 k hk hm).mpr (g1 z y), fun z y => (e8 k hk hm).mpr (g2 z y), fun z y => g3 z ((e8 k hk hm).mp y), fun z => by rw [e9 k hk hm, e10 k hk hm]; exact g4 z⟩
def tp_RD (b d h0 : Nat → Int32) (W : Nat → Bool) (n s : Nat) (σ : Nat → Nat) (o : Nat) (a1 a2 a3 a4 a5 a6 a7 a8 a9 a10 a11 a12 : Nat → Int32) : Prop :=
  tp_C b s o a8 a9 a10 a11 a12 ∧ (∀ m, m < 3 → tp_DS b d W n (σ m) m a1 a2 a3 a4 a5 a6 a7) ∧
  (s < 4 → o.testBit s = true ∧ (∀ k, k < 12 → a8 k = -1 ∨ a8 k = h0 k) ∧ ∀ m, m < 3 → tp_LS d h0 W n s (σ m) m a8 a9 a10 a11 a12)
/-- another transaction lets all go -/
theorem tp_LS_rb {d h0 a8 a9 a10 a11 a12 : Nat → Int32} {W : Nat → Bool} {n s x m t : Nat} (h : tp_LS d h0 W n s x m a8 a9 a10 a11 a12) (hs : s < 4) (ht : t < 4) (hts : t ≠ s) (hm : m < 3) : tp_LS d h0 W n s x m (tp_rb a8 t) (upd a9 t 0) a10 (tp_p0 a11 t) a12 := by
  refine tp_LS_cg h (fun k hk h3 => ?_) (fun k hk h3 => by rw [pk_un (fun z => hts z.symm)]) (fun _ _ _ => rfl) (if_neg (by omega)) rfl
  by_cases e : a8 k = nI t
  · rw [tp_rb_t hk e, e]
    exact ⟨fun z => absurd z.symm (tp_ne1 (by omega)), fun z => absurd z (tp_nIn hts (by omega) (by omega))⟩
  · rw [tp_rb_f e]
theorem tp_RD_rb {b d h0 a1 a2 a3 a4 a5 a6 a7 a8 a9 a10 a11 a12 : Nat → Int32} {W : Nat → Bool} {n s o t : Nat} {σ : Nat → Nat} (h : tp_RD b d h0 W n s σ o a1 a2 a3 a4 a5 a6 a7 a8 a9 a10 a11 a12) (ht : t < 4) (hts : t ≠ s) :
    tp_RD b d h0 W n s σ (tp_clr o t) a1 a2 a3 a4 a5 a6 a7 (tp_rb a8 t) (upd a9 t 0) a10 (tp_p0 a11 t) a12 := by
  obtain ⟨hC, hD, hS⟩ := h
  refine ⟨tp_C_rb hC ht (fun _ _ _ z => z), hD, fun hs => ?_⟩
  obtain ⟨s1, s2, s3⟩ := hS hs
  refine ⟨?_, fun k hk => ?_, fun m hm => tp_LS_rb (s3 m hm) hs ht hts hm⟩
  · rw [tp_clr_b (by omega), s1, Bool.true_and, decide_eq_true_iff]
    exact fun z => hts z.symm
  · by_cases e : a8 k = nI t
    · exact Or.inl (tp_rb_t hk e)
    · rw [tp_rb_f e]
      exact s2 k hk
end
section
/-! 08: breakDown, breakLeader -/
def tp_BJ (b d h0 h8 : Nat → Int32) (W : Nat → Bool) (n s : Nat) (σ : Nat → Nat) (m x' t o : Nat) (a8 a9 a10 a11 a12 : Nat → Int32) : Prop :=
  tp_C b s o a8 a9 a10 a11 a12 ∧ (∀ k, k < 12 → a8 k = -1 ∨ a8 k = h8 k) ∧ (∀ k, k < 12 → k % 3 = m → ∀ t', t' < t → a8 k ≠ nI t') ∧
  (s < 4 → o.testBit s = true ∧ (∀ m', m' < 3 → m' ≠ m → tp_LS d h0 W n s (σ m') m' a8 a9 a10 a11 a12) ∧ (t ≤ s → tp_LS d h0 W n s (σ m) m a8 a9 a10 a11 a12 ∧ ∀ k, k < 12 → h8 k = nI s → a8 k = nI s) ∧
    (s < t → σ m ≠ 2 → σ m ≠ 3 → tp_LS d h0 W n s x' m a8 a9 a10 a11 a12))
/-- t has no key on m -/
theorem tp_BJ_no {b d h0 h8 a8 a9 a10 a11 a12 : Nat → Int32} {W : Nat → Bool} {n s m x' t o : Nat} {σ : Nat → Nat} {pa : Int32} (h : tp_BJ b d h0 h8 W n s σ m x' t o a8 a9 a10 a11 a12)
    (hn : ¬ ∃ k, k < 12 ∧ k % 3 = m ∧ h8 k = nI t) (ht : t < 4) (hx : σ m < 6) (hx' : s < 4 → x' = tp_bx pa m (σ m)) (hp : s < 4 → (((pa >>> (nI m &&& 31)) &&& 1) = 0 ↔ ¬ ∃ k, k < 12 ∧ k % 3 = m ∧ h0 k = nI s)) :
    tp_BJ b d h0 h8 W n s σ m x' (t + 1) o a8 a9 a10 a11 a12 := by
  obtain ⟨j1, j2, j3, j4⟩ := h
  have n8 : ∀ k, k < 12 → k % 3 = m → a8 k ≠ nI t := by
    intro k hk h3 e
    rcases j2 k hk with z | z
    · rw [z] at e
      exact absurd e.symm (tp_ne1 (by omega))
    · exact hn ⟨k, hk, h3, by rw [← z, e]⟩
  refine ⟨j1, j2, fun k hk h3 t' ht' => ?_, fun hs => ?_⟩
  · by_cases e : t' = t
    · rw [e]
      exact n8 k hk h3
    · exact j3 k hk h3 t' (by omega)
  · obtain ⟨q1, q2, q3, q4⟩ := j4 hs
    refine ⟨q1, q2, fun z => q3 (by omega), fun z z2 z3 => ?_⟩
    by_cases e : t = s
    · subst e
      have L := (q3 (Nat.le_refl _)).1
      have hx'' := hx' hs
      unfold tp_bx at hx''
      by_cases x0 : σ m = 0
      · have ep : ((pa >>> (nI m &&& 31)) &&& 1) = 0 := by
          rw [hp hs]
          rintro ⟨k, hk, h3, e⟩
          exact n8 k hk h3 ((L.1 k hk h3).1 (Or.inl x0) e)
        rw [if_pos x0, if_pos ep] at hx''
        rw [hx'', ← x0]
        exact L
      · rw [if_neg x0, if_neg z2] at hx''
        rw [hx'']
        exact L
    · exact q4 (by omega) z2 z3
/-- another t lets all go -/
theorem tp_BJ_rb {b d h0 h8 a8 a9 a10 a11 a12 : Nat → Int32} {W : Nat → Bool} {n s m x' t o : Nat} {σ : Nat → Nat} (h : tp_BJ b d h0 h8 W n s σ m x' t o a8 a9 a10 a11 a12) (ht : t < 4) (hts : t ≠ s) (hm : m < 3) :
    tp_BJ b d h0 h8 W n s σ m x' (t + 1) (tp_clr o t) (tp_rb a8 t) (upd a9 t 0) a10 (tp_p0 a11 t) a12 := by
  obtain ⟨j1, j2, j3, j4⟩ := h
  have r8 : ∀ k, k < 12 → tp_rb a8 t k ≠ nI t := by
    intro k hk
    by_cases e : a8 k = nI t
    · rw [tp_rb_t hk e]
      exact (tp_ne1 (by omega)).symm
    · rw [tp_rb_f e]
      exact e
  refine ⟨tp_C_rb j1 ht (fun _ _ _ z => z), fun k hk => ?_, fun k hk h3 t' ht' => ?_, fun hs => ?_⟩
  · by_cases e : a8 k = nI t
    · exact Or.inl (tp_rb_t hk e)
    · rw [tp_rb_f e]
      exact j2 k hk
  · by_cases et : t' = t
    · rw [et]
      exact r8 k hk
    · by_cases e : a8 k = nI t
      · rw [tp_rb_t hk e]
        exact (tp_ne1 (by omega)).symm
      · rw [tp_rb_f e]
        exact j3 k hk h3 t' (by omega)
  · obtain ⟨q1, q2, q3, q4⟩ := j4 hs
    refine ⟨?_, fun m' hm' hne => tp_LS_rb (q2 m' hm' hne) hs ht hts hm', fun z => ⟨tp_LS_rb (q3 (by omega)).1 hs ht hts hm, fun k hk e => ?_⟩, fun z z2 z3 => tp_LS_rb (q4 (by omega) z2 z3) hs ht hts hm⟩
    · rw [tp_clr_b (by omega), q1, Bool.true_and, decide_eq_true_iff]
      exact fun z => hts z.symm
    · have e2 := (q3 (by omega)).2 k hk e
      rw [tp_rb_f (by rw [e2]; exact tp_nIn (fun z => hts z.symm) (by omega) (by omega)), e2]
/-- memory on another machine when s lets go on machine m -/
theorem tp_LS_ro {d h0 a8 a9 a10 a11 a12 : Nat → Int32} {W : Nat → Bool} {n s x m m' v : Nat} {y : Int32} (h : tp_LS d h0 W n s x m' a8 a9 a10 a11 a12) (hs : s < 4) (hm : m < 3) (hm' : m' < 3) (hne : m' ≠ m) (h9 : a9 s = nI v) (hv : v < 4096) :
    tp_LS d h0 W n s x m' (tp_ro a8 s m) (upd a9 s (nI (tp_cm v m 4))) a10 (upd a11 (s * 3 + m) y) a12 := by
  refine tp_LS_cg h (fun k hk h3 => by rw [tp_ro_f (Or.inr (by omega))]) (fun k hk h3 => ?_) (fun _ _ _ => rfl) (pk_un (by omega)) rfl
  rw [pk_us, h9, tp_wb_nI hv, tp_wb_nI (Nat.lt_of_le_of_lt (tp_cm_le _ _ _) hv), tp_cm_b (by omega), decide_eq_true (by omega), Bool.and_true]
theorem tp_LS_a12 {d h0 a8 a9 a10 a11 a12 : Nat → Int32} {W : Nat → Bool} {n s x m m' : Nat} {y : Int32} (h : tp_LS d h0 W n s x m' a8 a9 a10 a11 a12) (hne : m' ≠ m) : tp_LS d h0 W n s x m' a8 a9 a10 a11 (upd a12 (s * 3 + m) y) :=
  tp_LS_cg h (fun _ _ _ => Iff.rfl) (fun _ _ _ => rfl) (fun _ _ _ => rfl) rfl (pk_un (by omega))
/-- the one that is being committed has keys on m: it loses them -/
theorem tp_BJ_ro {b d h0 h8 a8 a9 a10 a11 a12 : Nat → Int32} {W : Nat → Bool} {n s m x' o v : Nat} {σ : Nat → Nat} {pa : Int32} (h : tp_BJ b d h0 h8 W n s σ m x' s o a8 a9 a10 a11 a12)
    (hn : ∃ k, k < 12 ∧ k % 3 = m ∧ h8 k = nI s) (h80 : ∀ k, k < 12 → h8 k = -1 ∨ h8 k = h0 k) (hs : s < 4) (hm : m < 3) (h9 : a9 s = nI v) (hv : v < 4096) (hx : σ m < 6) (hx' : x' = tp_bx pa m (σ m)) (hp : ((pa >>> (nI m &&& 31)) &&& 1) = 0 ↔ ¬ ∃ k, k < 12 ∧ k % 3 = m ∧ h0 k = nI s) :
    tp_BJ b d h0 h8 W n s σ m x' (s + 1) o (tp_ro a8 s m) (upd a9 s (nI (tp_cm v m 4))) a10 (upd a11 (s * 3 + m) 0) (upd a12 (s * 3 + m) 1) := by
  obtain ⟨j1, j2, j3, j4⟩ := h
  obtain ⟨q1, q2, q3, q4⟩ := j4 hs
  obtain ⟨L, L8⟩ := q3 (Nat.le_refl _)
  obtain ⟨k0, hk0, h30, e0⟩ := hn
  refine ⟨tp_C_gone (tp_C_ro j1 hs hm h9 hv) hm, fun k hk => ?_, fun k hk h3 t' ht' => ?_, fun _ => ⟨q1, fun m' hm' hne => tp_LS_a12 (tp_LS_ro (q2 m' hm' hne) hs hm hm' hne h9 hv) hne, fun z => absurd z (by omega), fun _ z2 z3 => ?_⟩⟩
  · by_cases e : a8 k = nI s ∧ k % 3 = m
    · exact Or.inl (tp_ro_t hk e.2 e.1)
    · have e' : a8 k ≠ nI s ∨ k % 3 ≠ m := by
        by_cases z : a8 k = nI s
        · exact Or.inr (fun z2 => e ⟨z, z2⟩)
        · exact Or.inl z
      rw [tp_ro_f e']
      exact j2 k hk
  · by_cases e : a8 k = nI s
    · rw [tp_ro_t hk h3 e]
      exact (tp_ne1 (by omega)).symm
    · rw [tp_ro_f (Or.inl e)]
      by_cases et : t' = s
      · rw [et]
        exact e
      · exact j3 k hk h3 t' (by omega)
  · have x0 : σ m = 0 := by
      by_cases x1 : σ m = 1 ∨ σ m = 4 ∨ σ m = 5
      · exact absurd (L8 k0 hk0 e0) ((L.1 k0 hk0 h30).2.2.1 x1)
      · omega
    have ep : ¬ ((pa >>> (nI m &&& 31)) &&& 1) = 0 := by
      rw [hp]
      intro z
      rcases h80 k0 hk0 with y | y
      · rw [e0] at y
        exact absurd y (tp_ne1 (by omega))
      · exact z ⟨k0, hk0, h30, by rw [← y, e0]⟩
    unfold tp_bx at hx'
    rw [if_pos x0, if_neg ep] at hx'
    subst hx'
    refine ⟨fun k hk h3 => ⟨fun z => absurd z (by omega), fun z => absurd z (by omega), fun _ => ?_, fun z => absurd z (by omega)⟩, ?_, fun z => absurd z (by omega), fun _ => ?_⟩
    · by_cases e : a8 k = nI s
      · rw [tp_ro_t hk h3 e]
        exact (tp_ne1 (by omega)).symm
      · rw [tp_ro_f (Or.inl e)]
        exact e
    · rw [pk_us]
      rfl
    · rw [pk_us]
      decide
/-- the end of a breakdown, nothing in doubt -/
theorem tp_BJ_e0 {b d h0 h8 a1 a2 a3 a4 a5 a6 a7 a8 a9 a10 a11 a12 a7' : Nat → Int32} {W : Nat → Bool} {n s m x' o : Nat} {σ : Nat → Nat} (h : tp_BJ b d h0 h8 W n s σ m x' 4 o a8 a9 a10 a11 a12) (hD : ∀ m, m < 3 → tp_DS b d W n (σ m) m a1 a2 a3 a4 a5 a6 a7)
    (h80 : s < 4 → ∀ k, k < 12 → h8 k = -1 ∨ h8 k = h0 k) (hm : m < 3) (x2 : σ m ≠ 2) (x3 : σ m ≠ 3) (hx : x' = σ m ∨ (σ m = 0 ∧ x' = 1))
    (e1 : ∀ k, k < 12 → k % 3 = m → a7' k = tp_nm b d (σ m) k) (e2 : ∀ k, k < 12 → k % 3 ≠ m → a7' k = a7 k) :
    tp_RD b d h0 W n s (tp_up σ m x') o a1 a2 a3 a4 a5 a6 a7' a8 a9 a10 a11 a12 ∧ (∀ k, k < 12 → k % 3 = m → a8 k = -1 ∨ a8 k = nI s) := by
  obtain ⟨j1, j2, j3, j4⟩ := h
  refine ⟨⟨j1, fun m' hm' => ?_, fun hs => ?_⟩, fun k hk h3 => ?_⟩
  · unfold tp_up
    by_cases e : m' = m
    · subst e
      rw [if_pos rfl]
      have D := hD m' hm'
      have D2 : tp_DS b d W n (σ m') m' a1 a2 a3 a4 a5 a6 a7' := by
        obtain ⟨sz, s1, s2, s3, s4, s5, s6, s7⟩ := D
        exact ⟨sz, s1, s2, s3, s4, s5, e1, s7⟩
      rcases hx with z | ⟨z1, z2⟩
      · rw [z]
        exact D2
      · rw [z1] at D2
        rw [z2]
        obtain ⟨sz, s1, s2, s3, s4, s5, s6, s7⟩ := D2
        exact ⟨sz, s1, s2, s3, s4, s5, s6, fun z => absurd z (by omega)⟩
    · rw [if_neg e]
      exact tp_DS_cg (hD m' hm') (fun _ _ _ => rfl) rfl (fun _ _ => ⟨rfl, rfl, rfl, rfl⟩) (fun k hk h3 => e2 k hk (by omega))
  · obtain ⟨q1, q2, q3, q4⟩ := j4 hs
    refine ⟨q1, fun k hk => ?_, fun m' hm' => ?_⟩
    · rcases j2 k hk with z | z
      · exact Or.inl z
      · rw [z]
        exact h80 hs k hk
    · unfold tp_up
      by_cases e : m' = m
      · subst e
        rw [if_pos rfl]
        exact q4 hs x2 x3
      · rw [if_neg e]
        exact q2 m' hm' e
  · rcases j1.2.1 k hk with z | ⟨t, ht, z, _⟩
    · exact Or.inl z
    · exact absurd z (j3 k hk h3 t ht)
/-- the end of a breakdown, s in doubt -/
theorem tp_BJ_e1 {b d h0 h8 a1 a2 a3 a4 a5 a6 a7 a8 a9 a10 a11 a12 a7' a8' a10' : Nat → Int32} {W : Nat → Bool} {n s m x' o v v' : Nat} {σ : Nat → Nat} (h : tp_BJ b d h0 h8 W n s σ m x' 4 o a8 a9 a10 a11 a12) (hD : ∀ m, m < 3 → tp_DS b d W n (σ m) m a1 a2 a3 a4 a5 a6 a7)
    (h80 : ∀ k, k < 12 → h8 k = -1 ∨ h8 k = h0 k) (hW : ∀ k, k < 12 → W k = true → h0 k = nI s) (hm : m < 3) (hs : s < 4) (x23 : σ m = 2 ∨ σ m = 3) (hx : x' = 3)
    (e1 : ∀ k, k < 12 → k % 3 = m → a7' k = tp_nm b d (σ m) k) (e2 : ∀ k, k < 12 → k % 3 ≠ m → a7' k = a7 k) (h9 : a9 s = nI v) (hv : v < 4096) (hv' : v' < 4096)
    (k1 : ∀ k, k < 12 → k % 3 = m → W k = true → a8' k = nI s) (k2 : ∀ k, ¬ (k % 3 = m ∧ W k = true) → a8' k = a8 k) (k3 : ∀ k, k < 12 → (v'.testBit k = true ↔ v.testBit k = true ∨ (k % 3 = m ∧ W k = true)))
    (k5 : ∀ k, k < 12 → k % 3 = m → W k = true → a10' (s * 12 + k) = d k) (k4 : ∀ i, (∀ k, k < 12 → k % 3 = m → W k = true → i ≠ s * 12 + k) → a10' i = a10 i) :
    tp_RD b d h0 W n s (tp_up σ m x') o a1 a2 a3 a4 a5 a6 a7' a8' (upd a9 s (nI v')) a10' (upd a11 (s * 3 + m) (nI n)) a12 ∧ (∀ k, k < 12 → k % 3 = m → a8' k = -1 ∨ a8' k = nI s) := by
  obtain ⟨j1, j2, j3, j4⟩ := h
  obtain ⟨q1, q2, q3, q4⟩ := j4 hs
  subst hx
  have m8 : ∀ k, k < 12 → k % 3 = m → a8 k = -1 := by
    intro k hk h3
    rcases j1.2.1 k hk with z | ⟨t, ht, z, _⟩
    · exact z
    · exact absurd z (j3 k hk h3 t ht)
  have wv : ∀ k, k < 12 → k % 3 = m → v.testBit k = false := by
    intro k hk h3
    obtain ⟨w, hw, e9, hb⟩ := j1.2.2.1 s hs
    rw [h9] at e9
    have ev : v = w := (nI_eq (by omega) (by omega)).mp e9
    cases c : v.testBit k with
    | false => rfl
    | true =>
      rw [ev] at c
      have := hb k hk c
      rw [m8 k hk h3] at this
      exact absurd this.symm (tp_ne1 (by omega))
  refine ⟨⟨tp_C_hold j1 hs hm q1 h9 hv hv' (fun k hk h3 _ => Or.inl (m8 k hk h3)) k1 k2 k3 k4, fun m' hm' => ?_, fun _ => ⟨q1, fun k hk => ?_, fun m' hm' => ?_⟩⟩, fun k hk h3 => ?_⟩
  · unfold tp_up
    by_cases e : m' = m
    · subst e
      rw [if_pos rfl]
      obtain ⟨sz, s1, s2, s3, s4, s5, s6, s7⟩ := hD m' hm'
      rcases x23 with z | z
      · rw [z] at s2 s3 s5 e1 s7
        exact ⟨sz, s1, s2, s3, s4, s5, e1, fun _ => s7 (Or.inl rfl)⟩
      · rw [z] at s2 s3 s5 e1 s7
        exact ⟨sz, s1, s2, s3, s4, s5, e1, fun _ => s7 (Or.inr rfl)⟩
    · rw [if_neg e]
      exact tp_DS_cg (hD m' hm') (fun _ _ _ => rfl) rfl (fun _ _ => ⟨rfl, rfl, rfl, rfl⟩) (fun k hk h3 => e2 k hk (by omega))
  · by_cases c : k % 3 = m ∧ W k = true
    · exact Or.inr (by rw [k1 k hk c.1 c.2, hW k hk c.2])
    · rw [k2 k c]
      rcases j2 k hk with z | z
      · exact Or.inl z
      · rw [z]
        exact h80 k hk
  · unfold tp_up
    by_cases e : m' = m
    · subst e
      rw [if_pos rfl]
      refine ⟨fun k hk h3 => ⟨fun z => absurd z (by omega), fun _ hw => k1 k hk h3 hw, fun z => absurd z (by omega), fun _ => ⟨?_, fun hw => k5 k hk h3 hw⟩⟩, ?_, fun z => absurd z (by omega), fun z => absurd z (by omega)⟩
      · rw [pk_us, tp_wb_nI hv']
        have i3 := k3 k hk
        rw [wv k hk h3] at i3
        cases c : W k with
        | true => exact i3.mpr (Or.inr ⟨h3, c⟩)
        | false =>
          cases c2 : v'.testBit k with
          | false => rfl
          | true =>
            rcases i3.mp c2 with z | z
            · exact absurd z (by decide)
            · rw [c] at z
              exact absurd z.2 (by decide)
      · rw [pk_us]
        rfl
    · rw [if_neg e]
      refine tp_LS_cg (q2 m' hm' e) (fun k hk h3 => by rw [k2 k (fun z => by omega)]) (fun k hk h3 => ?_) (fun k hk h3 => k4 _ (fun k' hk' h3' _ => by omega)) (pk_un (by omega)) rfl
      rw [pk_us, tp_wb_nI hv', h9, tp_wb_nI hv]
      have i3 := k3 k hk
      cases c2 : v.testBit k with
      | true => exact i3.mpr (Or.inl c2)
      | false =>
        cases c3 : v'.testBit k with
        | false => rfl
        | true =>
          rcases i3.mp c3 with z | z
          · rw [c2] at z
            exact z.symm
          · exact absurd z.1 (by omega)
  · by_cases c : W k = true
    · exact Or.inr (k1 k hk h3 c)
    · rw [k2 k (fun z => c z.2)]
      exact Or.inl (m8 k hk h3)
theorem tp_opn0 {n x : Nat} (hn0 : 0 < n) (hn : n < 2 ^ 31) : tp_opn n x = 0 ↔ x ≠ 2 ∧ x ≠ 3 := by
  unfold tp_opn
  by_cases h : x = 2 ∨ x = 3
  · rw [if_pos h]
    exact ⟨fun z => absurd z (nI_ne0 hn0 hn), fun z => by omega⟩
  · rw [if_neg h]
    exact ⟨fun _ => by omega, fun _ => rfl⟩
theorem tp_breakDown {post : Int32 → St1 → Prop} {st vo he ns nm sl pa tr td hp cc fi wa se lo : Int32} {a1 a2 a3 a4 a5 a6 a7 a8 a9 a10 a11 a12 a13 a14 a15 a16 : Nat → Int32} {b d h0 : Nat → Int32} {W : Nat → Bool} {n s on m x' : Nat} {σ : Nat → Nat} (hm : m < 3) (hn0 : 0 < n) (hn : n < 2 ^ 31)
    (hc : (st = 0 ∧ s = 4 ∧ σ m = 0 ∧ x' = 0) ∨ (¬ st = 0 ∧ sl = nI s ∧ s < 4 ∧ x' = tp_bx pa m (σ m))) (hW : s < 4 → ∀ k, k < 12 → W k = true → h0 k = nI s) (hx : σ m < 6)
    (hpt : s < 4 → (((pa >>> (nI m &&& 31)) &&& 1) = 0 ↔ ¬ ∃ k, k < 12 ∧ k % 3 = m ∧ h0 k = nI s)) (hR : tp_RD b d h0 W n s σ on a1 a2 a3 a4 a5 a6 a7 a8 a9 a10 a11 a12)
    (H : ∀ r on' a7' a8' a9' a10' a11' a12', tp_RD b d h0 W n s (tp_up σ m x') on' a1 a2 a3 a4 a5 a6 a7' a8' a9' a10' a11' a12' → (∀ k, k < 12 → k % 3 = m → a8' k = -1 ∨ a8' k = nI s) →
      post r (nI on', st, vo, he, ns, nm, sl, pa, tr, td, hp, cc, fi, wa, se, lo, a1, a2, a3, a4, a5, a6, a7', a8', a9', a10', a11', a12', a13, a14, a15, a16)) : wpX_breakDown post (nI on, st, vo, he, ns, nm, sl, pa, tr, td, hp, cc, fi, wa, se, lo, a1, a2, a3, a4, a5, a6, a7, a8, a9, a10, a11, a12, a13, a14, a15, a16) (nI m) := by
  obtain ⟨hC, hD, hS⟩ := hR
  have h80 : s < 4 → ∀ k, k < 12 → a8 k = -1 ∨ a8 k = h0 k := fun hs => (hS hs).2.1
  have hs5 : s < 4 ∨ s = 4 := by
    rcases hc with z | z
    · exact Or.inr z.2.1
    · exact Or.inl z.2.2.1
  have hx' : s < 4 → x' = tp_bx pa m (σ m) := by
    intro hs
    rcases hc with z | z
    · omega
    · exact z.2.2.2
  refine tp_holdersOn hm (tp_C_HR hC) (fun w hw hb => ?_)
  refine pk_loop (σ := Int32 × Nat × (Nat → Int32) × (Nat → Int32) × (Nat → Int32) × (Nat → Int32)) (fun g t q => wX_breakDown_11 post (nI m) (nI w) g q.1 (nI t) (nI q.2.1) st vo he ns nm sl pa tr td hp cc fi wa se lo a1 a2 a3 a4 a5 a6 a7 q.2.2.1 q.2.2.2.1 a10 q.2.2.2.2.1 q.2.2.2.2.2 a13 a14 a15 a16)
    (fun t q => tp_BJ b d h0 a8 W n s σ m x' t q.2.1 q.2.2.1 q.2.2.2.1 a10 q.2.2.2.2.1 q.2.2.2.2.2) 4 0 (0, on, a8, a9, a11, a12) (by omega) ?_ ?_ ?_
  · exact ⟨hC, fun k hk => Or.inr rfl, fun k hk h3 t' ht' => absurd ht' (by omega), fun hs => ⟨(hS hs).1, fun m' hm' _ => (hS hs).2.2 m' hm', fun _ => ⟨(hS hs).2.2 m hm, fun k hk e => e⟩, fun z => absurd z (by omega)⟩⟩
  · intro g ⟨r, on', a8', a9', a11', a12'⟩ hJ
    have hJ' : tp_BJ b d h0 a8 W n s σ m x' 4 on' a8' a9' a10 a11' a12' := hJ
    refine pk_le 4 4 (fun _ => ?_) (fun z => absurd z (by omega))
    obtain ⟨sz, s1, s2, s3, s4, s5, s6, s7⟩ := hD m hm
    have hcap := tp_cap_le (σ m)
    refine tp_comeBack hm s1 (by omega) s4 s5 (fun hop a7' e1 e2 => ?_) (fun hop a7' e1 e2 ψ hψ => ?_)
    · obtain ⟨x2, x3⟩ := (tp_opn0 hn0 hn).mp hop
      have hxx : x' = σ m ∨ (σ m = 0 ∧ x' = 1) := by
        rcases hc with z | z
        · exact Or.inl (by omega)
        · have y := z.2.2.2
          unfold tp_bx at y
          by_cases c : σ m = 0
          · rw [if_pos c] at y
            by_cases c2 : ((pa >>> (nI m &&& 31)) &&& 1) = 0
            · rw [if_pos c2] at y
              exact Or.inl (by omega)
            · rw [if_neg c2] at y
              exact Or.inr ⟨c, y⟩
          · rw [if_neg c, if_neg x2] at y
            exact Or.inl y
      obtain ⟨R1, R2⟩ := tp_BJ_e0 hJ' hD h80 hm x2 x3 hxx e1 e2
      exact H r on' a7' a8' a9' a10 a11' a12' R1 R2
    · have x23 : σ m = 2 ∨ σ m = 3 := by
        by_cases c : σ m = 2
        · exact Or.inl c
        · by_cases c3 : σ m = 3
          · exact Or.inr c3
          · exact absurd ((tp_opn0 hn0 hn).mpr ⟨c, c3⟩) hop
      have hop' : tp_opn n (σ m) = nI n := if_pos x23
      rcases hc with z | ⟨z0, zl, hs, zx⟩
      · omega
      · obtain ⟨v, hv, h9, _⟩ := hJ'.1.2.2.1 s hs
        subst zl
        rw [hop']
        refine tp_holdLogged hm hs s1 (by omega) (s7 x23) h9 hv (fun a8'' v' a10'' hv' k1 k2 k3 k5 k4 => hψ _ ?_)
        have x3' : x' = 3 := by
          rw [zx]
          unfold tp_bx
          rw [if_neg (by omega)]
          by_cases c : σ m = 2
          · rw [if_pos c]
          · rw [if_neg c]
            omega
        obtain ⟨R1, R2⟩ := tp_BJ_e1 hJ' hD (h80 hs) (hW hs) hm hs x23 x3' e1 e2 h9 hv hv' k1 k2 k3 k5 k4
        exact H r on' a7' a8'' _ a10'' _ a12' R1 R2
  · intro g t ⟨r, on', a8', a9', a11', a12'⟩ ht hJ hw'
    have hJ' : tp_BJ b d h0 a8 W n s σ m x' t on' a8' a9' a10 a11' a12' := hJ
    refine pk_le 4 t (fun z => absurd z (by omega)) (fun _ => ?_)
    refine br_c (fun e => ?_) (fun e => ?_)
    · rw [tp_bit0 (by omega) (by omega)] at e
      have nh : ¬ ∃ k, k < 12 ∧ k % 3 = m ∧ a8 k = nI t := by
        rw [← hb t ht, e]
        decide
      exact nm_r (nI_1 t) (hw' (r, on', a8', a9', a11', a12') (tp_BJ_no hJ' nh ht hx hx' hpt))
    · rw [tp_bit0 (by omega) (by omega)] at e
      have yh : ∃ k, k < 12 ∧ k % 3 = m ∧ a8 k = nI t := by
        rw [← hb t ht]
        cases c : w.testBit t with
        | true => rfl
        | false => exact absurd c e
      obtain ⟨v, hv, h9, _⟩ := hJ'.1.2.2.1 t ht
      refine tp_releaseOn ht hm (tp_C_HR hJ'.1) h9 hv ?_
      have roll : t ≠ s → wX_breakDown_64 post (wX_breakDown_11 post (nI m) (nI w) g) (nI m) (nI w) r (nI t) (nI on') st vo he ns nm sl pa tr td hp cc fi wa se lo a1 a2 a3 a4 a5 a6 a7 (tp_ro a8' t m) (upd a9' t (nI (tp_cm v m 4))) a10 (upd a11' (t * 3 + m) 0) a12' a13 a14 a15 a16 := by
        intro hts
        refine tp_rollBack ht (tp_ro_HR (tp_C_HR hJ'.1)) pk_us (Nat.lt_of_le_of_lt (tp_cm_le _ _ _) hv) ?_
        rw [tp_rbro a8' ht, tp_uu, tp_p0u a11' hm]
        exact nm_e (nm_r (nI_1 t) (hw' (r + 1, tp_clr on' t, tp_rb a8' t, upd a9' t 0, tp_p0 a11' t, a12') (tp_BJ_rb hJ' ht hts hm)))
      refine br_c (fun e0 => ?_) (fun e0 => ?_)
      · rcases hc with z | z
        · exact roll (by omega)
        · exact absurd e0 z.1
      · rcases hc with z | ⟨z0, zl, hs, zx⟩
        · exact absurd z.1 e0
        · refine pk_eq t s (fun ets => ?_) (fun ets => roll ets) rfl zl
          subst ets
          refine ⟨pk_in (t * 3 + m) 12 (by omega) (tp_ix3 t m), nm_r (by rw [tp_ix3, nI_clamp (by omega)]) (nm_r (nI_1 t) ?_)⟩
          exact hw' (r, on', tp_ro a8' t m, upd a9' t (nI (tp_cm v m 4)), upd a11' (t * 3 + m) 0, upd a12' (t * 3 + m) 1) (tp_BJ_ro hJ' yh (h80 hs) hs hm h9 hv hx zx (hpt hs))
theorem tp_isOpen {post : Int32 → Prop} {st vo he ns nm sl pa tr td hp cc fi wa se lo : Int32} {a1 a2 a3 a4 a5 a6 a7 a8 a9 a10 a11 a12 a13 a14 a15 a16 : Nat → Int32} {on t : Nat} (ht : t < 4) (ho : on < 16) (H0 : on.testBit t = false → post 0) (H1 : on.testBit t = true → post 1) : wpX_isOpen post (nI on, st, vo, he, ns, nm, sl, pa, tr, td, hp, cc, fi, wa, se, lo, a1, a2, a3, a4, a5, a6, a7, a8, a9, a10, a11, a12, a13, a14, a15, a16) (nI t) := by
  refine pk_lt t 0 (fun z => absurd z (by omega)) (fun _ => pk_le 4 t (fun z => absurd z (by omega)) (fun _ => br_c (fun e => ?_) (fun e => ?_)))
  · rw [tp_bit0 (by omega) (by omega)] at e
    exact H0 e
  · rw [tp_bit0 (by omega) (by omega)] at e
    cases c : on.testBit t with
    | true => exact H1 c
    | false => exact absurd c e
theorem tp_breakLeader {post : Int32 → St1 → Prop} {st vo he ns nm sl pa tr td hp cc fi wa se lo : Int32} {a1 a2 a3 a4 a5 a6 a7 a8 a9 a10 a11 a12 a13 a14 a15 a16 : Nat → Int32} {b d h0 : Nat → Int32} {W : Nat → Bool} {n s on sz : Nat} {σ : Nat → Nat}
    (hc : (st = 0 ∧ s = 4) ∨ (¬ st = 0 ∧ sl = nI s ∧ s < 4)) (hR : tp_RD b d h0 W n s σ on a1 a2 a3 a4 a5 a6 a7 a8 a9 a10 a11 a12) (h2 : a2 3 = nI sz) (hsz : sz ≤ 64)
    (H : ∀ r on' a8' a9' a11', tp_RD b d h0 W n s σ on' a1 a2 a3 a4 a5 a6 a7 a8' a9' a10 a11' a12 → (s = 4 → on' = 0) →
      (st = 0 → post r (nI on', st, vo, he, ns, nm, sl, pa, tr, td, hp, cc, fi, wa, se, lo, a1, a2, a3, a4, a5, a6, a7, a8', a9', a10, a11', a12, a13, a14, a15, a16)) ∧ (¬ st = 0 → (∃ i, i < sz ∧ a3 (192 + i) = 5 ∧ a4 (192 + i) = nm) → post r (nI on', 2, 0, 0, ns, nm, sl, pa, tr, td, hp, cc, fi, wa, se, lo, a1, a2, a3, a4, a5, a6, a7, a8', a9', a10, a11', a12, a13, a14, a15, a16)) ∧
      (¬ st = 0 → ¬ (∃ i, i < sz ∧ a3 (192 + i) = 5 ∧ a4 (192 + i) = nm) → post r (nI on', 3, 0, 0, ns, nm, sl, pa, tr, td, hp, cc, fi, wa, se, lo, a1, a2, a3, a4, a5, a6, a7, a8', a9', a10, a11', a12, a13, a14, a15, a16))) : wpX_breakLeader post (nI on, st, vo, he, ns, nm, sl, pa, tr, td, hp, cc, fi, wa, se, lo, a1, a2, a3, a4, a5, a6, a7, a8, a9, a10, a11, a12, a13, a14, a15, a16) := by
  refine pk_loop (σ := Int32 × Nat × (Nat → Int32) × (Nat → Int32) × (Nat → Int32)) (fun g t q => wX_breakLeader_4 post g q.1 (nI t) (nI q.2.1) st vo he ns nm sl pa tr td hp cc fi wa se lo a1 a2 a3 a4 a5 a6 a7 q.2.2.1 q.2.2.2.1 a10 q.2.2.2.2 a12 a13 a14 a15 a16)
    (fun t q => tp_RD b d h0 W n s σ q.2.1 a1 a2 a3 a4 a5 a6 a7 q.2.2.1 q.2.2.2.1 a10 q.2.2.2.2 a12 ∧ ∀ t', t' < t → t' ≠ s → q.2.1.testBit t' = false) 4 0 (0, on, a8, a9, a11) (by omega) ⟨hR, fun t' ht' => absurd ht' (by omega)⟩ ?_ ?_
  · intro g ⟨r, on', a8', a9', a11'⟩ ⟨hR', hb⟩
    have hR2 : tp_RD b d h0 W n s σ on' a1 a2 a3 a4 a5 a6 a7 a8' a9' a10 a11' a12 := hR'
    have hb2 : ∀ t', t' < 4 → t' ≠ s → on'.testBit t' = false := hb
    have ho : on' < 16 := hR2.1.1
    have hz : s = 4 → on' = 0 := by
      intro hs
      apply Nat.eq_of_testBit_eq
      intro j
      rw [Nat.zero_testBit]
      by_cases hj : j < 4
      · exact hb2 j hj (by omega)
      · apply Nat.testBit_lt_two_pow
        have : 2 ^ 4 ≤ 2 ^ j := Nat.pow_le_pow_right (by omega) (by omega)
        omega
    obtain ⟨H1, H2, H3⟩ := H r on' a8' a9' a11' hR2 hz
    refine pk_le 4 4 (fun _ => br_c (fun e => H1 e) (fun e => ?_)) (fun z => absurd z (by omega))
    exact tp_isLogged h2 hsz (fun z => br_f (by decide) (H2 e z)) (fun z => br_t rfl (H3 e z))
  · intro g t ⟨r, on', a8', a9', a11'⟩ ht ⟨hR', hb⟩ hw
    have hR2 : tp_RD b d h0 W n s σ on' a1 a2 a3 a4 a5 a6 a7 a8' a9' a10 a11' a12 := hR'
    have hb2 : ∀ t', t' < t → t' ≠ s → on'.testBit t' = false := hb
    have ho : on' < 16 := hR2.1.1
    have roll : t ≠ s → wX_breakLeader_32 post (wX_breakLeader_4 post g) r (nI t) (nI on') st vo he ns nm sl pa tr td hp cc fi wa se lo a1 a2 a3 a4 a5 a6 a7 a8' a9' a10 a11' a12 a13 a14 a15 a16 := by
      intro hts
      obtain ⟨v, hv, h9, _⟩ := hR2.1.2.2.1 t ht
      refine tp_rollBack ht (tp_C_HR hR2.1) h9 hv ?_
      refine nm_e (nm_r (nI_1 t) (hw (r + 1, tp_clr on' t, tp_rb a8' t, upd a9' t 0, tp_p0 a11' t) ⟨tp_RD_rb hR2 ht hts, fun t' ht' hn' => ?_⟩))
      show (tp_clr on' t).testBit t' = false
      rw [tp_clr_b (by omega)]
      by_cases e : t' = t
      · rw [decide_eq_false (fun z => z e), Bool.and_false]
      · rw [hb2 t' (by omega) hn', Bool.false_and]
    have nxt : (t ≠ s → on'.testBit t = false) → wX_breakLeader_4 post g r (nI (t + 1)) (nI on') st vo he ns nm sl pa tr td hp cc fi wa se lo a1 a2 a3 a4 a5 a6 a7 a8' a9' a10 a11' a12 a13 a14 a15 a16 := by
      intro hh
      refine hw (r, on', a8', a9', a11') ⟨hR2, fun t' ht' hn' => ?_⟩
      by_cases e : t' = t
      · rw [e] at hn' ⊢
        exact hh hn'
      · exact hb2 t' (by omega) hn'
    refine pk_le 4 t (fun z => absurd z (by omega)) (fun _ => tp_isOpen ht ho (fun e => br_t rfl (nm_r (nI_1 t) (nxt (fun _ => e)))) (fun e => br_f (by decide) (br_c (fun e0 => ?_) (fun e0 => ?_))))
    · rcases hc with z | z
      · exact roll (by omega)
      · exact absurd e0 z.1
    · rcases hc with z | ⟨z0, zl, hs⟩
      · exact absurd z.1 e0
      · exact pk_eq t s (fun ets => nm_r (nI_1 t) (nxt (fun z => absurd ets z))) (fun ets => roll ets) rfl zl
end
section
/-! 09: what a machine writes down: promise, done, undone -/
def tp_K (b d h0 : Nat → Int32) (W : Nat → Bool) (n s : Nat) (pa : Int32) : Prop :=
  0 < n ∧ n < 2 ^ 31 ∧ s < 4 ∧ (∀ k, k < 12 → W k = true → h0 k = nI s) ∧ (∀ k, k < 12 → W k = false → d k = b k) ∧ (∀ m, m < 3 → (((pa >>> (nI m &&& 31)) &&& 1) = 0 ↔ ¬ ∃ k, k < 12 ∧ k % 3 = m ∧ h0 k = nI s))
theorem tp_PA_W {K T Y V : Nat → Int32} {g m sz : Nat} {tr : Int32} {W W' : Nat → Bool} {d : Nat → Int32} (h : tp_PA K T Y V g m sz tr W d) (e : ∀ k, k < 12 → k % 3 = m → W' k = W k) : tp_PA K T Y V g m sz tr W' d := by
  refine ⟨fun i hi z1 z2 => ?_, fun k hk h3 hw => h.2 k hk h3 (by rw [← e k hk h3]; exact hw)⟩
  obtain ⟨k, hk, h3, hw, y, v⟩ := h.1 i hi z1 z2
  exact ⟨k, hk, h3, by rw [e k hk h3]; exact hw, y, v⟩
/-- an entry of another kind behind -/
theorem tp_PA_more {K T Y V : Nat → Int32} {g m sz : Nat} {tr x ky v kd : Int32} {W : Nat → Bool} {d : Nat → Int32} (h : tp_PA K T Y V g m sz tr W d) (hk : kd ≠ 1) :
    tp_PA (upd K (g + sz) kd) (upd T (g + sz) x) (upd Y (g + sz) ky) (upd V (g + sz) v) g m (sz + 1) tr W d := by
  refine ⟨fun i hi z1 z2 => ?_, fun k hk3 h3 hw => ?_⟩
  · by_cases e : i = sz
    · rw [e, pk_us] at z1
      exact absurd z1 hk
    · rw [pk_un (by omega)] at z1 z2
      rw [pk_un (by omega), pk_un (by omega)]
      exact h.1 i (by omega) z1 z2
  · obtain ⟨i, hi, z1, z2, z3⟩ := h.2 k hk3 h3 hw
    refine ⟨i, by omega, ?_, ?_, ?_⟩
    · rw [pk_un (by omega), z1]
    · rw [pk_un (by omega), z2]
    · rw [pk_un (by omega), z3]
/-- an entry that writes behind -/
theorem tp_PA_add {K T Y V : Nat → Int32} {g m sz k0 : Nat} {tr : Int32} {W W' : Nat → Bool} {d : Nat → Int32} (h : tp_PA K T Y V g m sz tr W d) (hk0 : k0 < 12) (h30 : k0 % 3 = m) (w0 : W' k0 = true)
    (e1 : ∀ k, k < 12 → W k = true → W' k = true) (e2 : ∀ k, k < 12 → k % 3 = m → W' k = true → k = k0 ∨ W k = true) :
    tp_PA (upd K (g + sz) 1) (upd T (g + sz) tr) (upd Y (g + sz) (nI k0)) (upd V (g + sz) (d k0)) g m (sz + 1) tr W' d := by
  refine ⟨fun i hi z1 z2 => ?_, fun k hk3 h3 hw => ?_⟩
  · by_cases e : i = sz
    · rw [e, pk_us, pk_us]
      exact ⟨k0, hk0, h30, w0, rfl, rfl⟩
    · rw [pk_un (by omega)] at z1 z2
      rw [pk_un (by omega), pk_un (by omega)]
      obtain ⟨k, hk, h3, hw, y, v⟩ := h.1 i (by omega) z1 z2
      exact ⟨k, hk, h3, e1 k hk hw, y, v⟩
  · rcases e2 k hk3 h3 hw with e | e
    · subst e
      exact ⟨sz, by omega, pk_us, pk_us, pk_us⟩
    · obtain ⟨i, hi, z1, z2, z3⟩ := h.2 k hk3 h3 e
      refine ⟨i, by omega, ?_, ?_, ?_⟩
      · rw [pk_un (by omega), z1]
      · rw [pk_un (by omega), z2]
      · rw [pk_un (by omega), z3]
theorem tp_KO_add {K Y : Nat → Int32} {g m sz : Nat} {kd ky : Int32} (h : tp_KO K Y g m sz) (hk : kd = 1 → ∃ k, k < 12 ∧ k % 3 = m ∧ ky = nI k) : tp_KO (upd K (g + sz) kd) (upd Y (g + sz) ky) g m (sz + 1) := by
  intro i hi z
  by_cases e : i = sz
  · rw [e, pk_us] at z
    rw [e, pk_us]
    exact hk z
  · rw [pk_un (by omega)] at z ⊢
    exact h i (by omega) z
theorem tp_T_add {T : Nat → Int32} {g sz n : Nat} (h : ∀ i, i < sz → ∃ c, c ≤ n ∧ T (g + i) = nI c) : ∀ i, i < sz + 1 → ∃ c, c ≤ n ∧ upd T (g + sz) (nI n) (g + i) = nI c := by
  intro i hi
  by_cases e : i = sz
  · rw [e, pk_us]
    exact ⟨n, Nat.le_refl n, rfl⟩
  · rw [pk_un (by omega)]
    exact h i (by omega)
/-- while a promise is written: i keys are through -/
def tp_PJ (b d : Nat → Int32) (W : Nat → Bool) (n m i : Nat) (a1 a2 a3 a4 a5 a6 b2 b3 b4 b5 b6 : Nat → Int32) : Prop :=
  (∀ j, j ≠ m → b2 j = a2 j) ∧ (∀ j, j < m * 64 ∨ m * 64 + 64 ≤ j → b3 j = a3 j ∧ b4 j = a4 j ∧ b5 j = a5 j ∧ b6 j = a6 j) ∧
  ∃ sz, b2 m = nI sz ∧ sz ≤ 40 + i ∧ (∀ e, e < sz → ∃ c, c ≤ n ∧ b4 (m * 64 + e) = nI c) ∧ tp_KO b3 b5 (m * 64) m sz ∧ tp_RP b3 b4 b5 b6 (m * 64) m sz a1 b 0 ∧
    (∀ e, e < sz → b3 (m * 64 + e) = 3 → b4 (m * 64 + e) ≠ nI n) ∧ tp_PA b3 b4 b5 b6 (m * 64) m sz (nI n) (fun k => W k && decide (k < m + 3 * i)) d
theorem tp_PJ_0 {b d a1 a2 a3 a4 a5 a6 a7 : Nat → Int32} {W : Nat → Bool} {n m : Nat} (hm : m < 3) (hn : n < 2 ^ 31) (h : tp_DS b d W n 0 m a1 a2 a3 a4 a5 a6 a7) : tp_PJ b d W n m 0 a1 a2 a3 a4 a5 a6 a2 a3 a4 a5 a6 := by
  obtain ⟨sz, s1, s2, s3, s4, s5, s6, s7⟩ := h
  have s2' : sz ≤ 40 := s2
  have s3' : ∀ i, i < sz → ∃ c, c < n ∧ a4 (m * 64 + i) = nI c := s3
  have ne : ∀ e, e < sz → a4 (m * 64 + e) ≠ nI n := by
    intro e he z
    obtain ⟨c, hc, ec⟩ := s3' e he
    rw [ec, nI_eq (by omega) (by omega)] at z
    omega
  refine ⟨fun _ _ => rfl, fun _ _ => ⟨rfl, rfl, rfl, rfl⟩, sz, s1, by omega, fun e he => ?_, s4, s5, fun e he _ => ne e he, fun e he _ z => absurd z (ne e he), fun k hk h3 hw => ?_⟩
  · obtain ⟨c, hc, ec⟩ := s3' e he
    exact ⟨c, by omega, ec⟩
  · rw [Bool.and_eq_true, decide_eq_true_iff] at hw
    omega
theorem tp_PJ_no {b d a1 a2 a3 a4 a5 a6 b2 b3 b4 b5 b6 : Nat → Int32} {W : Nat → Bool} {n m i : Nat} (h : tp_PJ b d W n m i a1 a2 a3 a4 a5 a6 b2 b3 b4 b5 b6) (hw : W (m + 3 * i) = false) : tp_PJ b d W n m (i + 1) a1 a2 a3 a4 a5 a6 b2 b3 b4 b5 b6 := by
  obtain ⟨p1, p2, sz, s1, s2, s3, s4, s5, s6, s7⟩ := h
  refine ⟨p1, p2, sz, s1, by omega, s3, s4, s5, s6, tp_PA_W s7 (fun k hk h3 => ?_)⟩
  show (W k && decide (k < m + 3 * (i + 1))) = (W k && decide (k < m + 3 * i))
  by_cases e : k = m + 3 * i
  · rw [e, hw, Bool.false_and, Bool.false_and]
  · congr 1
    exact decide_eq_decide.mpr (by omega)
theorem tp_PJ_yes {b d a1 a2 a3 a4 a5 a6 b2 b3 b4 b5 b6 : Nat → Int32} {W : Nat → Bool} {n m i sz : Nat} (h : tp_PJ b d W n m i a1 a2 a3 a4 a5 a6 b2 b3 b4 b5 b6) (hm : m < 3) (hi : i < 4) (hw : W (m + 3 * i) = true) (hsz : b2 m = nI sz) (hsz2 : sz < 64) :
    tp_PJ b d W n m (i + 1) a1 a2 a3 a4 a5 a6 (upd b2 m (nI (sz + 1))) (upd b3 (m * 64 + sz) 1) (upd b4 (m * 64 + sz) (nI n)) (upd b5 (m * 64 + sz) (nI (m + 3 * i))) (upd b6 (m * 64 + sz) (d (m + 3 * i))) := by
  obtain ⟨p1, p2, sz', s1, s2, s3, s4, s5, s6, s7⟩ := h
  have es : sz' = sz := by
    rw [hsz] at s1
    exact ((nI_eq (by omega) (by omega)).mp s1).symm
  subst es
  refine ⟨fun j hj => by rw [pk_un hj, p1 j hj], fun j hj => ?_, sz' + 1, pk_us, by omega, tp_T_add s3, tp_KO_add s4 (fun _ => ⟨m + 3 * i, by omega, by omega, rfl⟩), tp_RP_write s5 s6, fun e he z => ?_, tp_PA_add s7 (by omega) (by omega) ?_ (fun k hk z => ?_) (fun k hk h3 z => ?_)⟩
  · rw [pk_un (by omega), pk_un (by omega), pk_un (by omega), pk_un (by omega)]
    exact p2 j hj
  · by_cases ee : e = sz'
    · rw [ee, pk_us] at z
      exact absurd z (by decide)
    · rw [pk_un (by omega)] at z ⊢
      exact s6 e (by omega) z
  · show (W (m + 3 * i) && decide (m + 3 * i < m + 3 * (i + 1))) = true
    rw [hw, decide_eq_true (by omega)]
    rfl
  · have z' : (W k && decide (k < m + 3 * i)) = true := z
    rw [Bool.and_eq_true, decide_eq_true_iff] at z'
    show (W k && decide (k < m + 3 * (i + 1))) = true
    rw [z'.1, decide_eq_true (by omega)]
    rfl
  · have z' : (W k && decide (k < m + 3 * (i + 1))) = true := z
    rw [Bool.and_eq_true, decide_eq_true_iff] at z'
    by_cases e : k = m + 3 * i
    · exact Or.inl e
    · refine Or.inr ?_
      show (W k && decide (k < m + 3 * i)) = true
      rw [z'.1, decide_eq_true (by omega)]
      rfl
theorem tp_PJ_end {b d h0 a1 a2 a3 a4 a5 a6 a7 a8 a9 a10 a11 a12 b2 b3 b4 b5 b6 : Nat → Int32} {W : Nat → Bool} {n s m sz on : Nat} {σ : Nat → Nat} (h : tp_PJ b d W n m 4 a1 a2 a3 a4 a5 a6 b2 b3 b4 b5 b6) (hm : m < 3) (hs : s < 4) (hx : σ m = 0) (hsz : b2 m = nI sz) (hsz2 : sz < 64)
    (hR : tp_RD b d h0 W n s σ on a1 a2 a3 a4 a5 a6 a7 a8 a9 a10 a11 a12) :
    tp_RD b d h0 W n s (tp_up σ m 2) on a1 (upd b2 m (nI (sz + 1))) (upd b3 (m * 64 + sz) 2) (upd b4 (m * 64 + sz) (nI n)) (upd b5 (m * 64 + sz) 0) (upd b6 (m * 64 + sz) 0) a7 a8 a9 a10 (upd a11 (s * 3 + m) (nI n)) a12 := by
  obtain ⟨p1, p2, sz', s1, s2, s3, s4, s5, s6, s7⟩ := h
  have es : sz' = sz := by
    rw [hsz] at s1
    exact ((nI_eq (by omega) (by omega)).mp s1).symm
  subst es
  obtain ⟨hC, hD, hS⟩ := hR
  obtain ⟨q1, q2, q3⟩ := hS hs
  refine ⟨tp_C_prom hC hm, fun m' hm' => ?_, fun _ => ⟨q1, q2, fun m' hm' => ?_⟩⟩
  · unfold tp_up
    by_cases e : m' = m
    · subst e
      rw [if_pos rfl]
      obtain ⟨_, _, _, _, _, _, g6, _⟩ := hD m' hm'
      rw [hx] at g6
      refine ⟨sz' + 1, pk_us, show sz' + 1 ≤ 45 by omega, tp_T_add s3, tp_KO_add s4 (fun z => absurd z (by decide)), tp_RP_prom s5, g6, fun _ => ?_⟩
      refine tp_PA_more (tp_PA_W s7 (fun k hk h3 => ?_)) (by decide)
      rw [decide_eq_true (by omega), Bool.and_true]
    · rw [if_neg e]
      refine tp_DS_cg (hD m' hm') (fun _ _ _ => rfl) (by rw [pk_un e, p1 m' e]) (fun i hi => ?_) (fun _ _ _ => rfl)
      rw [pk_un (by omega), pk_un (by omega), pk_un (by omega), pk_un (by omega)]
      exact p2 (m' * 64 + i) (by omega)
  · unfold tp_up
    by_cases e : m' = m
    · subst e
      rw [if_pos rfl]
      have L := q3 m' hm'
      rw [hx] at L
      obtain ⟨l1, l2, l3, l4⟩ := L
      refine ⟨fun k hk h3 => ?_, by rw [pk_us]; rfl, fun _ => l3 (Or.inl rfl), fun z => absurd z (by omega)⟩
      obtain ⟨g1, g2, g3, g4⟩ := l1 k hk h3
      exact ⟨fun _ => g1 (Or.inl rfl), fun _ => g2 (Or.inl rfl), fun z => absurd z (by omega), fun _ => g4 (Or.inl rfl)⟩
    · rw [if_neg e]
      exact tp_LS_cg (q3 m' hm') (fun _ _ _ => Iff.rfl) (fun _ _ _ => rfl) (fun _ _ _ => rfl) (pk_un (by omega)) rfl
theorem tp_hasWritten {post : Int32 → Prop} {o st vo he ns nm sl pa tr td hp cc fi wa se lo : Int32} {a1 a2 a3 a4 a5 a6 a7 a8 a9 a10 a11 a12 a13 a14 a15 a16 : Nat → Int32} {t k v : Nat} (ht : t < 4) (hk : k < 12) (h9 : a9 t = nI v) (hv : v < 4096) (H0 : v.testBit k = false → post 0) (H1 : v.testBit k = true → post 1) : wpX_hasWritten post (o, st, vo, he, ns, nm, sl, pa, tr, td, hp, cc, fi, wa, se, lo, a1, a2, a3, a4, a5, a6, a7, a8, a9, a10, a11, a12, a13, a14, a15, a16) (nI t) (nI k) := by
  refine ⟨pk_in t 4 ht, ?_⟩
  rw [nI_clamp (show t < 2 ^ 31 by omega), h9]
  refine br_c (fun e => ?_) (fun e => ?_)
  · rw [tp_bit0 (by omega) (by omega)] at e
    exact H0 e
  · rw [tp_bit0 (by omega) (by omega)] at e
    cases c : v.testBit k with
    | true => exact H1 c
    | false => exact absurd c e
theorem tp_promiseOn {post : St1 → Prop} {st vo he ns pa tr td hp cc fi wa se lo : Int32} {a1 a2 a3 a4 a5 a6 a7 a8 a9 a10 a11 a12 a13 a14 a15 a16 : Nat → Int32} {b d h0 : Nat → Int32} {W : Nat → Bool} {n s on m : Nat} {σ : Nat → Nat} (hm : m < 3) (hs : s < 4) (hn : n < 2 ^ 31) (hx : σ m = 0) (hR : tp_RD b d h0 W n s σ on a1 a2 a3 a4 a5 a6 a7 a8 a9 a10 a11 a12)
    (H : ∀ b2 b3 b4 b5 b6, b2 3 = a2 3 → (∀ j, 192 ≤ j → b3 j = a3 j ∧ b4 j = a4 j) → tp_RD b d h0 W n s (tp_up σ m 2) on a1 b2 b3 b4 b5 b6 a7 a8 a9 a10 (upd a11 (s * 3 + m) (nI n)) a12 →
      post (nI on, st, vo, he, ns, nI n, nI s, pa, tr, td, hp, cc, fi, wa, se, lo, a1, b2, b3, b4, b5, b6, a7, a8, a9, a10, upd a11 (s * 3 + m) (nI n), a12, a13, a14, a15, a16)) : wpX_promiseOn post (nI on, st, vo, he, ns, nI n, nI s, pa, tr, td, hp, cc, fi, wa, se, lo, a1, a2, a3, a4, a5, a6, a7, a8, a9, a10, a11, a12, a13, a14, a15, a16) (nI m) := by
  have D := hR.2.1 m hm
  rw [hx] at D
  have L := (hR.2.2 hs).2.2 m hm
  rw [hx] at L
  obtain ⟨v, hv, h9, _⟩ := hR.1.2.2.1 s hs
  refine pk_loop (σ := (Nat → Int32) × (Nat → Int32) × (Nat → Int32) × (Nat → Int32) × (Nat → Int32)) (fun g i q => wX_promiseOn_2 post (nI m) g (nI (m + 3 * i)) (nI on) st vo he ns (nI n) (nI s) pa tr td hp cc fi wa se lo a1 q.1 q.2.1 q.2.2.1 q.2.2.2.1 q.2.2.2.2 a7 a8 a9 a10 a11 a12 a13 a14 a15 a16)
    (fun i q => tp_PJ b d W n m i a1 a2 a3 a4 a5 a6 q.1 q.2.1 q.2.2.1 q.2.2.2.1 q.2.2.2.2) 4 0 (a2, a3, a4, a5, a6) (by omega) (tp_PJ_0 hm hn D) ?_ ?_
  · intro g ⟨b2, b3, b4, b5, b6⟩ hJ
    have hJ' : tp_PJ b d W n m 4 a1 a2 a3 a4 a5 a6 b2 b3 b4 b5 b6 := hJ
    obtain ⟨sz, s1, s2⟩ := hJ'.2.2
    have s2' : sz ≤ 44 := s2.1
    refine pk_le 12 (m + 3 * 4) (fun _ => ?_) (fun z => absurd z (by omega))
    refine tp_log (kd := 2) (ky := 0) (by omega) (by omega) (by omega) s1 (by omega) ?_
    refine ⟨pk_in (s * 3 + m) 12 (by omega) (tp_ix3 s m), nm_r (by rw [tp_ix3, nI_clamp (by omega)]) ?_⟩
    refine H _ _ _ _ _ ?_ (fun j hj => ?_) (tp_PJ_end hJ' hm hs hx s1 (by omega) hR)
    · rw [pk_un (by omega)]
      exact hJ'.1 3 (by omega)
    · rw [pk_un (by omega), pk_un (by omega)]
      have := hJ'.2.1 j (by omega)
      exact ⟨this.1, this.2.1⟩
  · intro g i ⟨b2, b3, b4, b5, b6⟩ hi hJ hw
    have hJ' : tp_PJ b d W n m i a1 a2 a3 a4 a5 a6 b2 b3 b4 b5 b6 := hJ
    obtain ⟨sz, s1, s2⟩ := hJ'.2.2
    have s2' : sz ≤ 40 + i := s2.1
    obtain ⟨g1, g2, g3, g4⟩ := L.1 (m + 3 * i) (by omega) (by omega)
    obtain ⟨w1, w2⟩ := g4 (Or.inl rfl)
    rw [h9, tp_wb_nI hv] at w1
    refine pk_le 12 (m + 3 * i) (fun z => absurd z (by omega)) (fun _ => ?_)
    refine tp_hasWritten hs (by omega) h9 hv (fun e => br_t rfl (nm_r (tp_p3 m i) ?_)) (fun e => br_f (by decide) ⟨pk_in (s * 12 + (m + 3 * i)) 48 (by omega) (tp_ix12 s _), ?_⟩)
    · exact hw (b2, b3, b4, b5, b6) (tp_PJ_no hJ' (by rw [← w1, e]))
    · rw [tp_ix12, nI_clamp (show s * 12 + (m + 3 * i) < 2 ^ 31 by omega), w2 (by rw [← w1, e])]
      refine tp_log (kd := 1) (ky := m + 3 * i) (by omega) (by omega) (by omega) s1 (by omega) (nm_r (tp_p3 m i) ?_)
      exact hw (_, _, _, _, _) (tp_PJ_yes hJ' hm hi (by rw [← w1, e]) s1 (by omega))
/-- s lets go on machine m, which is through -/
theorem tp_RD_rel {b d h0 a1 a2 a3 a4 a5 a6 a7 b2 b3 b4 b5 b6 b7 a8 a9 a10 a11 a12 : Nat → Int32} {W : Nat → Bool} {n s m x v on : Nat} {σ : Nat → Nat} (hR : tp_RD b d h0 W n s σ on a1 a2 a3 a4 a5 a6 a7 a8 a9 a10 a11 a12) (hm : m < 3) (hs : s < 4) (hx : x = 4 ∨ x = 5) (h9 : a9 s = nI v) (hv : v < 4096)
    (hD : ∀ m', m' < 3 → tp_DS b d W n (tp_up σ m x m') m' a1 b2 b3 b4 b5 b6 b7) :
    tp_RD b d h0 W n s (tp_up σ m x) on a1 b2 b3 b4 b5 b6 b7 (tp_ro a8 s m) (upd a9 s (nI (tp_cm v m 4))) a10 (upd a11 (s * 3 + m) 0) a12 := by
  obtain ⟨hC, _, hS⟩ := hR
  obtain ⟨q1, q2, q3⟩ := hS hs
  refine ⟨tp_C_ro hC hs hm h9 hv, hD, fun _ => ⟨q1, fun k hk => ?_, fun m' hm' => ?_⟩⟩
  · by_cases e : a8 k = nI s ∧ k % 3 = m
    · exact Or.inl (tp_ro_t hk e.2 e.1)
    · have e' : a8 k ≠ nI s ∨ k % 3 ≠ m := by
        by_cases z : a8 k = nI s
        · exact Or.inr (fun z2 => e ⟨z, z2⟩)
        · exact Or.inl z
      rw [tp_ro_f e']
      exact q2 k hk
  · unfold tp_up
    by_cases e : m' = m
    · subst e
      rw [if_pos rfl]
      refine ⟨fun k hk h3 => ⟨fun z => absurd z (by omega), fun z => absurd z (by omega), fun _ => ?_, fun z => absurd z (by omega)⟩, ?_, fun z => absurd z (by omega), fun z => absurd z (by omega)⟩
      · by_cases e : a8 k = nI s
        · rw [tp_ro_t hk h3 e]
          exact (tp_ne1 (by omega)).symm
        · rw [tp_ro_f (Or.inl e)]
          exact e
      · rw [pk_us]
        exact (if_neg (by omega)).symm
    · rw [if_neg e]
      exact tp_LS_ro (q3 m' hm') hs hm hm' e h9 hv
/-- the disks when machine m has written that it is done -/
theorem tp_DS_done {b d a1 a2 a3 a4 a5 a6 a7 : Nat → Int32} {W : Nat → Bool} {n m sz : Nat} {σ : Nat → Nat} (hD : ∀ m, m < 3 → tp_DS b d W n (σ m) m a1 a2 a3 a4 a5 a6 a7) (hm : m < 3) (hx : σ m = 2 ∨ σ m = 3) (hsz : a2 m = nI sz) (hsz2 : sz < 64) (hd : ∀ k, k < 12 → W k = false → d k = b k) :
    ∀ m', m' < 3 → tp_DS b d W n (tp_up σ m 4 m') m' a1 (upd a2 m (nI (sz + 1))) (upd a3 (m * 64 + sz) 3) (upd a4 (m * 64 + sz) (nI n)) (upd a5 (m * 64 + sz) 0) (upd a6 (m * 64 + sz) 0)
      (tp_app (upd a3 (m * 64 + sz) 3) (upd a4 (m * 64 + sz) (nI n)) (upd a5 (m * 64 + sz) 0) (upd a6 (m * 64 + sz) 0) (m * 64) (nI n) a7 (sz + 1)) := by
  obtain ⟨sz', s1, s2, s3, s4, s5, s6, s7⟩ := hD m hm
  have hcap := tp_cap_le (σ m)
  have es : sz' = sz := by
    rw [hsz] at s1
    exact ((nI_eq (by omega) (by omega)).mp s1).symm
  subst es
  have PA := s7 hx
  have PA' : tp_PA (upd a3 (m * 64 + sz') 3) (upd a4 (m * 64 + sz') (nI n)) (upd a5 (m * 64 + sz') 0) (upd a6 (m * 64 + sz') 0) (m * 64) m (sz' + 1) (nI n) W d := tp_PA_more PA (by decide)
  obtain ⟨w1, w2⟩ := tp_app_PA PA' a7
  have x2 : ¬ σ m < 2 := by omega
  have x4 : ¬ σ m = 4 := by omega
  have c45 : tp_cap (σ m) = 45 := by
    unfold tp_cap
    rw [if_neg x2, if_pos (by omega)]
  have nb : tp_nm b d (σ m) = b := if_neg x4
  rw [nb] at s5 s6
  intro m' hm'
  unfold tp_up
  by_cases e : m' = m
  · subst e
    rw [if_pos rfl]
    refine ⟨sz' + 1, pk_us, show sz' + 1 ≤ 46 by omega, ?_, tp_KO_add s4 (fun z => absurd z (by decide)), tp_RP_done s5 PA hd, fun k hk h3 => ?_, fun z => absurd z (by omega)⟩
    · refine tp_T_add (fun i hi => ?_)
      obtain ⟨c, hc, ec⟩ := s3 i hi
      rw [if_neg x2] at hc
      exact ⟨c, hc, ec⟩
    · show _ = d k
      cases c : W k with
      | true => exact w1 k hk h3 c
      | false => rw [w2 k (fun z => by rw [c] at z; exact absurd z.2 (by decide)), s6 k hk h3, hd k hk c]
  · rw [if_neg e]
    exact tp_DS_cg (hD m' hm') (fun _ _ _ => rfl) (pk_un e) (tp_ag_far (by omega)) (fun k hk h3 => w2 k (fun z => by omega))
theorem tp_DS_undone {b d a1 a2 a3 a4 a5 a6 a7 : Nat → Int32} {W : Nat → Bool} {n m sz : Nat} {σ : Nat → Nat} (hD : ∀ m, m < 3 → tp_DS b d W n (σ m) m a1 a2 a3 a4 a5 a6 a7) (hm : m < 3) (hx : σ m = 2 ∨ σ m = 3) (hsz : a2 m = nI sz) (hsz2 : sz < 64) :
    ∀ m', m' < 3 → tp_DS b d W n (tp_up σ m 5 m') m' a1 (upd a2 m (nI (sz + 1))) (upd a3 (m * 64 + sz) 4) (upd a4 (m * 64 + sz) (nI n)) (upd a5 (m * 64 + sz) 0) (upd a6 (m * 64 + sz) 0) a7 := by
  obtain ⟨sz', s1, s2, s3, s4, s5, s6, s7⟩ := hD m hm
  have hcap := tp_cap_le (σ m)
  have es : sz' = sz := by
    rw [hsz] at s1
    exact ((nI_eq (by omega) (by omega)).mp s1).symm
  subst es
  have x2 : ¬ σ m < 2 := by omega
  have x4 : ¬ σ m = 4 := by omega
  have c45 : tp_cap (σ m) = 45 := by
    unfold tp_cap
    rw [if_neg x2, if_pos (by omega)]
  have nb : tp_nm b d (σ m) = b := if_neg x4
  rw [nb] at s5 s6
  intro m' hm'
  unfold tp_up
  by_cases e : m' = m
  · subst e
    rw [if_pos rfl]
    refine ⟨sz' + 1, pk_us, show sz' + 1 ≤ 46 by omega, ?_, tp_KO_add s4 (fun z => absurd z (by decide)), tp_RP_undo s5, s6, fun z => absurd z (by omega)⟩
    refine tp_T_add (fun i hi => ?_)
    obtain ⟨c, hc, ec⟩ := s3 i hi
    rw [if_neg x2] at hc
    exact ⟨c, hc, ec⟩
  · rw [if_neg e]
    exact tp_DS_cg (hD m' hm') (fun _ _ _ => rfl) (pk_un e) (tp_ag_far (by omega)) (fun _ _ _ => rfl)
theorem tp_DS_never {b d a1 a2 a3 a4 a5 a6 a7 : Nat → Int32} {W : Nat → Bool} {n m : Nat} {σ : Nat → Nat} (hD : ∀ m, m < 3 → tp_DS b d W n (σ m) m a1 a2 a3 a4 a5 a6 a7) (hm : m < 3) (hx : σ m = 0 ∨ σ m = 1 ∨ σ m = 5) :
    ∀ m', m' < 3 → tp_DS b d W n (tp_up σ m 5 m') m' a1 a2 a3 a4 a5 a6 a7 := by
  intro m' hm'
  unfold tp_up
  by_cases e : m' = m
  · subst e
    rw [if_pos rfl]
    obtain ⟨sz, s1, s2, s3, s4, s5, s6, s7⟩ := hD m' hm'
    have hcap := tp_cap_le (σ m')
    have nb : tp_nm b d (σ m') = b := if_neg (by omega)
    have no : tp_opn n (σ m') = 0 := if_neg (by omega)
    rw [nb] at s5 s6
    rw [no] at s5
    refine ⟨sz, s1, show sz ≤ 46 by omega, fun i hi => ?_, s4, s5, s6, fun z => absurd z (by omega)⟩
    obtain ⟨c, hc, ec⟩ := s3 i hi
    refine ⟨c, show c ≤ n from ?_, ec⟩
    by_cases z : σ m' < 2
    · rw [if_pos z] at hc
      omega
    · rw [if_neg z] at hc
      exact hc
  · rw [if_neg e]
    exact hD m' hm'
end
section
/-! 10: the state matches the machine of the messages: each handler -/
def tp_LL (n : Nat) (st : Int32) (a2 a3 a4 : Nat → Int32) : Prop :=
  ∃ sz, a2 3 = nI sz ∧ sz ≤ 41 ∧ (¬ st = 2 → sz ≤ 40) ∧ (∀ i, i < sz → ∃ c, c ≤ n ∧ a4 (192 + i) = nI c) ∧ ((∃ i, i < sz ∧ a3 (192 + i) = 5 ∧ a4 (192 + i) = nI n) ↔ st = 2)
theorem tp_LL_cg {n : Nat} {st : Int32} {a2 a3 a4 b2 b3 b4 : Nat → Int32} (h : tp_LL n st a2 a3 a4) (e2 : b2 3 = a2 3) (e : ∀ j, 192 ≤ j → b3 j = a3 j ∧ b4 j = a4 j) : tp_LL n st b2 b3 b4 := by
  obtain ⟨sz, s1, s2, s3, s4, s5⟩ := h
  refine ⟨sz, by rw [e2, s1], s2, s3, fun i hi => by rw [(e (192 + i) (by omega)).2]; exact s4 i hi, s5.symm.trans ?_ |>.symm⟩
  constructor
  · rintro ⟨i, hi, z1, z2⟩
    exact ⟨i, hi, by rw [(e (192 + i) (by omega)).1, z1], by rw [(e (192 + i) (by omega)).2, z2]⟩
  · rintro ⟨i, hi, z1, z2⟩
    exact ⟨i, hi, by rw [← (e (192 + i) (by omega)).1, z1], by rw [← (e (192 + i) (by omega)).2, z2]⟩
theorem tp_LL_st {n : Nat} {st st' : Int32} {a2 a3 a4 : Nat → Int32} (h : tp_LL n st a2 a3 a4) (e : st' = 2 ↔ st = 2) : tp_LL n st' a2 a3 a4 := by
  obtain ⟨sz, s1, s2, s3, s4, s5⟩ := h
  exact ⟨sz, s1, s2, fun z => s3 (fun y => z (e.mpr y)), s4, s5.trans e.symm⟩
def tp_R (b d h0 : Nat → Int32) (W : Nat → Bool) (n s : Nat) (st hp : Int32) (σ : Nat → Nat) (q : List (Nat × Nat × Nat)) (f on : Nat) (a1 a2 a3 a4 a5 a6 a7 a8 a9 a10 a11 a12 a13 a14 a15 a16 : Nat → Int32) : Prop :=
  ¬ st = 0 ∧ (hp = 0 ∨ hp = 1) ∧ tp_Q n f q a13 a14 a15 a16 ∧ tp_RD b d h0 W n s σ on a1 a2 a3 a4 a5 a6 a7 a8 a9 a10 a11 a12 ∧ tp_LL n st a2 a3 a4
def tp_P (b d h0 : Nat → Int32) (W : Nat → Bool) (n s td : Nat) (pa tr cc : Int32) (post : St1 → Prop) (a : tp_A) : Prop :=
  ∀ (st vo he hp se lo : Int32) (σ : Nat → Nat) (q : List (Nat × Nat × Nat)) (f on : Nat) (a1 a2 a3 a4 a5 a6 a7 a8 a9 a10 a11 a12 a13 a14 a15 a16 : Nat → Int32), a = (st, vo, he, hp, se, lo, σ, q) → tp_R b d h0 W n s st hp σ q f on a1 a2 a3 a4 a5 a6 a7 a8 a9 a10 a11 a12 a13 a14 a15 a16 → post (nI on, st, vo, he, nI n, nI n, nI s, pa, tr, nI td, hp, cc, nI f, nI q.length, se, lo, a1, a2, a3, a4, a5, a6, a7, a8, a9, a10, a11, a12, a13, a14, a15, a16)
theorem tp_bad_ok {m : Nat} {a : tp_A} (h : tp_ok (tp_bad m a) = true) : False := by
  obtain ⟨st, vo, he, hp, se, lo, σ, q⟩ := a
  have h' : (decide (9 < 6) && decide (9 < 6) && decide (9 < 6)) = true := h
  exact absurd h' (by decide)
theorem tp_pr {d h0 a8 a9 a10 a11 a12 : Nat → Int32} {W : Nat → Bool} {n s x m : Nat} (h : tp_LS d h0 W n s x m a8 a9 a10 a11 a12) (hn0 : 0 < n) (hn : n < 2 ^ 31) : a11 (s * 3 + m) = nI n ↔ (x = 2 ∨ x = 3) := by
  rw [h.2.1]
  unfold tp_opn
  by_cases c : x = 2 ∨ x = 3
  · rw [if_pos c]
    exact ⟨fun _ => c, fun _ => rfl⟩
  · rw [if_neg c]
    exact ⟨fun z => absurd z.symm (nI_ne0 hn0 hn), fun z => absurd z c⟩
section
variable {b d h0 : Nat → Int32} {W : Nat → Bool} {n s td f on m : Nat} {st vo he hp se lo pa tr cc : Int32} {σ : Nat → Nat} {q : List (Nat × Nat × Nat)} {a1 a2 a3 a4 a5 a6 a7 a8 a9 a10 a11 a12 a13 a14 a15 a16 : Nat → Int32} {post : St1 → Prop}
theorem tp_send_R {kd fr to : Nat} (hk : kd < 8) (hf : fr < 4) (ht : to < 4) (hR : tp_R b d h0 W n s st hp σ q f on a1 a2 a3 a4 a5 a6 a7 a8 a9 a10 a11 a12 a13 a14 a15 a16) (HP : tp_P b d h0 W n s td pa tr cc post (tp_snd tr kd fr to (st, vo, he, hp, se, lo, σ, q))) : wpX_send post (nI on, st, vo, he, nI n, nI n, nI s, pa, tr, nI td, hp, cc, nI f, nI q.length, se, lo, a1, a2, a3, a4, a5, a6, a7, a8, a9, a10, a11, a12, a13, a14, a15, a16) (nI kd) (nI fr) (nI to) :=
  tp_send hk hf ht hR.2.2.1 (fun se' lo' q' _ _ _ _ e hQ' => HP st vo he hp se' lo' σ q' f on _ _ _ _ _ _ _ _ _ _ _ _ _ _ _ _ (e _ _ _ _ _) ⟨hR.1, hR.2.1, hQ', hR.2.2.2.1, hR.2.2.2.2⟩)
theorem tp_remind_R (hK : tp_K b d h0 W n s pa) (hR : tp_R b d h0 W n s st hp σ q f on a1 a2 a3 a4 a5 a6 a7 a8 a9 a10 a11 a12 a13 a14 a15 a16) (HP : tp_P b d h0 W n s td pa tr cc post (tp_rem pa tr (st, vo, he, hp, se, lo, σ, q))) : wpX_remind post (nI on, st, vo, he, nI n, nI n, nI s, pa, tr, nI td, hp, cc, nI f, nI q.length, se, lo, a1, a2, a3, a4, a5, a6, a7, a8, a9, a10, a11, a12, a13, a14, a15, a16) :=
  tp_remind hK.2.2.1 hR.2.2.1 (fun m hm => tp_pr ((hR.2.2.2.1.2.2 hK.2.2.1).2.2 m hm) hK.1 hK.2.1) (fun se' lo' q' _ _ _ _ e hQ' => HP st vo he hp se' lo' σ q' f on _ _ _ _ _ _ _ _ _ _ _ _ _ _ _ _ e ⟨hR.1, hR.2.1, hQ', hR.2.2.2.1, hR.2.2.2.2⟩)
theorem tp_break_R {post : Int32 → St1 → Prop} (hK : tp_K b d h0 W n s pa) (hm : m < 3) (hx : σ m < 6) (hR : tp_R b d h0 W n s st hp σ q f on a1 a2 a3 a4 a5 a6 a7 a8 a9 a10 a11 a12 a13 a14 a15 a16) (HP : ∀ r, tp_P b d h0 W n s td pa tr cc (post r) (tp_bkd pa m (st, vo, he, hp, se, lo, σ, q))) : wpX_breakDown post (nI on, st, vo, he, nI n, nI n, nI s, pa, tr, nI td, 1, cc, nI f, nI q.length, se, lo, a1, a2, a3, a4, a5, a6, a7, a8, a9, a10, a11, a12, a13, a14, a15, a16) (nI m) := by
  obtain ⟨r1, r2, r3, r4, r5⟩ := hR
  obtain ⟨k1, k2, k3, k4, k5, k6⟩ := hK
  refine tp_breakDown hm k1 k2 (Or.inr ⟨r1, rfl, k3, rfl⟩) (fun _ => k4) hx (fun _ => k6 m hm) r4 (fun r on' a7' a8' a9' a10' a11' a12' hRD _ => ?_)
  exact HP r st vo he 1 se lo _ q f on' _ _ _ _ _ _ _ _ _ _ _ _ _ _ _ _ rfl ⟨r1, Or.inr rfl, r3, hRD, r5⟩
theorem tp_hearPrepare (hK : tp_K b d h0 W n s pa) (hm : m < 3) (htd : td < 3) (hx : σ m < 6) (hR : tp_R b d h0 W n s st hp σ q f on a1 a2 a3 a4 a5 a6 a7 a8 a9 a10 a11 a12 a13 a14 a15 a16) (hok : tp_ok (tp_hp pa tr td m (st, vo, he, hp, se, lo, σ, q)) = true)
    (HP : tp_P b d h0 W n s td pa tr cc post (tp_hp pa tr td m (st, vo, he, hp, se, lo, σ, q))) : wpX_hearPrepare post (nI on, st, vo, he, nI n, nI n, nI s, pa, tr, nI td, hp, cc, nI f, nI q.length, se, lo, a1, a2, a3, a4, a5, a6, a7, a8, a9, a10, a11, a12, a13, a14, a15, a16) (nI m) := by
  have L := (hR.2.2.2.1.2.2 hK.2.2.1).2.2 m hm
  have hs := hK.2.2.1
  have eqm : (nI m = nI td) ↔ m = td := nI_eq (by omega) (by omega)
  refine tp_strikes hR.2.1 (fun hit => br_f (by decide) ?_) (fun nohit => br_t rfl ?_)
  · have e : tp_hp pa tr td m (st, vo, he, hp, se, lo, σ, q) = tp_bkd pa m (st, vo, he, hp, se, lo, σ, q) := if_pos ⟨hit.1, hit.2.1, eqm.mp hit.2.2⟩
    rw [e] at HP
    exact tp_break_R hK hm hx hR (fun r => HP)
  · have nohit' : ¬ (tr = 1 ∧ hp = 0 ∧ m = td) := fun z => nohit ⟨z.1, z.2.1, eqm.mpr z.2.2⟩
    unfold tp_hp at HP hok
    dsimp only at HP hok
    rw [if_neg nohit'] at HP hok
    refine nm_r (tp_ix3 s m) ⟨pk_in (s * 3 + m) 12 (by omega), ?_⟩
    rw [nI_clamp (show s * 3 + m < 2 ^ 31 by omega)]
    have pr := tp_pr L hK.1 hK.2.1
    by_cases x0 : σ m = 0
    · rw [if_pos x0] at HP
      refine br_t (L.2.2.1 (Or.inl x0)) ⟨pk_in (s * 3 + m) 12 (by omega), br_f (fun z => by have := pr.mp z; omega) ?_⟩
      refine tp_promiseOn hm hs hK.2.1 x0 hR.2.2.2.1 (fun b2 b3 b4 b5 b6 e2 e34 hRD => ?_)
      refine tp_send_R (kd := 2) (fr := m) (to := 3) (by omega) (by omega) (by omega) ⟨hR.1, hR.2.1, hR.2.2.1, hRD, tp_LL_cg hR.2.2.2.2 e2 e34⟩ HP
    · rw [if_neg x0] at HP hok
      by_cases x2 : σ m = 2
      · rw [if_pos x2] at HP
        refine br_t (L.2.2.1 (Or.inr x2)) ⟨pk_in (s * 3 + m) 12 (by omega), br_t (pr.mpr (Or.inl x2)) ?_⟩
        exact tp_send_R (kd := 2) (fr := m) (to := 3) (by omega) (by omega) (by omega) hR HP
      · rw [if_neg x2] at HP hok
        by_cases x1 : σ m = 1
        · rw [if_pos x1] at HP
          refine br_f (L.2.2.2 x1) ?_
          exact tp_send_R (kd := 3) (fr := m) (to := 3) (by omega) (by omega) (by omega) hR HP
        · rw [if_neg x1] at hok
          exact absurd hok (fun z => tp_bad_ok z)
theorem tp_hearCommit (hK : tp_K b d h0 W n s pa) (hm : m < 3) (htd : td < 3) (hx : σ m < 6) (hR : tp_R b d h0 W n s st hp σ q f on a1 a2 a3 a4 a5 a6 a7 a8 a9 a10 a11 a12 a13 a14 a15 a16)
    (HP : tp_P b d h0 W n s td pa tr cc post (tp_hc pa tr td m (st, vo, he, hp, se, lo, σ, q))) : wpX_hearCommit post (nI on, st, vo, he, nI n, nI n, nI s, pa, tr, nI td, hp, cc, nI f, nI q.length, se, lo, a1, a2, a3, a4, a5, a6, a7, a8, a9, a10, a11, a12, a13, a14, a15, a16) (nI m) := by
  have hs := hK.2.2.1
  have L := (hR.2.2.2.1.2.2 hs).2.2 m hm
  have eqm : (nI m = nI td) ↔ m = td := nI_eq (by omega) (by omega)
  refine tp_strikes hR.2.1 (fun hit => br_f (by decide) ?_) (fun nohit => br_t rfl ?_)
  · have e : tp_hc pa tr td m (st, vo, he, hp, se, lo, σ, q) = tp_bkd pa m (st, vo, he, hp, se, lo, σ, q) := if_pos ⟨hit.1, hit.2.1, eqm.mp hit.2.2⟩
    rw [e] at HP
    exact tp_break_R hK hm hx hR (fun r => HP)
  · have nohit' : ¬ (tr = 4 ∧ hp = 0 ∧ m = td) := fun z => nohit ⟨z.1, z.2.1, eqm.mpr z.2.2⟩
    unfold tp_hc at HP
    dsimp only at HP
    rw [if_neg nohit'] at HP
    have pr := tp_pr L hK.1 hK.2.1
    have fin : ∀ (σ' : Nat → Nat) (on' : Nat) (a1' a2' a3' a4' a5' a6' a7' a8' a9' a10' a11' a12' a13' a14' a15' a16' : Nat → Int32), σ' m < 6 → σ' = (if σ m = 2 ∨ σ m = 3 then tp_up σ m 4 else σ) → tp_R b d h0 W n s st hp σ' q f on' a1' a2' a3' a4' a5' a6' a7' a8' a9' a10' a11' a12' a13' a14' a15' a16' → wX_hearCommit_66 post (nI m) (nI on') st vo he (nI n) (nI n) (nI s) pa tr (nI td) hp cc (nI f) (nI q.length) se lo a1' a2' a3' a4' a5' a6' a7' a8' a9' a10' a11' a12' a13' a14' a15' a16' := by
      intro σ' on' a1' a2' a3' a4' a5' a6' a7' a8' a9' a10' a11' a12' a13' a14' a15' a16' hx' eσ hR'
      rw [← eσ] at HP
      refine tp_strikes hR'.2.1 (fun hit => br_f (by decide) ?_) (fun nohit5 => br_t rfl ?_)
      · rw [if_pos ⟨hit.1, hit.2.1, eqm.mp hit.2.2⟩] at HP
        exact tp_break_R hK hm hx' hR' (fun r => HP)
      · rw [if_neg (fun z => nohit5 ⟨z.1, z.2.1, eqm.mpr z.2.2⟩)] at HP
        exact tp_send_R (kd := 6) (fr := m) (to := 3) (by omega) (by omega) (by omega) hR' HP
    refine ⟨pk_in (s * 3 + m) 12 (by omega) (tp_ix3 s m), ?_⟩
    rw [tp_ix3, nI_clamp (show s * 3 + m < 2 ^ 31 by omega)]
    refine br_c (fun ep => ?_) (fun ep => ?_)
    · have x23 := pr.mp ep
      obtain ⟨sz, s1, s2, s3, s4, s5, s6, s7⟩ := hR.2.2.2.1.2.1 m hm
      have hcap := tp_cap_le (σ m)
      obtain ⟨v, hv, h9, _⟩ := hR.2.2.2.1.1.2.2.1 s hs
      refine tp_log (kd := 3) (ky := 0) (by omega) (by omega) (by omega) s1 (by omega) ?_
      refine tp_applyLogged (sz := sz + 1) (by omega) pk_us (by omega) (fun i hi z => ?_) ?_
      · obtain ⟨k, hk, _, ek⟩ := (tp_KO_add (kd := 3) (ky := 0) s4 (fun z => absurd z (by decide))) i hi z
        exact ⟨k, hk, ek⟩
      · refine tp_releaseOn hs hm (tp_C_HR hR.2.2.2.1.1) h9 hv ?_
        refine fin (tp_up σ m 4) on _ _ _ _ _ _ _ _ _ _ _ _ _ _ _ _ (by unfold tp_up; rw [if_pos rfl]; omega) (if_pos x23).symm ⟨hR.1, hR.2.1, hR.2.2.1, ?_, ?_⟩
        · exact tp_RD_rel hR.2.2.2.1 hm hs (Or.inl rfl) h9 hv (tp_DS_done hR.2.2.2.1.2.1 hm x23 s1 (by omega) hK.2.2.2.2.1)
        · exact tp_LL_cg hR.2.2.2.2 (pk_un (by omega)) (fun j hj => ⟨pk_un (by omega), pk_un (by omega)⟩)
    · exact fin σ on _ _ _ _ _ _ _ _ _ _ _ _ _ _ _ _ hx (if_neg (fun z => ep (pr.mpr z))).symm hR
theorem tp_hearRefuse (hK : tp_K b d h0 W n s pa) (hm : m < 3) (hx : σ m < 6) (hR : tp_R b d h0 W n s st hp σ q f on a1 a2 a3 a4 a5 a6 a7 a8 a9 a10 a11 a12 a13 a14 a15 a16) (hok : tp_ok (tp_hr tr m (st, vo, he, hp, se, lo, σ, q)) = true)
    (HP : tp_P b d h0 W n s td pa tr cc post (tp_hr tr m (st, vo, he, hp, se, lo, σ, q))) : wpX_hearRefuse post (nI on, st, vo, he, nI n, nI n, nI s, pa, tr, nI td, hp, cc, nI f, nI q.length, se, lo, a1, a2, a3, a4, a5, a6, a7, a8, a9, a10, a11, a12, a13, a14, a15, a16) (nI m) := by
  have hs := hK.2.2.1
  have L := (hR.2.2.2.1.2.2 hs).2.2 m hm
  have pr := tp_pr L hK.1 hK.2.1
  unfold tp_hr at HP hok
  dsimp only at HP hok
  by_cases x4 : σ m = 4
  · rw [if_pos x4] at hok
    exact absurd hok (fun z => tp_bad_ok z)
  · rw [if_neg x4] at HP
    obtain ⟨v, hv, h9, _⟩ := hR.2.2.2.1.1.2.2.1 s hs
    refine ⟨pk_in (s * 3 + m) 12 (by omega) (tp_ix3 s m), ?_⟩
    rw [tp_ix3, nI_clamp (show s * 3 + m < 2 ^ 31 by omega)]
    refine br_c (fun ep => ?_) (fun ep => ?_)
    · have x23 := pr.mp ep
      obtain ⟨sz, s1, s2, s3, s4, s5, s6, s7⟩ := hR.2.2.2.1.2.1 m hm
      have hcap := tp_cap_le (σ m)
      refine tp_log (kd := 4) (ky := 0) (by omega) (by omega) (by omega) s1 (by omega) ?_
      refine tp_releaseOn hs hm (tp_C_HR hR.2.2.2.1.1) h9 hv ?_
      refine tp_send_R (kd := 6) (fr := m) (to := 3) (by omega) (by omega) (by omega) ⟨hR.1, hR.2.1, hR.2.2.1, tp_RD_rel hR.2.2.2.1 hm hs (Or.inr rfl) h9 hv (tp_DS_undone hR.2.2.2.1.2.1 hm x23 s1 (by omega)), ?_⟩ HP
      exact tp_LL_cg hR.2.2.2.2 (pk_un (by omega)) (fun j hj => ⟨pk_un (by omega), pk_un (by omega)⟩)
    · refine tp_releaseOn hs hm (tp_C_HR hR.2.2.2.1.1) h9 hv ?_
      have x015 : σ m = 0 ∨ σ m = 1 ∨ σ m = 5 := by
        have : ¬ (σ m = 2 ∨ σ m = 3) := fun z => ep (pr.mpr z)
        omega
      exact tp_send_R (kd := 6) (fr := m) (to := 3) (by omega) (by omega) (by omega) ⟨hR.1, hR.2.1, hR.2.2.1, tp_RD_rel hR.2.2.2.1 hm hs (Or.inr rfl) h9 hv (tp_DS_never hR.2.2.2.1.2.1 hm x015), hR.2.2.2.2⟩ HP
end
end
section
/-! 11: the leader; deliver -/
theorem tp_RD_log3 {b d h0 a1 a2 a3 a4 a5 a6 a7 a8 a9 a10 a11 a12 : Nat → Int32} {W : Nat → Bool} {n s on sz : Nat} {σ : Nat → Nat} {y x1 x2 x3 x4 : Int32} (hR : tp_RD b d h0 W n s σ on a1 a2 a3 a4 a5 a6 a7 a8 a9 a10 a11 a12) :
    tp_RD b d h0 W n s σ on a1 (upd a2 3 y) (upd a3 (3 * 64 + sz) x1) (upd a4 (3 * 64 + sz) x2) (upd a5 (3 * 64 + sz) x3) (upd a6 (3 * 64 + sz) x4) a7 a8 a9 a10 a11 a12 := by
  obtain ⟨hC, hD, hS⟩ := hR
  exact ⟨hC, fun m hm => tp_DS_cg (hD m hm) (fun _ _ _ => rfl) (pk_un (by omega)) (tp_ag_far (by omega)) (fun _ _ _ => rfl), hS⟩
theorem tp_LL_dec {n sz : Nat} {a2 a3 a4 : Nat → Int32} (hz : sz ≤ 40) (h4 : ∀ i, i < sz → ∃ c, c ≤ n ∧ a4 (192 + i) = nI c) : tp_LL n 2 (upd a2 3 (nI (sz + 1))) (upd a3 (3 * 64 + sz) 5) (upd a4 (3 * 64 + sz) (nI n)) := by
  refine ⟨sz + 1, pk_us, by omega, fun z => absurd rfl z, fun i hi => ?_, ⟨fun _ => rfl, fun _ => ⟨sz, by omega, pk_us, pk_us⟩⟩⟩
  by_cases e : i = sz
  · subst e
    exact ⟨n, Nat.le_refl n, pk_us⟩
  · obtain ⟨c, hc, ec⟩ := h4 i (by omega)
    exact ⟨c, hc, by rw [pk_un (by omega), ec]⟩
section
variable {b d h0 : Nat → Int32} {W : Nat → Bool} {n s td f on m : Nat} {st vo he hp se lo pa tr cc : Int32} {σ : Nat → Nat} {q : List (Nat × Nat × Nat)} {a1 a2 a3 a4 a5 a6 a7 a8 a9 a10 a11 a12 a13 a14 a15 a16 : Nat → Int32} {post : St1 → Prop}
theorem tp_dec64 (hK : tp_K b d h0 W n s pa) (htd : td < 3) (hx : σ td < 6) (hR : tp_R b d h0 W n s 2 hp σ q f on a1 a2 a3 a4 a5 a6 a7 a8 a9 a10 a11 a12 a13 a14 a15 a16)
    (HP : tp_P b d h0 W n s td pa tr cc post (if ((pa >>> (nI td &&& 31)) &&& 1) = 0 ∧ (tr = 4 ∨ tr = 5) ∧ hp = 0 then tp_rem pa tr (tp_bkd pa td (2, vo, he, hp, se, lo, σ, q)) else tp_rem pa tr (2, vo, he, hp, se, lo, σ, q))) :
    wX_decideIfReady_64 post (nI on) 2 vo he (nI n) (nI n) (nI s) pa tr (nI td) hp cc (nI f) (nI q.length) se lo a1 a2 a3 a4 a5 a6 a7 a8 a9 a10 a11 a12 a13 a14 a15 a16 := by
  have A0 : ¬ (((pa >>> (nI td &&& 31)) &&& 1) = 0 ∧ (tr = 4 ∨ tr = 5) ∧ hp = 0) → wX_decideIfReady_125 post (nI on) 2 vo he (nI n) (nI n) (nI s) pa tr (nI td) hp cc (nI f) (nI q.length) se lo a1 a2 a3 a4 a5 a6 a7 a8 a9 a10 a11 a12 a13 a14 a15 a16 := by
    intro g
    rw [if_neg g] at HP
    exact tp_remind_R hK hR HP
  have A1 : ((pa >>> (nI td &&& 31)) &&& 1) = 0 → (tr = 4 ∨ tr = 5) → wX_decideIfReady_91 post (nI on) 2 vo he (nI n) (nI n) (nI s) pa tr (nI td) hp cc (nI f) (nI q.length) se lo a1 a2 a3 a4 a5 a6 a7 a8 a9 a10 a11 a12 a13 a14 a15 a16 := by
    intro ep e45
    refine br_f (by decide) (tp_strikes hR.2.1 (fun hit => br_f (by decide) ?_) (fun nohit => br_t rfl (A0 (fun z => nohit ⟨rfl, z.2.2, rfl⟩))))
    rw [if_pos ⟨ep, e45, hit.2.1⟩] at HP
    refine tp_break_R hK htd hx hR (fun r => ?_)
    intro st' vo' he' hp' se' lo' σ' q' f' on' a1' a2' a3' a4' a5' a6' a7' a8' a9' a10' a11' a12' a13' a14' a15' a16' e hR'
    rw [e] at HP
    exact tp_remind_R hK hR' HP
  refine tp_isPart (fun ep => br_t rfl (br_c (fun e4 => A1 ep (Or.inl e4)) (fun e4 => br_c (fun e5 => A1 ep (Or.inr e5)) (fun e5 => ?_)))) (fun ep => br_f (by decide) ?_)
  · refine br_t rfl (A0 (fun z => ?_))
    rcases z.2.1 with y | y
    · exact e4 y
    · exact e5 y
  · exact br_t rfl (A0 (fun z => ep z.1))
theorem tp_decide (hK : tp_K b d h0 W n s pa) (htd : td < 3) (hx : σ td < 6) (hR : tp_R b d h0 W n s st hp σ q f on a1 a2 a3 a4 a5 a6 a7 a8 a9 a10 a11 a12 a13 a14 a15 a16) (h2 : ¬ st = 2)
    (HP : tp_P b d h0 W n s td pa tr cc post (tp_dec pa tr td (st, vo, he, hp, se, lo, σ, q))) : wpX_decideIfReady post (nI on, st, vo, he, nI n, nI n, nI s, pa, tr, nI td, hp, cc, nI f, nI q.length, se, lo, a1, a2, a3, a4, a5, a6, a7, a8, a9, a10, a11, a12, a13, a14, a15, a16) := by
  unfold tp_dec at HP
  dsimp only at HP
  obtain ⟨r1, r2, r3, r4, r5⟩ := hR
  obtain ⟨sz, l1, l2, l3, l4, l5⟩ := r5
  have hs := hK.2.2.1
  have hz := l3 h2
  refine br_c (fun ev => ?_) (fun ev => ?_)
  · rw [if_pos ev] at HP
    refine tp_strikes r2 (fun hit => br_f (by decide) ?_) (fun nohit => br_t rfl ?_)
    · rw [if_pos ⟨hit.1, hit.2.1⟩] at HP
      refine tp_breakLeader (Or.inr ⟨r1, rfl, hs⟩) r4 l1 (by omega) (fun r on' a8' a9' a11' hRD' _ => ⟨fun z => absurd z r1, fun _ z => absurd (l5.mp z) h2, fun _ _ => ?_⟩)
      exact HP 3 0 0 1 se lo σ q f on' _ _ _ _ _ _ _ _ _ _ _ _ _ _ _ _ rfl ⟨by decide, Or.inr rfl, r3, hRD', tp_LL_st ⟨sz, l1, l2, l3, l4, l5⟩ ⟨fun z => absurd z (by decide), fun z => absurd z h2⟩⟩
    · rw [if_neg (fun z => nohit ⟨z.1, z.2, rfl⟩)] at HP
      refine tp_log (m := 3) (kd := 5) (ky := 0) (by omega) (by omega) (by omega) l1 (by omega) ?_
      refine tp_strikes r2 (fun hit3 => br_f (by decide) ?_) (fun nohit3 => br_t rfl ?_)
      · rw [if_pos ⟨hit3.1, hit3.2.1⟩] at HP
        refine tp_breakLeader (sz := sz + 1) (Or.inr ⟨by decide, rfl, hs⟩) (tp_RD_log3 r4) pk_us (by omega) (fun r on' a8' a9' a11' hRD' _ => ⟨fun z => absurd z (by decide), fun _ _ => ?_, fun _ z => absurd ⟨sz, by omega, pk_us, pk_us⟩ z⟩)
        refine tp_dec64 hK htd hx ⟨by decide, Or.inr rfl, r3, hRD', tp_LL_dec hz l4⟩ ?_
        rw [if_neg (fun z => absurd z.2.2 (by decide))]
        exact HP
      · rw [if_neg (fun z => nohit3 ⟨z.1, z.2, rfl⟩)] at HP
        exact tp_dec64 hK htd hx ⟨by decide, r2, r3, tp_RD_log3 r4, tp_LL_dec hz l4⟩ HP
  · rw [if_neg ev] at HP
    exact HP st vo he hp se lo σ q f on _ _ _ _ _ _ _ _ _ _ _ _ _ _ _ _ rfl ⟨r1, r2, r3, r4, sz, l1, l2, l3, l4, l5⟩
theorem tp_hl90 {kd fr : Nat} (hk : kd < 8) (hf : fr < 3) (hR : tp_R b d h0 W n s st hp σ q f on a1 a2 a3 a4 a5 a6 a7 a8 a9 a10 a11 a12 a13 a14 a15 a16)
    (HP : tp_P b d h0 W n s td pa tr cc post (if kd = 7 then tp_snd tr (if st = 2 then 4 else 5) 3 fr (st, vo, he, hp, se, lo, σ, q) else (st, vo, he, hp, se, lo, σ, q))) : wX_hearAsLeader_90 post (nI kd) (nI fr) (nI on) st vo he (nI n) (nI n) (nI s) pa tr (nI td) hp cc (nI f) (nI q.length) se lo a1 a2 a3 a4 a5 a6 a7 a8 a9 a10 a11 a12 a13 a14 a15 a16 := by
  obtain ⟨sz, l1, l2, l3, l4, l5⟩ := hR.2.2.2.2
  refine pk_eq kd 7 (fun e => ?_) (fun e => ?_)
  · rw [if_pos e] at HP
    refine tp_isLogged l1 (by omega) (fun z => br_f (by decide) ?_) (fun z => br_t rfl ?_)
    · rw [if_pos (l5.mp z)] at HP
      exact tp_send_R (kd := 4) (fr := 3) (to := fr) (by omega) (by omega) (by omega) hR HP
    · rw [if_neg (fun y => z (l5.mpr y))] at HP
      exact tp_send_R (kd := 5) (fr := 3) (to := fr) (by omega) (by omega) (by omega) hR HP
  · rw [if_neg e] at HP
    exact HP st vo he hp se lo σ q f on _ _ _ _ _ _ _ _ _ _ _ _ _ _ _ _ rfl hR
theorem tp_hl53 {kd fr : Nat} (hk : kd < 8) (hf : fr < 3) (hR : tp_R b d h0 W n s st hp σ q f on a1 a2 a3 a4 a5 a6 a7 a8 a9 a10 a11 a12 a13 a14 a15 a16)
    (HP : tp_P b d h0 W n s td pa tr cc post (if kd = 6 ∧ (st = 2 ∨ st = 3) then (st, vo, he ||| ((1 : Int32) <<< (nI fr &&& 31)), hp, se, lo, σ, q) else if kd = 7 then tp_snd tr (if st = 2 then 4 else 5) 3 fr (st, vo, he, hp, se, lo, σ, q) else (st, vo, he, hp, se, lo, σ, q))) : wX_hearAsLeader_53 post (nI kd) (nI fr) (nI on) st vo he (nI n) (nI n) (nI s) pa tr (nI td) hp cc (nI f) (nI q.length) se lo a1 a2 a3 a4 a5 a6 a7 a8 a9 a10 a11 a12 a13 a14 a15 a16 := by
  have go : kd = 6 → (st = 2 ∨ st = 3) → wX_hearAsLeader_75 post (nI fr) (nI on) st vo he (nI n) (nI n) (nI s) pa tr (nI td) hp cc (nI f) (nI q.length) se lo a1 a2 a3 a4 a5 a6 a7 a8 a9 a10 a11 a12 a13 a14 a15 a16 := by
    intro e1 e2
    rw [if_pos ⟨e1, e2⟩] at HP
    exact nm_e (HP st vo _ hp se lo σ q f on _ _ _ _ _ _ _ _ _ _ _ _ _ _ _ _ rfl hR)
  refine pk_eq kd 6 (fun e => br_c (fun e2 => go e (Or.inl e2)) (fun e2 => br_c (fun e3 => go e (Or.inr e3)) (fun e3 => ?_))) (fun e => ?_)
  · rw [if_neg (fun z => by rcases z.2 with y | y; exact e2 y; exact e3 y)] at HP
    exact tp_hl90 hk hf hR HP
  · rw [if_neg (fun z => e z.1)] at HP
    exact tp_hl90 hk hf hR HP
theorem tp_hearLeader {kd fr : Nat} (hK : tp_K b d h0 W n s pa) (htd : td < 3) (hx : σ td < 6) (hk : kd < 8) (hf : fr < 3) (hR : tp_R b d h0 W n s st hp σ q f on a1 a2 a3 a4 a5 a6 a7 a8 a9 a10 a11 a12 a13 a14 a15 a16)
    (HP : tp_P b d h0 W n s td pa tr cc post (tp_hl pa tr td kd fr (st, vo, he, hp, se, lo, σ, q))) : wpX_hearAsLeader post (nI on, st, vo, he, nI n, nI n, nI s, pa, tr, nI td, hp, cc, nI f, nI q.length, se, lo, a1, a2, a3, a4, a5, a6, a7, a8, a9, a10, a11, a12, a13, a14, a15, a16) (nI kd) (nI fr) := by
  unfold tp_hl at HP
  dsimp only at HP
  have go : ¬ (kd = 2 ∧ st = 1) → wX_hearAsLeader_32 post (nI kd) (nI fr) (nI on) st vo he (nI n) (nI n) (nI s) pa tr (nI td) hp cc (nI f) (nI q.length) se lo a1 a2 a3 a4 a5 a6 a7 a8 a9 a10 a11 a12 a13 a14 a15 a16 := by
    intro g
    rw [if_neg g] at HP
    refine pk_eq kd 3 (fun e => br_c (fun e1 => ?_) (fun e1 => ?_)) (fun e => ?_)
    · rw [if_pos ⟨e, e1⟩] at HP
      exact HP 3 vo he hp se lo σ q f on _ _ _ _ _ _ _ _ _ _ _ _ _ _ _ _ rfl ⟨by decide, hR.2.1, hR.2.2.1, hR.2.2.2.1, tp_LL_st hR.2.2.2.2 ⟨fun z => absurd z (by decide), fun z => absurd (e1.symm.trans z) (by decide)⟩⟩
    · rw [if_neg (fun z => e1 z.2)] at HP
      exact tp_hl53 hk hf hR HP
    · rw [if_neg (fun z => e z.1)] at HP
      exact tp_hl53 hk hf hR HP
  refine pk_eq kd 2 (fun e => br_c (fun e1 => ?_) (fun e1 => go (fun z => e1 z.2))) (fun e => go (fun z => e z.1))
  rw [if_pos ⟨e, e1⟩] at HP
  exact nm_e (tp_decide hK htd hx hR (by rw [e1]; decide) HP)
theorem tp_deliver {kd fr to : Nat} (hK : tp_K b d h0 W n s pa) (htd : td < 3) (hx : ∀ m, m < 3 → σ m < 6) (hR : tp_R b d h0 W n s st hp σ ((kd, fr, to) :: q) f on a1 a2 a3 a4 a5 a6 a7 a8 a9 a10 a11 a12 a13 a14 a15 a16) (hok : tp_ok (tp_del pa tr td (st, vo, he, hp, se, lo, σ, (kd, fr, to) :: q)) = true)
    (HP : tp_P b d h0 W n s td pa tr cc post (tp_del pa tr td (st, vo, he, hp, se, lo, σ, (kd, fr, to) :: q))) : wpX_deliver post (nI on, st, vo, he, nI n, nI n, nI s, pa, tr, nI td, hp, cc, nI f, nI (q.length + 1), se, lo, a1, a2, a3, a4, a5, a6, a7, a8, a9, a10, a11, a12, a13, a14, a15, a16) := by
  obtain ⟨r1, r2, r3, r4, r5⟩ := hR
  have hf : f < 64 := r3.1
  obtain ⟨g13, g14, g15, g16, gk, gf, gt⟩ := r3.2.2 0 (kd, fr, to) rfl
  have e0 : (f + 0) % 64 = f := by omega
  rw [e0] at g13 g14 g15 g16
  have g13' : a13 f = nI kd := g13
  have g14' : a14 f = nI fr := g14
  have g15' : a15 f = nI to := g15
  have gk' : kd < 8 := gk
  have gf' : fr < 4 := gf
  have gt' : to < 4 := gt
  have hR' : tp_R b d h0 W n s st hp σ q ((f + 1) % 64) on a1 a2 a3 a4 a5 a6 a7 a8 a9 a10 a11 a12 a13 a14 a15 a16 := ⟨r1, r2, tp_Q_pop r3, r4, r5⟩
  have iv : vp_in (nI f) 64 := pk_in f 64 hf
  have c : (nI f).toNatClampNeg = f := nI_clamp (by omega)
  unfold tp_del at HP hok
  dsimp only at HP hok
  refine ⟨by decide, nm_r (show (nI f + 1) - (nI f + 1) / 64 * 64 = nI ((f + 1) % 64) by rw [nI_1]; exact pk_rem (d := 64) (by omega) (by omega) (by omega)) (nm_r (nI_pred q.length) ⟨iv, ?_⟩)⟩
  rw [c, g13', g14', g15']
  refine br_t g16 ⟨iv, nm_e ⟨iv, ?_⟩⟩
  refine pk_eq to 3 (fun e => ⟨iv, ?_⟩) (fun e => ⟨iv, iv, ?_⟩)
  · rw [if_pos e] at HP hok
    by_cases c3 : fr < 3
    · rw [if_pos c3] at HP
      exact tp_hearLeader hK htd (hx td htd) gk' c3 hR' HP
    · rw [if_neg c3] at hok
      exact absurd hok (fun z => tp_bad_ok z)
  · have t3 : to < 3 := by omega
    rw [if_neg e, if_pos t3] at HP hok
    refine pk_eq kd 1 (fun e1 => ?_) (fun e1 => pk_eq kd 4 (fun e4 => ?_) (fun e4 => ?_))
    · rw [if_pos e1] at HP hok
      exact tp_hearPrepare hK t3 htd (hx to t3) hR' hok HP
    · rw [if_neg e1, if_pos e4] at HP
      exact tp_hearCommit hK t3 htd (hx to t3) hR' HP
    · rw [if_neg e1, if_neg e4] at HP hok
      exact tp_hearRefuse hK t3 (hx to t3) hR' hok HP
end
end
section
/-! 12: commit -/
/-- a machine's disk when nothing is being committed -/
def tp_SD (n m lim : Nat) (a1 a2 a3 a4 a5 a6 a7 : Nat → Int32) : Prop :=
  ∃ sz, a2 m = nI sz ∧ sz ≤ lim ∧ (∀ i, i < sz → ∃ c, c < n ∧ a4 (m * 64 + i) = nI c) ∧ tp_KO a3 a5 (m * 64) m sz ∧ tp_RP a3 a4 a5 a6 (m * 64) m sz a1 a7 0
def tp_SL (n lim : Nat) (a2 a4 : Nat → Int32) : Prop := ∃ sz, a2 3 = nI sz ∧ sz ≤ lim ∧ ∀ i, i < sz → ∃ c, c < n ∧ a4 (192 + i) = nI c
/-- the invariant between the calls; n - 1 names are given out -/
def tp_I (n on : Nat) (a1 a2 a3 a4 a5 a6 a7 a8 a9 a10 a11 a12 : Nat → Int32) : Prop :=
  tp_C a7 4 on a8 a9 a10 a11 a12 ∧ (∀ m, m < 3 → tp_SD n m 40 a1 a2 a3 a4 a5 a6 a7) ∧ tp_SL n 40 a2 a4
theorem tp_short20 {post : St1 → Prop} {J : Int32 → (Nat → Int32) → (Nat → Int32) → (Nat → Int32) → (Nat → Int32) → (Nat → Int32) → (Nat → Int32) → (Nat → Int32) → (Nat → Int32) → (Nat → Int32) → (Nat → Int32) → (Nat → Int32) → (Nat → Int32) → (Nat → Int32) → (Nat → Int32) → (Nat → Int32) → (Nat → Int32) → Prop} {o st vo he ns nm sl pa tr td hp cc fi wa se lo : Int32} {a1 a2 a3 a4 a5 a6 a7 a8 a9 a10 a11 a12 a13 a14 a15 a16 : Nat → Int32} {m : Nat} (hm : m < 3)
    (H : J (nI (m + 1)) (tp_mg a1 a7 m 4) (upd a2 m 0) a3 a4 a5 a6 a7 a8 a9 a10 a11 a12 a13 a14 a15 a16) : ∃ g, wX_shortenLogs_20 post J (nI m) o st vo he ns nm sl pa tr td hp cc fi wa se lo g (nI m) a1 a2 a3 a4 a5 a6 a7 a8 a9 a10 a11 a12 a13 a14 a15 a16 := by
  have cm : (nI m).toNatClampNeg = m := nI_clamp (by omega)
  refine pk_loop (fun n i s => wX_shortenLogs_20 post J (nI m) o st vo he ns nm sl pa tr td hp cc fi wa se lo n (nI (m + 3 * i)) s a2 a3 a4 a5 a6 a7 a8 a9 a10 a11 a12 a13 a14 a15 a16) (fun i s => s = tp_mg a1 a7 m i) 4 0 a1 (by omega) (by funext k; exact (if_neg (by omega)).symm) ?_ ?_
  · intro n s h
    subst h
    exact pk_le 12 (m + 3 * 4) (fun _ => ⟨pk_in m 4 (by omega), nm_r (by rw [cm]) (nm_r (nI_1 m) H)⟩) (fun z => absurd z (by omega))
  · intro n i s hi h hw
    subst h
    have c : (nI (m + 3 * i)).toNatClampNeg = m + 3 * i := nI_clamp (by omega)
    exact pk_le 12 (m + 3 * i) (fun z => absurd z (by omega)) (fun _ => ⟨pk_in (m + 3 * i) 12 (by omega), pk_in (m + 3 * i) 12 (by omega), nm_r (by rw [c, tp_mg_n hm hi]) (nm_r (tp_p3 m i) (hw _ rfl))⟩)
theorem tp_SD_lim {n m lim lim' : Nat} {a1 a2 a3 a4 a5 a6 a7 : Nat → Int32} (h : tp_SD n m lim a1 a2 a3 a4 a5 a6 a7) (hl : ∀ sz, a2 m = nI sz → sz ≤ lim → sz ≤ lim') : tp_SD n m lim' a1 a2 a3 a4 a5 a6 a7 := by
  obtain ⟨sz, s1, s2, s3⟩ := h
  exact ⟨sz, s1, hl sz s1 s2, s3⟩
theorem tp_SD_0 {n m : Nat} {a1 a2 a3 a4 a5 a6 a7 : Nat → Int32} (e2 : a2 m = 0) (e1 : ∀ k, k < 12 → k % 3 = m → a1 k = a7 k) : tp_SD n m 40 a1 a2 a3 a4 a5 a6 a7 :=
  ⟨0, by rw [e2, nI_0], by omega, fun i hi => absurd hi (by omega), fun i hi => absurd hi (by omega), tp_RP_0 e1⟩
theorem tp_SD_cg {n m lim : Nat} {a1 a2 a3 a4 a5 a6 a7 b1 b2 b3 b4 b5 b6 b7 : Nat → Int32} (h : tp_SD n m lim a1 a2 a3 a4 a5 a6 a7) (hl : lim ≤ 64) (e1 : ∀ k, k < 12 → k % 3 = m → b1 k = a1 k) (e2 : b2 m = a2 m) (ag : tp_ag a3 a4 a5 a6 b3 b4 b5 b6 (m * 64) 64) (e7 : ∀ k, k < 12 → k % 3 = m → b7 k = a7 k) :
    tp_SD n m lim b1 b2 b3 b4 b5 b6 b7 := by
  obtain ⟨sz, s1, s2, s3, s4, s5⟩ := h
  refine ⟨sz, by rw [e2, s1], s2, fun i hi => ?_, fun i hi => ?_, tp_RP_cg s5 (tp_ag_less ag (by omega)) e1 e7⟩
  · rw [(ag i (by omega)).2.1]
    exact s3 i hi
  · rw [(ag i (by omega)).1, (ag i (by omega)).2.2.1]
    exact s4 i hi
theorem tp_shorten {post : St1 → Prop} {o st vo he ns nm sl pa tr td hp cc fi wa se lo : Int32} {a1 a2 a3 a4 a5 a6 a7 a8 a9 a10 a11 a12 a13 a14 a15 a16 : Nat → Int32} {n : Nat} (hD : ∀ m, m < 3 → tp_SD n m 64 a1 a2 a3 a4 a5 a6 a7) (hL : tp_SL n 64 a2 a4)
    (H : ∀ b1 b2, (∀ m, m < 3 → tp_SD n m 40 b1 b2 a3 a4 a5 a6 a7) → tp_SL n 40 b2 a4 → post (o, st, vo, he, ns, nm, sl, pa, tr, td, hp, cc, fi, wa, se, lo, b1, b2, a3, a4, a5, a6, a7, a8, a9, a10, a11, a12, a13, a14, a15, a16)) : wpX_shortenLogs post (o, st, vo, he, ns, nm, sl, pa, tr, td, hp, cc, fi, wa, se, lo, a1, a2, a3, a4, a5, a6, a7, a8, a9, a10, a11, a12, a13, a14, a15, a16) := by
  refine pk_loop (σ := (Nat → Int32) × (Nat → Int32)) (fun g i q => wX_shortenLogs_2 post o st vo he ns nm sl pa tr td hp cc fi wa se lo g (nI i) q.1 q.2 a3 a4 a5 a6 a7 a8 a9 a10 a11 a12 a13 a14 a15 a16) (fun i q => (∀ m, m < 3 → tp_SD n m (if m < i then 40 else 64) q.1 q.2 a3 a4 a5 a6 a7) ∧ q.2 3 = a2 3) 3 0 (a1, a2) (by omega) ⟨hD, rfl⟩ ?_ ?_
  · intro g ⟨b1, b2⟩ ⟨h1, h2⟩
    have h2' : b2 3 = a2 3 := h2
    have h1' : ∀ m, m < 3 → tp_SD n m 40 b1 b2 a3 a4 a5 a6 a7 := by
      intro m hm
      have := h1 m hm
      rw [if_pos hm] at this
      exact this
    obtain ⟨sz, s1, s2, s3⟩ := hL
    refine pk_le 3 3 (fun _ => pk_le sz 40 (fun hz => ?_) (fun hz => nm_e ?_) (by rw [← s1, ← h2'])) (fun z => absurd z (by omega))
    · exact H b1 b2 h1' ⟨sz, by rw [h2', s1], hz, s3⟩
    · refine H b1 _ (fun m hm => tp_SD_cg (h1' m hm) (by omega) (fun _ _ _ => rfl) (pk_un (by omega)) (fun _ _ => ⟨rfl, rfl, rfl, rfl⟩) (fun _ _ _ => rfl)) ⟨0, pk_us, by omega, fun i hi => absurd hi (by omega)⟩
  · intro g m ⟨b1, b2⟩ hm ⟨h1, h2⟩ hw
    have h2' : b2 3 = a2 3 := h2
    have cm : (nI m).toNatClampNeg = m := nI_clamp (by omega)
    obtain ⟨sz, s1, s2, s3⟩ := h1 m hm
    rw [if_neg (by omega)] at s2
    have s1' : b2 m = nI sz := s1
    refine pk_le 3 m (fun z => absurd z (by omega)) (fun _ => ⟨pk_in m 4 (by omega), pk_le sz 40 (fun hz => nm_r (nI_1 m) ?_) (fun hz => ?_) (by rw [cm]; exact s1')⟩)
    · refine hw (b1, b2) ⟨fun m' hm' => ?_, h2⟩
      by_cases e : m' = m
      · subst e
        rw [if_pos (by omega)]
        exact ⟨sz, s1, hz, s3⟩
      · have := h1 m' hm'
        by_cases l : m' < m
        · rw [if_pos l] at this
          rw [if_pos (by omega)]
          exact this
        · rw [if_neg l] at this
          rw [if_neg (by omega)]
          exact this
    · refine tp_short20 hm ?_
      refine hw (tp_mg b1 a7 m 4, upd b2 m 0) ⟨fun m' hm' => ?_, by show upd b2 m 0 3 = a2 3; rw [pk_un (by omega), h2']⟩
      by_cases e : m' = m
      · subst e
        rw [if_pos (by omega)]
        exact tp_SD_0 pk_us (fun k hk h3 => if_pos (by omega))
      · have t : ∀ lim, lim ≤ 64 → tp_SD n m' lim b1 b2 a3 a4 a5 a6 a7 → tp_SD n m' lim (tp_mg b1 a7 m 4) (upd b2 m 0) a3 a4 a5 a6 a7 := fun lim hl h => tp_SD_cg h hl (fun k hk h3 => if_neg (by omega)) (pk_un e) (fun _ _ => ⟨rfl, rfl, rfl, rfl⟩) (fun _ _ _ => rfl)
        have := h1 m' hm'
        by_cases l : m' < m
        · rw [if_pos l] at this
          rw [if_pos (by omega)]
          exact t 40 (by omega) this
        · rw [if_neg l] at this
          rw [if_neg (by omega)]
          exact t 64 (by omega) this
theorem tp_startCommit {post : St1 → Prop} {o st vo he nm sl pa tr td hp cc fi wa se lo : Int32} {a1 a2 a3 a4 a5 a6 a7 a8 a9 a10 a11 a12 a13 a14 a15 a16 : Nat → Int32} {c t : Nat} (ht : t < 4) (hH : tp_HR a8)
    (H : ∀ p, p < 8 → (∀ m, m < 3 → (p.testBit m = true ↔ ∃ k, k < 12 ∧ k % 3 = m ∧ a8 k = nI t)) → post (o, 1, 0, 0, nI (c + 1), nI (c + 1), nI t, nI p, tr, td, 0, cc, 0, 0, 0, 0, a1, a2, a3, a4, a5, a6, a7, a8, a9, a10, a11, a12, a13, a14, a15, a16)) : wpX_startCommit post (o, st, vo, he, nI c, nm, sl, pa, tr, td, hp, cc, fi, wa, se, lo, a1, a2, a3, a4, a5, a6, a7, a8, a9, a10, a11, a12, a13, a14, a15, a16) (nI t) := by
  refine nm_r (nI_1 c) ?_
  refine pk_loop (fun g i x => wX_startCommit_30 post (nI t) o st vo he (nI (c + 1)) (nI (c + 1)) (nI t) tr td hp cc fi wa se lo a1 a2 a3 a4 a5 a6 a7 a8 a9 a10 a11 a12 a13 a14 a15 a16 g (nI i) x) (fun i x => ∃ p, p < 8 ∧ x = nI p ∧ ∀ m, m < 3 → (p.testBit m = true ↔ m < i ∧ ∃ k, k < 12 ∧ k % 3 = m ∧ a8 k = nI t)) 3 0 0 (by omega) ⟨0, by omega, rfl, fun m hm => ⟨fun z => ?_, fun z => absurd z.1 (by omega)⟩⟩ ?_ ?_
  · rw [Nat.zero_testBit] at z
    exact absurd z (by decide)
  · intro g x ⟨p, hp8, e, h⟩
    subst e
    exact pk_le 3 3 (fun _ => H p hp8 (fun m hm => (h m hm).trans ⟨fun z => z.2, fun z => ⟨hm, z⟩⟩)) (fun z => absurd z (by omega))
  · intro g i x hi ⟨p, hp8, e, h⟩ hw
    subst e
    refine pk_le 3 i (fun z => absurd z (by omega)) (fun _ => tp_holdersOn hi hH (fun w hw16 hb => br_c (fun e => ?_) (fun e => ?_)))
    · rw [tp_bit0 (by omega) (by omega)] at e
      refine nm_r (show nI p ||| 0 = nI p by rw [← nI_0, tp_or, Nat.or_zero]) (nm_r (nI_1 i) (hw _ ⟨p, hp8, rfl, fun m hm => (h m hm).trans ⟨fun z => ⟨by omega, z.2⟩, fun z => ⟨?_, z.2⟩⟩⟩))
      by_cases em : m = i
      · subst em
        have := (hb t ht).mpr z.2
        rw [e] at this
        exact absurd this (by decide)
      · omega
    · rw [tp_bit0 (by omega) (by omega)] at e
      have e' : w.testBit t = true := by
        cases c : w.testBit t with
        | true => rfl
        | false => exact absurd c e
      refine nm_r (show nI p ||| ((1 : Int32) <<< (nI i &&& 31)) = nI (p ||| 2 ^ i) by rw [tp_shl i (by omega), tp_or]) (nm_r (nI_1 i) (hw _ ⟨p ||| 2 ^ i, tp_or_lt (n := 3) hp8 hi, rfl, fun m hm => ?_⟩))
      rw [tp_or_b, Bool.or_eq_true, decide_eq_true_iff, h m hm]
      constructor
      · rintro (z | z)
        · exact ⟨by omega, z.2⟩
        · subst z
          exact ⟨by omega, (hb t ht).mp e'⟩
      · intro z
        by_cases em : i = m
        · exact Or.inr em
        · exact Or.inl ⟨by omega, z.2⟩
section
variable {b d h0 : Nat → Int32} {W : Nat → Bool} {n s td f on m : Nat} {st vo he hp se lo pa tr cc : Int32} {σ : Nat → Nat} {q : List (Nat × Nat × Nat)} {a1 a2 a3 a4 a5 a6 a7 a8 a9 a10 a11 a12 a13 a14 a15 a16 : Nat → Int32} {post : Int32 → St1 → Prop}
theorem tp_isOver {post : Int32 → Prop} (H1 : ((st = 2 ∨ st = 3) ∧ he = pa) → post 1) (H0 : ¬ ((st = 2 ∨ st = 3) ∧ he = pa) → post 0) : wpX_isOver post (nI on, st, vo, he, nI n, nI n, nI s, pa, tr, nI td, hp, cc, nI f, nI q.length, se, lo, a1, a2, a3, a4, a5, a6, a7, a8, a9, a10, a11, a12, a13, a14, a15, a16) := by
  refine br_c (fun e2 => br_c (fun e => H1 ⟨Or.inl e2, e⟩) (fun e => H0 (fun z => e z.2))) (fun e2 => br_c (fun e3 => br_c (fun e => H1 ⟨Or.inr e3, e⟩) (fun e => H0 (fun z => e z.2))) (fun e3 => H0 (fun z => ?_)))
  rcases z.1 with y | y
  · exact e2 y
  · exact e3 y
theorem tp_ok_lt {st vo he hp se lo : Int32} {σ : Nat → Nat} {q : List (Nat × Nat × Nat)} (h : tp_ok (st, vo, he, hp, se, lo, σ, q) = true) : ∀ m, m < 3 → σ m < 6 := by
  have h' : (decide (σ 0 < 6) && decide (σ 1 < 6) && decide (σ 2 < 6)) = true := h
  rw [Bool.and_eq_true, Bool.and_eq_true, decide_eq_true_iff, decide_eq_true_iff, decide_eq_true_iff] at h'
  intro m hm
  match m, hm with
  | 0, _ => exact h'.1.1
  | 1, _ => exact h'.1.2
  | 2, _ => exact h'.2
theorem tp_good_ok {pa tr : Int32} {td g : Nat} {a : tp_A} (h : tp_good pa tr td g a = true) : tp_ok a = true := by
  cases g with
  | zero => exact absurd (show false = true from h) (by decide)
  | succ g =>
    unfold tp_good at h
    rw [Bool.and_eq_true] at h
    exact h.1
/-- the rounds -/
theorem tp_rounds (hK : tp_K b d h0 W n s pa) (htd : td < 3)
    (HE : ∀ (st vo he hp se lo : Int32) (σ : Nat → Nat) (q : List (Nat × Nat × Nat)) (f on : Nat) (a1 a2 a3 a4 a5 a6 a7 a8 a9 a10 a11 a12 a13 a14 a15 a16 : Nat → Int32), tp_fin pa tr (st, vo, he, hp, se, lo, σ, q) = true → (st = 2 ∨ st = 3) → tp_R b d h0 W n s st hp σ q f on a1 a2 a3 a4 a5 a6 a7 a8 a9 a10 a11 a12 a13 a14 a15 a16 → wX_commit_114 post (nI s) (nI on) st vo he (nI n) (nI n) (nI s) pa tr (nI td) hp cc (nI f) (nI q.length) se lo a1 a2 a3 a4 a5 a6 a7 a8 a9 a10 a11 a12 a13 a14 a15 a16) :
    ∀ (g r : Nat) (st vo he hp se lo : Int32) (σ : Nat → Nat) (q : List (Nat × Nat × Nat)) (f on : Nat) (a1 a2 a3 a4 a5 a6 a7 a8 a9 a10 a11 a12 a13 a14 a15 a16 : Nat → Int32), r + g ≤ 2000 → tp_good pa tr td g (st, vo, he, hp, se, lo, σ, q) = true → tp_R b d h0 W n s st hp σ q f on a1 a2 a3 a4 a5 a6 a7 a8 a9 a10 a11 a12 a13 a14 a15 a16 → wX_commit_75 post (nI s) g (nI r) (nI on) st vo he (nI n) (nI n) (nI s) pa tr (nI td) hp cc (nI f) (nI q.length) se lo a1 a2 a3 a4 a5 a6 a7 a8 a9 a10 a11 a12 a13 a14 a15 a16 := by
  intro g
  induction g with
  | zero =>
    intro r st vo he hp se lo σ q f on a1 a2 a3 a4 a5 a6 a7 a8 a9 a10 a11 a12 a13 a14 a15 a16 hr hg hR
    exact absurd (show false = true from hg) (by decide)
  | succ g ih =>
    intro r st vo he hp se lo σ q f on a1 a2 a3 a4 a5 a6 a7 a8 a9 a10 a11 a12 a13 a14 a15 a16 hr hg hR
    unfold tp_good at hg
    rw [Bool.and_eq_true] at hg
    obtain ⟨hok, hg2⟩ := hg
    refine pk_le 2000 r (fun z => absurd z (by omega)) (fun _ => tp_isOver (fun ho => br_f (by decide) ?_) (fun ho => br_t rfl ?_))
    · have ho' : tp_ovr pa (st, vo, he, hp, se, lo, σ, q) = true := decide_eq_true ho
      rw [if_pos ho'] at hg2
      exact HE st vo he hp se lo σ q f on _ _ _ _ _ _ _ _ _ _ _ _ _ _ _ _ hg2 ho.1 hR
    · have ho' : ¬ tp_ovr pa (st, vo, he, hp, se, lo, σ, q) = true := fun z => ho (of_decide_eq_true z)
      rw [if_neg ho'] at hg2
      have nx : ∀ ψ : St1 → Prop, (∀ (st vo he hp se lo : Int32) (σ : Nat → Nat) (q : List (Nat × Nat × Nat)) (f on : Nat) (a1 a2 a3 a4 a5 a6 a7 a8 a9 a10 a11 a12 a13 a14 a15 a16 : Nat → Int32), wX_commit_75 post (nI s) g (nI (r + 1)) (nI on) st vo he (nI n) (nI n) (nI s) pa tr (nI td) hp cc (nI f) (nI q.length) se lo a1 a2 a3 a4 a5 a6 a7 a8 a9 a10 a11 a12 a13 a14 a15 a16 → ψ (nI on, st, vo, he, nI n, nI n, nI s, pa, tr, nI td, hp, cc, nI f, nI q.length, se, lo, a1, a2, a3, a4, a5, a6, a7, a8, a9, a10, a11, a12, a13, a14, a15, a16)) → tp_P b d h0 W n s td pa tr cc ψ (tp_stp pa tr td (st, vo, he, hp, se, lo, σ, q)) := by
        intro ψ hψ st' vo' he' hp' se' lo' σ' q' f' on' a1' a2' a3' a4' a5' a6' a7' a8' a9' a10' a11' a12' a13' a14' a15' a16' e hR'
        rw [e] at hg2
        exact hψ st' vo' he' hp' se' lo' σ' q' f' on' a1' a2' a3' a4' a5' a6' a7' a8' a9' a10' a11' a12' a13' a14' a15' a16' (ih (r + 1) st' vo' he' hp' se' lo' σ' q' f' on' a1' a2' a3' a4' a5' a6' a7' a8' a9' a10' a11' a12' a13' a14' a15' a16' (by omega) hg2 hR')
      cases q with
      | nil =>
        refine br_t rfl ?_
        refine tp_remind_R hK hR (nx _ (fun st' vo' he' hp' se' lo' σ' q' f' on' a1' a2' a3' a4' a5' a6' a7' a8' a9' a10' a11' a12' a13' a14' a15' a16' hh => nm_r (nI_1 r) hh))
      | cons e q =>
        obtain ⟨kd, fr, to⟩ := e
        have hl : q.length + 1 ≤ 64 := hR.2.2.1.2.1
        refine br_f (nI_ne0 (n := q.length + 1) (by omega) (by omega)) ?_
        exact tp_deliver hK htd (tp_ok_lt hok) hR (tp_good_ok hg2) (nx _ (fun st' vo' he' hp' se' lo' σ' q' f' on' a1' a2' a3' a4' a5' a6' a7' a8' a9' a10' a11' a12' a13' a14' a15' a16' hh => nm_r (nI_1 r) hh))
end
end
section
/-! 13: commit, its end and the whole -/
theorem tp_C_base {b b' a8 a9 a10 a11 a12 : Nat → Int32} {s o : Nat} (h : tp_C b s o a8 a9 a10 a11 a12) (e : ∀ t, t < 4 → ∀ k, k < 12 → a8 k = nI t → b' k = b k) : tp_C b' s o a8 a9 a10 a11 a12 := by
  obtain ⟨c1, c2, c3, c4, c5, c6⟩ := h
  refine ⟨c1, c2, c3, c4, c5, fun t ht h2 hn ho => ?_⟩
  have z := c6 t ht h2 hn ho
  unfold tp_zs at z ⊢
  rw [tp_sum_cg 12 (g := fun k => if tp_wb (a9 t) k = true then a10 (t * 12 + k) - b k else 0) (fun k hk => ?_)]
  · exact z
  · by_cases w : tp_wb (a9 t) k = true
    · obtain ⟨v, hv, e9, hb⟩ := c3 t ht
      have w' := w
      rw [e9, tp_wb_nI hv] at w'
      rw [if_pos w, if_pos w, e t ht k hk (hb k hk w')]
    · rw [if_neg w, if_neg w]
theorem tp_C_ex {b a8 a9 a10 a11 a12 : Nat → Int32} {s o : Nat} (h : tp_C b 4 o a8 a9 a10 a11 a12) : tp_C b s o a8 a9 a10 a11 a12 := by
  obtain ⟨c1, c2, c3, c4, c5, c6⟩ := h
  exact ⟨c1, c2, c3, fun t ht _ => c4 t ht (by omega), fun t ht _ => c5 t ht (by omega), fun t ht h2 _ => c6 t ht h2 (by omega)⟩
theorem tp_SD_of {b d a1 a2 a3 a4 a5 a6 a7 : Nat → Int32} {W : Nat → Bool} {n x m : Nat} (h : tp_DS b d W n x m a1 a2 a3 a4 a5 a6 a7) (hx : x = 0 ∨ x = 4 ∨ x = 5) : tp_SD (n + 1) m 64 a1 a2 a3 a4 a5 a6 a7 := by
  obtain ⟨sz, s1, s2, s3, s4, s5, s6, s7⟩ := h
  have hcap := tp_cap_le x
  have no : tp_opn n x = 0 := if_neg (by omega)
  rw [no] at s5
  refine ⟨sz, s1, by omega, fun i hi => ?_, s4, tp_RP_cg s5 (fun _ _ => ⟨rfl, rfl, rfl, rfl⟩) (fun _ _ _ => rfl) s6⟩
  obtain ⟨c, hc, ec⟩ := s3 i hi
  refine ⟨c, ?_, ec⟩
  by_cases z : x < 2
  · rw [if_pos z] at hc
    omega
  · rw [if_neg z] at hc
    omega
section
variable {b d h0 : Nat → Int32} {W : Nat → Bool} {n s td f on m : Nat} {st vo he hp se lo pa tr cc : Int32} {σ : Nat → Nat} {q : List (Nat × Nat × Nat)} {a1 a2 a3 a4 a5 a6 a7 a8 a9 a10 a11 a12 a13 a14 a15 a16 : Nat → Int32} {post : Int32 → St1 → Prop}
theorem tp_132 {z : Int32} (hK : tp_K b d h0 W n s pa) (hσ : ∀ m, m < 3 → σ m = 0 ∨ σ m = 4 ∨ σ m = 5) (hb : ∀ k, k < 12 → W k = false → a7 k = b k) (hR : tp_R b d h0 W n s st hp σ q f on a1 a2 a3 a4 a5 a6 a7 a8 a9 a10 a11 a12 a13 a14 a15 a16)
    (H : ∀ on' b1 b2 b3 b4 b5 b6 b8 b9 b11, tp_I (n + 1) on' b1 b2 b3 b4 b5 b6 a7 b8 b9 a10 b11 a12 → post z (nI on', 0, vo, he, nI n, nI n, nI s, pa, tr, nI td, hp, cc + z, nI f, nI q.length, se, lo, b1, b2, b3, b4, b5, b6, a7, b8, b9, a10, b11, a12, a13, a14, a15, a16)) : wX_commit_132 post (nI s) z (nI on) st vo he (nI n) (nI n) (nI s) pa tr (nI td) hp cc (nI f) (nI q.length) se lo a1 a2 a3 a4 a5 a6 a7 a8 a9 a10 a11 a12 a13 a14 a15 a16 := by
  obtain ⟨k1, k2, hs, hW, k5, k6⟩ := hK
  obtain ⟨r1, r2, r3, r4, r5⟩ := hR
  obtain ⟨sz, l1, l2, l3, l4, l5⟩ := r5
  obtain ⟨hC, hD, hS⟩ := tp_RD_log3 (sz := sz) (y := nI (sz + 1)) (x1 := 6) (x2 := nI n) (x3 := 0) (x4 := 0) r4
  obtain ⟨q1, q2, q3⟩ := hS hs
  obtain ⟨v, hv, h9, _⟩ := hC.2.2.1 s hs
  refine tp_log (m := 3) (kd := 6) (ky := 0) (by omega) (by omega) (by omega) l1 (by omega) ?_
  refine tp_rollBack hs (tp_C_HR hC) h9 hv (nm_e ?_)
  refine tp_shorten (n := n + 1) (fun m hm => tp_SD_of (hD m hm) (hσ m hm)) ⟨sz + 1, pk_us, by omega, fun i hi => ?_⟩ (fun b1 b2 hD' hL' => ?_)
  · by_cases e : i = sz
    · subst e
      exact ⟨n, by omega, pk_us⟩
    · obtain ⟨c, hc, ec⟩ := l4 i (by omega)
      exact ⟨c, by omega, by rw [pk_un (by omega), ec]⟩
  · refine H _ _ _ _ _ _ _ _ _ _ ⟨tp_C_base (tp_C_rb (s' := 4) hC hs (fun t' h1 _ _ => h1)) (fun t ht k hk e => hb k hk ?_), hD', hL'⟩
    have es : a8 k ≠ nI s := by
      intro y
      rw [tp_rb_t hk y] at e
      exact absurd e.symm (tp_ne1 (by omega))
    rw [tp_rb_f es] at e
    cases w : W k with
    | false => rfl
    | true =>
      have hw := hW k hk w
      rcases q2 k hk with y | y
      · rw [y] at e
        exact absurd e.symm (tp_ne1 (by omega))
      · rw [hw] at y
        exact absurd y es
theorem tp_end (hK : tp_K b d h0 W n s pa) (hfin : tp_fin pa tr (st, vo, he, hp, se, lo, σ, q) = true) (h23 : st = 2 ∨ st = 3) (hR : tp_R b d h0 W n s st hp σ q f on a1 a2 a3 a4 a5 a6 a7 a8 a9 a10 a11 a12 a13 a14 a15 a16)
    (H : ∀ r on' b1 b2 b3 b4 b5 b6 b8 b9 b11, tp_I (n + 1) on' b1 b2 b3 b4 b5 b6 a7 b8 b9 a10 b11 a12 → ((r = 1 ∧ ∀ k, k < 12 → a7 k = d k) ∨ (r = 0 ∧ ¬ (tr = 0 ∨ ¬ tr < 6) ∧ ∀ k, k < 12 → a7 k = b k)) →
      post r (nI on', 0, vo, he, nI n, nI n, nI s, pa, tr, nI td, hp, cc + r, nI f, nI q.length, se, lo, b1, b2, b3, b4, b5, b6, a7, b8, b9, a10, b11, a12, a13, a14, a15, a16)) : wX_commit_114 post (nI s) (nI on) st vo he (nI n) (nI n) (nI s) pa tr (nI td) hp cc (nI f) (nI q.length) se lo a1 a2 a3 a4 a5 a6 a7 a8 a9 a10 a11 a12 a13 a14 a15 a16 := by
  have hf : ((tp_fm pa st 0 (σ 0) && tp_fm pa st 1 (σ 1) && tp_fm pa st 2 (σ 2)) && decide ((tr = 0 ∨ ¬ tr < 6) → st = 2)) = true := hfin
  rw [Bool.and_eq_true, Bool.and_eq_true, Bool.and_eq_true, decide_eq_true_iff] at hf
  obtain ⟨⟨⟨f0, f1⟩, f2⟩, fs⟩ := hf
  have fm : ∀ m, m < 3 → tp_fm pa st m (σ m) = true := by
    intro m hm
    match m, hm with
    | 0, _ => exact f0
    | 1, _ => exact f1
    | 2, _ => exact f2
  have fm2 : ∀ m, m < 3 → (((pa >>> (nI m &&& 31)) &&& 1) = 0 ∧ σ m = 0) ∨ (σ m = if st = 2 then 4 else 5) := by
    intro m hm
    have := fm m hm
    unfold tp_fm at this
    by_cases c : ((pa >>> (nI m &&& 31)) &&& 1) = 0
    · rw [if_pos c, decide_eq_true_iff] at this
      exact Or.inl ⟨c, this⟩
    · rw [if_neg c, decide_eq_true_iff] at this
      exact Or.inr this
  have hσ : ∀ m, m < 3 → σ m = 0 ∨ σ m = 4 ∨ σ m = 5 := by
    intro m hm
    rcases fm2 m hm with z | z
    · exact Or.inl z.2
    · by_cases c : st = 2
      · rw [if_pos c] at z
        exact Or.inr (Or.inl z)
      · rw [if_neg c] at z
        exact Or.inr (Or.inr z)
  have num : ∀ k, k < 12 → a7 k = tp_nm b d (σ (k % 3)) k := by
    intro k hk
    obtain ⟨sz, s1, s2, s3, s4, s5, s6, s7⟩ := hR.2.2.2.1.2.1 (k % 3) (by omega)
    exact s6 k hk rfl
  have hb : ∀ k, k < 12 → W k = false → a7 k = b k := by
    intro k hk hw
    rw [num k hk]
    unfold tp_nm
    by_cases c : σ (k % 3) = 4
    · rw [if_pos c]
      exact hK.2.2.2.2.1 k hk hw
    · rw [if_neg c]
  obtain ⟨sz, l1, l2, l3, l4, l5⟩ := hR.2.2.2.2
  refine tp_isLogged l1 (by omega) (fun z => br_f (by decide) ?_) (fun z => br_t rfl ?_)
  · have e2 : st = 2 := l5.mp z
    refine tp_132 hK hσ hb hR (fun on' b1 b2 b3 b4 b5 b6 b8 b9 b11 hI => H 1 on' b1 b2 b3 b4 b5 b6 b8 b9 b11 hI (Or.inl ⟨rfl, fun k hk => ?_⟩))
    rw [num k hk]
    rcases fm2 (k % 3) (by omega) with y | y
    · have nw : W k = false := by
        cases w : W k with
        | false => rfl
        | true => exact absurd ⟨k, hk, rfl, hK.2.2.2.1 k hk w⟩ ((hK.2.2.2.2.2 (k % 3) (by omega)).mp y.1)
      unfold tp_nm
      rw [if_neg (by omega)]
      exact (hK.2.2.2.2.1 k hk nw).symm
    · rw [if_pos e2] at y
      unfold tp_nm
      rw [if_pos y]
  · have e2 : ¬ st = 2 := fun y => z (l5.mpr y)
    refine tp_132 hK hσ hb hR (fun on' b1 b2 b3 b4 b5 b6 b8 b9 b11 hI => H 0 on' b1 b2 b3 b4 b5 b6 b8 b9 b11 hI (Or.inr ⟨rfl, fun y => e2 (fs y), fun k hk => ?_⟩))
    rw [num k hk]
    rcases fm2 (k % 3) (by omega) with y | y
    · unfold tp_nm
      rw [if_neg (by omega)]
    · rw [if_neg e2] at y
      unfold tp_nm
      rw [if_neg (by omega)]
end
/-- what a transaction sees -/
def tp_seen (a7 a9 a10 : Nat → Int32) (t : Nat) : Nat → Int32 := fun k => if tp_wb (a9 t) k = true then a10 (t * 12 + k) else a7 k
theorem tp_commit {post : Int32 → St1 → Prop} {vo he nm sl pa tr td hp cc fi wa se lo : Int32} {a1 a2 a3 a4 a5 a6 a7 a8 a9 a10 a11 a12 a13 a14 a15 a16 : Nat → Int32} {c on t x y : Nat} (hI : tp_I (c + 1) on a1 a2 a3 a4 a5 a6 a7 a8 a9 a10 a11 a12) (hc : c < 2 ^ 30) (ht : t < 4) (hx : x < 8) (hy : y < 3)
    (H0 : on.testBit t = false → post (-100000) (nI on, 0, vo, he, nI c, nm, sl, pa, tr, td, hp, cc, fi, wa, se, lo, a1, a2, a3, a4, a5, a6, a7, a8, a9, a10, a11, a12, a13, a14, a15, a16))
    (H1 : on.testBit t = true → ∀ (r : Int32) (on' : Nat) (vo' he' nm' sl' pa' tr' td' hp' fi' wa' se' lo' : Int32) (b1 b2 b3 b4 b5 b6 b7 b8 b9 b10 b11 b12 b13 b14 b15 b16 : Nat → Int32), tp_I (c + 2) on' b1 b2 b3 b4 b5 b6 b7 b8 b9 b10 b11 b12 →
      ((r = 1 ∧ ∀ k, k < 12 → b7 k = tp_seen a7 a9 a10 t k) ∨ (r = 0 ∧ ¬ (nI x = 0 ∨ ¬ nI x < 6) ∧ ∀ k, k < 12 → b7 k = a7 k)) →
      post r (nI on', 0, vo', he', nI (c + 1), nm', sl', pa', tr', td', hp', cc + r, fi', wa', se', lo', b1, b2, b3, b4, b5, b6, b7, b8, b9, b10, b11, b12, b13, b14, b15, b16)) : wpX_commit post (nI on, 0, vo, he, nI c, nm, sl, pa, tr, td, hp, cc, fi, wa, se, lo, a1, a2, a3, a4, a5, a6, a7, a8, a9, a10, a11, a12, a13, a14, a15, a16) (nI t) (nI x) (nI y) := by
  obtain ⟨hC, hD, hL⟩ := hI
  unfold wpX_commit
  refine tp_isOpen ht hC.1 (fun e => br_t rfl (H0 e)) (fun eo => br_f (by decide) ?_)
  refine pk_lt x 0 (fun z => absurd z (by omega)) (fun _ => pk_lt 7 x (fun z => absurd z (by omega)) (fun _ => pk_lt y 0 (fun z => absurd z (by omega)) (fun _ => pk_lt y 3 (fun _ => ?_) (fun z => absurd z (by omega)))))
  refine tp_startCommit ht (tp_C_HR hC) (fun p hp8 hpb => ?_)
  have hK : tp_K a7 (tp_seen a7 a9 a10 t) a8 (fun k => tp_wb (a9 t) k) (c + 1) t (nI p) := by
    refine ⟨by omega, by omega, ht, fun k hk hw => ?_, fun k hk hw => ?_, fun m hm => ?_⟩
    · obtain ⟨v, hv, e9, hb⟩ := hC.2.2.1 t ht
      have hw' : tp_wb (a9 t) k = true := hw
      rw [e9, tp_wb_nI hv] at hw'
      exact hb k hk hw'
    · have hw' : tp_wb (a9 t) k = false := hw
      unfold tp_seen
      rw [hw', if_neg (by decide)]
    · rw [tp_bit0 (by omega) (by omega), ← hpb m hm]
      cases p.testBit m with
      | true => exact ⟨fun z => absurd z (by decide), fun z => absurd rfl z⟩
      | false => exact ⟨fun _ z => absurd z (by decide), fun _ => rfl⟩
  have hR : tp_R a7 (tp_seen a7 a9 a10 t) a8 (fun k => tp_wb (a9 t) k) (c + 1) t 1 0 (fun _ => 0) [] 0 on a1 a2 a3 a4 a5 a6 a7 a8 a9 a10 a11 a12 a13 a14 a15 a16 := by
    refine ⟨by decide, Or.inl rfl, ⟨by omega, by show 0 ≤ 64; omega, fun i e he => absurd he (by simp)⟩, ⟨tp_C_ex hC, fun m hm => ?_, fun _ => ⟨eo, fun k hk => Or.inr rfl, fun m hm => ⟨fun k hk h3 => ⟨fun _ e => e, fun _ hw => hK.2.2.2.1 k hk hw, fun z => absurd z (by dsimp only; omega), fun _ => ⟨rfl, fun hw => ?_⟩⟩, ?_, fun _ => hC.2.2.2.2.1 t ht (by omega) eo m hm, fun z => absurd z (by dsimp only; omega)⟩⟩⟩, ?_⟩
    · obtain ⟨sz, s1, s2, s3, s4, s5⟩ := hD m hm
      exact ⟨sz, s1, s2, s3, s4, s5, fun _ _ _ => rfl, fun z => absurd z (by dsimp only; omega)⟩
    · have hw' : tp_wb (a9 t) k = true := hw
      unfold tp_seen
      rw [if_pos hw']
    · exact hC.2.2.2.1 t ht (by omega) m hm
    · obtain ⟨sz, s1, s2, s3⟩ := hL
      refine ⟨sz, s1, by omega, fun _ => s2, fun i hi => ?_, ⟨fun ⟨i, hi, _, z2⟩ => ?_, fun z => absurd z (by decide)⟩⟩
      · obtain ⟨c', hc', e⟩ := s3 i hi
        exact ⟨c', by omega, e⟩
      · obtain ⟨c', hc', e⟩ := s3 i hi
        rw [e, nI_eq (by omega) (by omega)] at z2
        omega
  have hall := tp_all p hp8 x hx y hy
  have go : ∀ (st vo he hp se lo : Int32) (σ : Nat → Nat) (q : List (Nat × Nat × Nat)) (f on : Nat) (a1' a2' a3' a4' a5' a6' a7' a8' a9' a10' a11' a12' a13' a14' a15' a16' : Nat → Int32), tp_st0 (nI p) (nI x) y = (st, vo, he, hp, se, lo, σ, q) → tp_R a7 (tp_seen a7 a9 a10 t) a8 (fun k => tp_wb (a9 t) k) (c + 1) t st hp σ q f on a1' a2' a3' a4' a5' a6' a7' a8' a9' a10' a11' a12' a13' a14' a15' a16' →
      wX_commit_68 post (nI t) (nI on) st vo he (nI (c + 1)) (nI (c + 1)) (nI t) (nI p) (nI x) (nI y) hp cc (nI f) (nI q.length) se lo a1' a2' a3' a4' a5' a6' a7' a8' a9' a10' a11' a12' a13' a14' a15' a16' := by
    intro st vo he hp se lo σ q f on a1' a2' a3' a4' a5' a6' a7' a8' a9' a10' a11' a12' a13' a14' a15' a16' e0 hR'
    rw [e0] at hall
    have e1 : st = 1 ∧ σ y < 6 := by
      unfold tp_st0 at e0
      by_cases g : ((nI p >>> (nI y &&& 31)) &&& 1) = 0 ∧ nI x = 1
      · rw [if_pos g] at e0
        have e2 : (1, 0, 0, 1, 0, 0, tp_up (fun _ => 0) y (tp_bx (nI p) y 0), []) = (st, vo, he, hp, se, lo, σ, q) := e0
        have e3 := (Prod.mk.inj e2).1
        have e4 : tp_up (fun _ => 0) y (tp_bx (nI p) y 0) = σ := congrArg (fun a : tp_A => a.2.2.2.2.2.2.1) e2
        refine ⟨e3.symm, ?_⟩
        rw [← e4]
        unfold tp_up tp_bx
        rw [if_pos rfl, if_pos rfl, if_pos g.1]
        omega
      · rw [if_neg g] at e0
        have e3 := (Prod.mk.inj e0).1
        have e4 : (fun _ => 0) = σ := congrArg (fun a : tp_A => a.2.2.2.2.2.2.1) e0
        refine ⟨e3.symm, ?_⟩
        rw [← e4]
        show 0 < 6
        omega
    refine tp_decide (cc := cc) hK hy e1.2 hR' (by rw [e1.1]; decide) ?_
    intro st2 vo2 he2 hp2 se2 lo2 σ2 q2 f2 on2 a12 a22 a32 a42 a52 a62 a72 a82 a92 a102 a112 a122 a132 a142 a152 a162 ea hR2
    rw [ea] at hall
    refine ⟨400, tp_rounds hK hy ?_ 400 0 st2 vo2 he2 hp2 se2 lo2 σ2 q2 f2 on2 a12 a22 a32 a42 a52 a62 a72 a82 a92 a102 a112 a122 a132 a142 a152 a162 (by omega) hall hR2⟩
    intro st3 vo3 he3 hp3 se3 lo3 σ3 q3 f3 on3 a13 a23 a33 a43 a53 a63 a73 a83 a93 a103 a113 a123 a133 a143 a153 a163 hfin h23 hR3
    refine tp_end hK hfin h23 hR3 (fun r on4 b1 b2 b3 b4 b5 b6 b8 b9 b11 hI' hr => ?_)
    exact H1 eo r on4 _ _ _ _ _ _ _ _ _ _ _ _ b1 b2 b3 b4 b5 b6 _ b8 b9 _ b11 _ _ _ _ _ hI' hr
  refine tp_isPart (fun ep => br_t rfl ?_) (fun ep => br_f (by decide) ?_)
  · refine tp_strikes (Or.inl rfl) (fun hit => br_f (by decide) ?_) (fun nohit => br_t rfl ?_)
    · refine tp_break_R (td := y) (q := []) (f := 0) (vo := 0) (he := 0) (se := 0) (lo := 0) (hp := 0) (st := 1) hK hy (by omega) hR (fun r => ?_)
      intro st vo he hp se lo σ q f on a1' a2' a3' a4' a5' a6' a7' a8' a9' a10' a11' a12' a13' a14' a15' a16' e hR'
      refine go st vo he hp se lo σ q f on a1' a2' a3' a4' a5' a6' a7' a8' a9' a10' a11' a12' a13' a14' a15' a16' ?_ hR'
      rw [← e]
      exact if_pos ⟨ep, hit.1⟩
    · refine go 1 0 0 0 0 0 (fun _ => 0) [] 0 on a1 a2 a3 a4 a5 a6 a7 a8 a9 a10 a11 a12 a13 a14 a15 a16 (if_neg (fun z => nohit ⟨z.2, rfl, rfl⟩)) hR
  · exact go 1 0 0 0 0 0 (fun _ => 0) [] 0 on a1 a2 a3 a4 a5 a6 a7 a8 a9 a10 a11 a12 a13 a14 a15 a16 (if_neg (fun z => ep z.1)) hR
end
section
/-! 14: looking: peek, view, total, sums, keys, holders -/
theorem tp_isKey {post : Int32 → Prop} {k : Nat} (hk : k < 12) (H : post 1) : wpX_isKey post () (nI k) :=
  pk_lt k 0 (fun z => absurd z (by omega)) (fun _ => pk_le 12 k (fun z => absurd z (by omega)) (fun _ => H))
theorem tp_peek {post : Int32 → Prop} {o st vo he ns nm sl pa tr td hp cc fi wa se lo : Int32} {a1 a2 a3 a4 a5 a6 a7 a8 a9 a10 a11 a12 a13 a14 a15 a16 : Nat → Int32} {k : Nat} (hk : k < 12) (H : post (a7 k)) : wpX_peek post (o, st, vo, he, ns, nm, sl, pa, tr, td, hp, cc, fi, wa, se, lo, a1, a2, a3, a4, a5, a6, a7, a8, a9, a10, a11, a12, a13, a14, a15, a16) (nI k) := by
  unfold wpX_peek
  exact tp_isKey hk (br_f (by decide) ⟨pk_in k 12 hk, by rw [nI_clamp (by omega)]; exact H⟩)
def tp_vw (f : Nat → Int32) : Nat → Int64
  | 0 => 0
  | k + 1 => tp_vw f k * 31 + (f k).toInt64
theorem tp_vw_cg {f g : Nat → Int32} : ∀ n, (∀ k, k < n → f k = g k) → tp_vw f n = tp_vw g n
  | 0, _ => rfl
  | n + 1, h => by
    show tp_vw f n * 31 + (f n).toInt64 = tp_vw g n * 31 + (g n).toInt64
    rw [tp_vw_cg n (fun k hk => h k (by omega)), h n (by omega)]
theorem tp_view {post : Int64 → Prop} {o st vo he ns nm sl pa tr td hp cc fi wa se lo : Int32} {a1 a2 a3 a4 a5 a6 a7 a8 a9 a10 a11 a12 a13 a14 a15 a16 : Nat → Int32} (H : post (tp_vw a7 12)) : wpL_view post (o, st, vo, he, ns, nm, sl, pa, tr, td, hp, cc, fi, wa, se, lo, a1, a2, a3, a4, a5, a6, a7, a8, a9, a10, a11, a12, a13, a14, a15, a16) := by
  refine pk_loop (fun n i x => wL_view_4 post o st vo he ns nm sl pa tr td hp cc fi wa se lo a1 a2 a3 a4 a5 a6 a7 a8 a9 a10 a11 a12 a13 a14 a15 a16 n x (nI i)) (fun i x => x = tp_vw a7 i) 12 0 0 (by omega) rfl ?_ ?_
  · intro n x h
    subst h
    exact pk_le 12 12 (fun _ => H) (fun z => absurd z (by omega))
  · intro n i x hi h hw
    subst h
    exact pk_le 12 i (fun z => absurd z (by omega)) (fun _ => tp_peek hi (nm_e (nm_r (nI_1 i) (hw _ rfl))))
theorem tp_total {post : Int32 → Prop} {o st vo he ns nm sl pa tr td hp cc fi wa se lo : Int32} {a1 a2 a3 a4 a5 a6 a7 a8 a9 a10 a11 a12 a13 a14 a15 a16 : Nat → Int32} (H : post (tp_sum a7 12)) : wpX_total post (o, st, vo, he, ns, nm, sl, pa, tr, td, hp, cc, fi, wa, se, lo, a1, a2, a3, a4, a5, a6, a7, a8, a9, a10, a11, a12, a13, a14, a15, a16) := by
  refine pk_loop (fun n i x => wX_total_4 post o st vo he ns nm sl pa tr td hp cc fi wa se lo a1 a2 a3 a4 a5 a6 a7 a8 a9 a10 a11 a12 a13 a14 a15 a16 n x (nI i)) (fun i x => x = tp_sum a7 i) 12 0 0 (by omega) rfl ?_ ?_
  · intro n x h
    subst h
    exact pk_le 12 12 (fun _ => H) (fun z => absurd z (by omega))
  · intro n i x hi h hw
    subst h
    exact pk_le 12 i (fun z => absurd z (by omega)) (fun _ => ⟨pk_in i 12 hi, nm_e (nm_r (nI_1 i) (hw _ (by rw [nI_clamp (by omega)]; rfl)))⟩)
theorem tp_sumM {post : Int32 → Prop} {o st vo he ns nm sl pa tr td hp cc fi wa se lo : Int32} {a1 a2 a3 a4 a5 a6 a7 a8 a9 a10 a11 a12 a13 a14 a15 a16 : Nat → Int32} {m : Nat} (hm : m < 3) (H : post (tp_sum (fun i => a7 (m + 3 * i)) 4)) : wpX_sum post (o, st, vo, he, ns, nm, sl, pa, tr, td, hp, cc, fi, wa, se, lo, a1, a2, a3, a4, a5, a6, a7, a8, a9, a10, a11, a12, a13, a14, a15, a16) (nI m) := by
  refine pk_lt m 0 (fun z => absurd z (by omega)) (fun _ => pk_lt m 3 (fun _ => ?_) (fun z => absurd z (by omega)))
  refine pk_loop (fun n i x => wX_sum_16 post o st vo he ns nm sl pa tr td hp cc fi wa se lo a1 a2 a3 a4 a5 a6 a7 a8 a9 a10 a11 a12 a13 a14 a15 a16 n x (nI (m + 3 * i))) (fun i x => x = tp_sum (fun i => a7 (m + 3 * i)) i) 4 0 0 (by omega) rfl ?_ ?_
  · intro n x h
    subst h
    exact pk_le 12 (m + 3 * 4) (fun _ => H) (fun z => absurd z (by omega))
  · intro n i x hi h hw
    subst h
    exact pk_le 12 (m + 3 * i) (fun z => absurd z (by omega)) (fun _ => ⟨pk_in (m + 3 * i) 12 (by omega), nm_e (nm_r (tp_p3 m i) (hw _ (by rw [nI_clamp (by omega)]; rfl)))⟩)
theorem tp_sum12 (a : Nat → Int32) : tp_sum a 12 = (tp_sum (fun i => a (0 + 3 * i)) 4 + tp_sum (fun i => a (1 + 3 * i)) 4) + tp_sum (fun i => a (2 + 3 * i)) 4 := by
  show ((((((((((((0 + a 0) + a 1) + a 2) + a 3) + a 4) + a 5) + a 6) + a 7) + a 8) + a 9) + a 10) + a 11) = (((((0 + a 0) + a 3) + a 6) + a 9) + ((((0 + a 1) + a 4) + a 7) + a 10)) + ((((0 + a 2) + a 5) + a 8) + a 11)
  grind
theorem tp_sum1 (a : Nat → Int32) : tp_sum (fun i => a (1 + 3 * i)) 4 = ((a 1 + a 4) + a 7) + a 10 := by
  show ((((0 + a 1) + a 4) + a 7) + a 10) = ((a 1 + a 4) + a 7) + a 10
  grind
theorem tp_sums {post : Int32 → Prop} {o st vo he ns nm sl pa tr td hp cc fi wa se lo : Int32} {a1 a2 a3 a4 a5 a6 a7 a8 a9 a10 a11 a12 a13 a14 a15 a16 : Nat → Int32} (H : post 1) : wpL_sums post (o, st, vo, he, ns, nm, sl, pa, tr, td, hp, cc, fi, wa, se, lo, a1, a2, a3, a4, a5, a6, a7, a8, a9, a10, a11, a12, a13, a14, a15, a16) := by
  refine pk_loop (fun n i x => wL_sums_4 post o st vo he ns nm sl pa tr td hp cc fi wa se lo a1 a2 a3 a4 a5 a6 a7 a8 a9 a10 a11 a12 a13 a14 a15 a16 n x (nI i)) (fun i x => x = tp_sum a7 i) 12 0 0 (by omega) rfl ?_ ?_
  · intro n x h
    subst h
    refine pk_le 12 12 (fun _ => ?_) (fun z => absurd z (by omega))
    refine tp_total (br_t rfl (tp_sumM (m := 0) (by omega) (tp_sumM (m := 1) (by omega) (tp_sumM (m := 2) (by omega) (br_t (tp_sum12 a7) ?_)))))
    refine tp_sumM (m := 1) (by omega) (tp_peek (k := 1) (by omega) (tp_peek (k := 4) (by omega) (tp_peek (k := 7) (by omega) (tp_peek (k := 10) (by omega) (br_t (tp_sum1 a7) H)))))
  · intro n i x hi h hw
    subst h
    exact pk_le 12 i (fun z => absurd z (by omega)) (fun _ => tp_peek hi (nm_e (nm_r (nI_1 i) (hw _ rfl))))
theorem tp_keys {post : Int32 → Prop} {st vo he ns nm sl pa tr td hp cc fi wa se lo : Int32} {a1 a2 a3 a4 a5 a6 a7 a8 a9 a10 a11 a12 a13 a14 a15 a16 : Nat → Int32} {b : Nat → Int32} {on t : Nat} (ht : t < 4) (hC : tp_C b 4 on a8 a9 a10 a11 a12) (H : ∀ ks, ks < 4096 → (∀ k, k < 12 → (ks.testBit k = true ↔ a8 k = nI t)) → (on.testBit t = false → ks = 0) → post (nI ks)) : wpX_keys post (nI on, st, vo, he, ns, nm, sl, pa, tr, td, hp, cc, fi, wa, se, lo, a1, a2, a3, a4, a5, a6, a7, a8, a9, a10, a11, a12, a13, a14, a15, a16) (nI t) := by
  unfold wpX_keys
  refine tp_isOpen ht hC.1 (fun e => br_t rfl ?_) (fun e => br_f (by decide) ?_)
  · refine H 0 (by omega) (fun k hk => ⟨fun z => ?_, fun z => ?_⟩) (fun _ => rfl)
    · rw [Nat.zero_testBit] at z
      exact absurd z (by decide)
    · rcases hC.2.1 k hk with y | ⟨t', ht', y, yo⟩
      · rw [y] at z
        exact absurd z.symm (tp_ne1 (by omega))
      · rw [y, nI_eq (by omega) (by omega)] at z
        rw [z, e] at yo
        exact absurd yo (by decide)
  · refine pk_loop (fun n i x => wX_keys_14 post (nI t) (nI on) st vo he ns nm sl pa tr td hp cc fi wa se lo a1 a2 a3 a4 a5 a6 a7 a8 a9 a10 a11 a12 a13 a14 a15 a16 n x (nI i)) (fun i x => ∃ ks, ks < 4096 ∧ x = nI ks ∧ ∀ k, k < 12 → (ks.testBit k = true ↔ k < i ∧ a8 k = nI t)) 12 0 0 (by omega) ⟨0, by omega, rfl, fun k hk => ⟨fun z => ?_, fun z => absurd z.1 (by omega)⟩⟩ ?_ ?_
    · rw [Nat.zero_testBit] at z
      exact absurd z (by decide)
    · intro n x ⟨ks, h1, h2, h3⟩
      subst h2
      exact pk_le 12 12 (fun _ => H ks h1 (fun k hk => (h3 k hk).trans ⟨fun z => z.2, fun z => ⟨hk, z⟩⟩) (fun z => absurd (e.symm.trans z) (by decide))) (fun z => absurd z (by omega))
    · intro n i x hi ⟨ks, h1, h2, h3⟩ hw
      subst h2
      refine pk_le 12 i (fun z => absurd z (by omega)) (fun _ => ⟨pk_in i 12 hi, ?_⟩)
      rw [nI_clamp (show i < 2 ^ 31 by omega)]
      refine br_c (fun e8 => ?_) (fun e8 => ?_)
      · refine nm_r (show nI ks ||| ((1 : Int32) <<< (nI i &&& 31)) = nI (ks ||| 2 ^ i) by rw [tp_shl i (by omega), tp_or]) (nm_r (nI_1 i) (hw _ ⟨ks ||| 2 ^ i, tp_or_lt (n := 12) h1 hi, rfl, fun k hk => ?_⟩))
        rw [tp_or_b, Bool.or_eq_true, decide_eq_true_iff, h3 k hk]
        constructor
        · rintro (z | z)
          · exact ⟨by omega, z.2⟩
          · subst z
            exact ⟨by omega, e8⟩
        · intro z
          by_cases ek : i = k
          · exact Or.inr ek
          · exact Or.inl ⟨by omega, z.2⟩
      · refine nm_r (show nI ks ||| 0 = nI ks by rw [← nI_0, tp_or, Nat.or_zero]) (nm_r (nI_1 i) (hw _ ⟨ks, h1, rfl, fun k hk => (h3 k hk).trans ⟨fun z => ⟨by omega, z.2⟩, fun z => ⟨?_, z.2⟩⟩⟩))
        by_cases ek : k = i
        · rw [ek] at z
          exact absurd z.2 e8
        · omega
theorem tp_200 {t : Nat} (ht : t < 4) : ((-200000 : Int32)) ≠ nI t := by
  have : ∀ t, t < 4 → ((-200000 : Int32)) ≠ nI t := by decide +kernel
  exact this t ht
theorem tp_holder {post : Int32 → Prop} {o st vo he ns nm sl pa tr td hp cc fi wa se lo : Int32} {a1 a2 a3 a4 a5 a6 a7 a8 a9 a10 a11 a12 a13 a14 a15 a16 : Nat → Int32} {k : Nat} (hk : k < 12) (H1 : a8 k = -1 → post (-200000)) (H2 : ¬ a8 k = -1 → post (a8 k)) : wpX_holder post (o, st, vo, he, ns, nm, sl, pa, tr, td, hp, cc, fi, wa, se, lo, a1, a2, a3, a4, a5, a6, a7, a8, a9, a10, a11, a12, a13, a14, a15, a16) (nI k) := by
  unfold wpX_holder
  refine tp_isKey hk (br_f (by decide) ⟨pk_in k 12 hk, ?_⟩)
  rw [nI_clamp (show k < 2 ^ 31 by omega)]
  exact br_c H1 (fun e => ⟨pk_in k 12 hk, H2 e⟩)
theorem tp_sub0 {v ks : Nat} (hv : v < 4096) (h : ∀ k, k < 12 → v.testBit k = true → ks.testBit k = true) : nI v &&& (nI ks ^^^ (-1)) = 0 := by
  rw [show (-1 : Int32) = nI 4294967295 from by decide, tp_xor, tp_and]
  have e : v &&& (ks ^^^ 4294967295) = 0 := by
    apply Nat.eq_of_testBit_eq
    intro j
    rw [Nat.zero_testBit, Nat.testBit_and, Nat.testBit_xor, show 4294967295 = 2 ^ 32 - 1 from rfl, Nat.testBit_two_pow_sub_one]
    by_cases hj : j < 12
    · cases c : v.testBit j with
      | false => rfl
      | true =>
        rw [h j hj c, decide_eq_true (by omega)]
        rfl
    · have : v.testBit j = false := by
        apply Nat.testBit_lt_two_pow
        have : 2 ^ 12 ≤ 2 ^ j := Nat.pow_le_pow_right (by omega) (by omega)
        omega
      rw [this]
      rfl
  rw [e, nI_0]
theorem tp_holders15 {post : Int32 → Prop} {J : Int32 → Prop} {st vo he ns nm sl pa tr td hp cc fi wa se lo : Int32} {a1 a2 a3 a4 a5 a6 a7 a8 a9 a10 a11 a12 a13 a14 a15 a16 : Nat → Int32} {b : Nat → Int32} {on t ks : Nat} (ht : t < 4) (hC : tp_C b 4 on a8 a9 a10 a11 a12) (hks : ks < 4096) (hkb : ∀ k, k < 12 → (ks.testBit k = true ↔ a8 k = nI t)) (H : J (nI (t + 1))) : ∃ g, wL_holders_15 post J (nI t) (nI ks) (nI on) st vo he ns nm sl pa tr td hp cc fi wa se lo a1 a2 a3 a4 a5 a6 a7 a8 a9 a10 a11 a12 a13 a14 a15 a16 g 0 := by
  refine pk_loop (σ := Unit) (fun n i _ => wL_holders_15 post J (nI t) (nI ks) (nI on) st vo he ns nm sl pa tr td hp cc fi wa se lo a1 a2 a3 a4 a5 a6 a7 a8 a9 a10 a11 a12 a13 a14 a15 a16 n (nI i)) (fun _ _ => True) 12 0 () (by omega) trivial ?_ ?_
  · intro n _ _
    refine pk_le 12 12 (fun _ => ?_) (fun z => absurd z (by omega))
    obtain ⟨v, hv, e9, hb⟩ := hC.2.2.1 t ht
    unfold wpX_written
    refine tp_isOpen ht hC.1 (fun e => br_t rfl ?_) (fun e => br_f (by decide) ⟨pk_in t 4 ht, ?_⟩)
    · exact br_t (by rw [← nI_0]; exact tp_sub0 (v := 0) (by omega) (fun k _ z => by rw [Nat.zero_testBit] at z; exact absurd z (by decide))) (nm_r (nI_1 t) H)
    · rw [nI_clamp (show t < 2 ^ 31 by omega), e9]
      exact br_t (tp_sub0 hv (fun k hk z => (hkb k hk).mpr (hb k hk z))) (nm_r (nI_1 t) H)
  · intro n i _ hi _ hw
    have nx : wL_holders_15 post J (nI t) (nI ks) (nI on) st vo he ns nm sl pa tr td hp cc fi wa se lo a1 a2 a3 a4 a5 a6 a7 a8 a9 a10 a11 a12 a13 a14 a15 a16 n (nI (i + 1)) := hw () trivial
    refine pk_le 12 i (fun z => absurd z (by omega)) (fun _ => ?_)
    have bit := tp_bit1 (v := ks) (k := i) (by omega) (by omega)
    refine tp_holder hi (fun e => ?_) (fun e => ?_)
    · have ne : ¬ a8 i = nI t := by rw [e]; exact (tp_ne1 (by omega)).symm
      refine br_f (tp_200 ht) (br_f (fun z => ne ((hkb i hi).mp (bit.mp z))) (br_t rfl (nm_r (nI_1 i) nx)))
    · refine br_c (fun e8 => ?_) (fun e8 => ?_)
      · exact br_t (bit.mpr ((hkb i hi).mpr e8)) (br_t rfl (nm_r (nI_1 i) nx))
      · exact br_f (fun z => e8 ((hkb i hi).mp (bit.mp z))) (br_t rfl (nm_r (nI_1 i) nx))
theorem tp_holders {post : Int32 → Prop} {st vo he ns nm sl pa tr td hp cc fi wa se lo : Int32} {a1 a2 a3 a4 a5 a6 a7 a8 a9 a10 a11 a12 a13 a14 a15 a16 : Nat → Int32} {b : Nat → Int32} {on : Nat} (hC : tp_C b 4 on a8 a9 a10 a11 a12) (H : post 1) : wpL_holders post (nI on, st, vo, he, ns, nm, sl, pa, tr, td, hp, cc, fi, wa, se, lo, a1, a2, a3, a4, a5, a6, a7, a8, a9, a10, a11, a12, a13, a14, a15, a16) := by
  refine pk_loop (σ := Unit) (fun n t _ => wL_holders_2 post (nI on) st vo he ns nm sl pa tr td hp cc fi wa se lo a1 a2 a3 a4 a5 a6 a7 a8 a9 a10 a11 a12 a13 a14 a15 a16 n (nI t)) (fun _ _ => True) 4 0 () (by omega) trivial ?_ ?_
  · intro n _ _
    exact pk_le 4 4 (fun _ => H) (fun z => absurd z (by omega))
  · intro n t _ ht _ hw
    exact pk_le 4 t (fun z => absurd z (by omega)) (fun _ => tp_keys ht hC (fun ks hks hkb _ => tp_holders15 ht hC hks hkb (hw () trivial)))
end
section
/-! 15: begin, get, put, move, abort, crash, between commits -/
theorem tp_C_begin {b a8 a9 a10 a11 a12 : Nat → Int32} {o t : Nat} (h : tp_C b 4 o a8 a9 a10 a11 a12) (ht : t < 4) : tp_C b 4 (o ||| 2 ^ t) a8 (upd a9 t 0) a10 (tp_p0 a11 t) (tp_p0 a12 t) ∨ o.testBit t = true := by
  by_cases ho : o.testBit t = true
  · exact Or.inr ho
  · refine Or.inl ?_
    obtain ⟨c1, c2, c3, c4, c5, c6⟩ := h
    have n8 : ∀ k, k < 12 → a8 k ≠ nI t := by
      intro k hk e
      rcases c2 k hk with z | ⟨t', ht', z, zo⟩
      · rw [z] at e
        exact absurd e.symm (tp_ne1 (by omega))
      · rw [z, nI_eq (by omega) (by omega)] at e
        rw [e] at zo
        exact ho zo
    have ob : ∀ t', t' < 4 → t' ≠ t → (o ||| 2 ^ t).testBit t' = true → o.testBit t' = true := by
      intro t' _ ne z
      rw [tp_or_b, Bool.or_eq_true, decide_eq_true_iff] at z
      rcases z with z | z
      · exact z
      · exact absurd z.symm ne
    refine ⟨tp_or_lt (n := 4) c1 ht, fun k hk => ?_, fun t' ht' => ?_, fun t' ht' hn m hm => ?_, fun t' ht' hn ho' m hm => ?_, fun t' ht' h2 hn ho' => ?_⟩
    · rcases c2 k hk with z | ⟨t', ht', z, zo⟩
      · exact Or.inl z
      · exact Or.inr ⟨t', ht', z, by rw [tp_or_b, zo]; rfl⟩
    · by_cases et : t' = t
      · subst et
        refine ⟨0, by omega, by rw [pk_us, nI_0], fun k hk z => ?_⟩
        rw [Nat.zero_testBit] at z
        exact absurd z (by decide)
      · obtain ⟨v, hv, e9, hb⟩ := c3 t' ht'
        exact ⟨v, hv, by rw [pk_un et, e9], hb⟩
    · unfold tp_p0
      by_cases et : (t' * 3 + m) / 3 = t
      · rw [if_pos et]
      · rw [if_neg et]
        exact c4 t' ht' hn m hm
    · unfold tp_p0
      by_cases et : (t' * 3 + m) / 3 = t
      · rw [if_pos et]
      · rw [if_neg et]
        exact c5 t' ht' hn (ob t' ht' (by omega) ho') m hm
    · by_cases et : t' = t
      · subst et
        unfold tp_zs
        rw [pk_us, tp_sum_cg 12 (g := fun _ => 0) (fun k hk => ?_)]
        · decide
        · refine if_neg (fun z => ?_)
          rw [← nI_0, tp_wb_nI (by omega), Nat.zero_testBit] at z
          exact absurd z (by decide)
      · have := c6 t' ht' h2 hn (ob t' ht' et ho')
        unfold tp_zs at this ⊢
        rw [pk_un et]
        exact this
theorem tp_begin {post : Int32 → St1 → Prop} {st vo he ns nm sl pa tr td hp cc fi wa se lo : Int32} {a1 a2 a3 a4 a5 a6 a7 a8 a9 a10 a11 a12 a13 a14 a15 a16 : Nat → Int32} {b : Nat → Int32} {on : Nat} (hC : tp_C b 4 on a8 a9 a10 a11 a12) (H : ∀ r on' b9 b11 b12, tp_C b 4 on' a8 b9 a10 b11 b12 → post r (nI on', st, vo, he, ns, nm, sl, pa, tr, td, hp, cc, fi, wa, se, lo, a1, a2, a3, a4, a5, a6, a7, a8, b9, a10, b11, b12, a13, a14, a15, a16)) : wpX_begin post (nI on, st, vo, he, ns, nm, sl, pa, tr, td, hp, cc, fi, wa, se, lo, a1, a2, a3, a4, a5, a6, a7, a8, a9, a10, a11, a12, a13, a14, a15, a16) := by
  refine pk_loop (σ := Unit) (fun n t _ => wX_begin_2 post (nI on) st vo he ns nm sl pa tr td hp cc fi wa se lo a1 a2 a3 a4 a5 a6 a7 a8 a9 a10 a11 a12 a13 a14 a15 a16 n (nI t)) (fun _ _ => True) 4 0 () (by omega) trivial ?_ ?_
  · intro n _ _
    exact pk_le 4 4 (fun _ => H _ on a9 a11 a12 hC) (fun z => absurd z (by omega))
  · intro n t _ ht _ hw
    refine pk_le 4 t (fun z => absurd z (by omega)) (fun _ => tp_isOpen ht hC.1 (fun e => br_t rfl ?_) (fun e => br_f (by decide) (nm_r (nI_1 t) (hw () trivial))))
    refine nm_r (show nI on ||| ((1 : Int32) <<< (nI t &&& 31)) = nI (on ||| 2 ^ t) by rw [tp_shl t (by omega), tp_or]) ⟨pk_in t 4 ht, nm_r (by rw [nI_clamp (by omega)]) ?_⟩
    have s : ∀ m, m < 3 → vp_in (nI t * 3 + nI m) 12 := fun m hm => pk_in (t * 3 + m) 12 (by omega) (tp_ix3 t m)
    have cl : ∀ m, m < 3 → (nI t * 3 + nI m).toNatClampNeg = t * 3 + m := fun m hm => by rw [tp_ix3, nI_clamp (by omega)]
    refine ⟨4, pk_le 3 0 (fun z => absurd z (by omega)) (fun _ => ⟨s 0 (by omega), nm_r (by rw [← nI_0, cl 0 (by omega)]) ⟨s 0 (by omega), nm_r (by rw [← nI_0, cl 0 (by omega)]) (nm_r (nI_1 0) ?_)⟩⟩)⟩
    refine pk_le 3 1 (fun z => absurd z (by omega)) (fun _ => ⟨s 1 (by omega), nm_r (by rw [cl 1 (by omega)]) ⟨s 1 (by omega), nm_r (by rw [cl 1 (by omega)]) (nm_r (nI_1 1) ?_)⟩⟩)
    refine pk_le 3 2 (fun z => absurd z (by omega)) (fun _ => ⟨s 2 (by omega), nm_r (by rw [cl 2 (by omega)]) ⟨s 2 (by omega), nm_r (by rw [cl 2 (by omega)]) (nm_r (nI_1 2) ?_)⟩⟩)
    refine pk_le 3 3 (fun _ => ?_) (fun z => absurd z (by omega))
    refine H _ _ _ _ _ ?_
    have := (tp_C_begin hC ht).resolve_right (by rw [e]; decide)
    rw [← tp_p03, ← tp_p03] at this
    exact this
theorem tp_isFree {post : Int32 → Prop} {o st vo he ns nm sl pa tr td hp cc fi wa se lo : Int32} {a1 a2 a3 a4 a5 a6 a7 a8 a9 a10 a11 a12 a13 a14 a15 a16 : Nat → Int32} {t k : Nat} (ht : t < 4) (hk : k < 12) (H0 : ¬ (a8 k = -1 ∨ a8 k = nI t) → post 0) (H1 : (a8 k = -1 ∨ a8 k = nI t) → post 1) : wpX_isFree post (o, st, vo, he, ns, nm, sl, pa, tr, td, hp, cc, fi, wa, se, lo, a1, a2, a3, a4, a5, a6, a7, a8, a9, a10, a11, a12, a13, a14, a15, a16) (nI t) (nI k) := by
  refine ⟨pk_in k 12 hk, ?_⟩
  rw [nI_clamp (show k < 2 ^ 31 by omega)]
  refine br_c (fun e => H1 (Or.inl e)) (fun e => ⟨pk_in k 12 hk, br_c (fun e2 => H1 (Or.inr e2)) (fun e2 => H0 (fun z => ?_))⟩)
  rcases z with y | y
  · exact e y
  · exact e2 y
theorem tp_seenW {post : Int32 → Prop} {o st vo he ns nm sl pa tr td hp cc fi wa se lo : Int32} {a1 a2 a3 a4 a5 a6 a7 a8 a9 a10 a11 a12 a13 a14 a15 a16 : Nat → Int32} {t k v : Nat} (ht : t < 4) (hk : k < 12) (h9 : a9 t = nI v) (hv : v < 4096) (H : post (tp_seen a7 a9 a10 t k)) : wpX_seen post (o, st, vo, he, ns, nm, sl, pa, tr, td, hp, cc, fi, wa, se, lo, a1, a2, a3, a4, a5, a6, a7, a8, a9, a10, a11, a12, a13, a14, a15, a16) (nI t) (nI k) := by
  have w : tp_wb (a9 t) k = v.testBit k := by rw [h9, tp_wb_nI hv]
  unfold tp_seen at H
  rw [w] at H
  unfold wpX_seen
  refine tp_hasWritten ht hk h9 hv (fun e => br_t rfl ⟨pk_in k 12 hk, ?_⟩) (fun e => br_f (by decide) ⟨pk_in (t * 12 + k) 48 (by omega) (tp_ix12 t k), ?_⟩)
  · rw [e, if_neg (by decide)] at H
    rw [nI_clamp (show k < 2 ^ 31 by omega)]
    exact H
  · rw [e, if_pos rfl] at H
    rw [tp_ix12, nI_clamp (show t * 12 + k < 2 ^ 31 by omega)]
    exact H
theorem tp_C_get {b a8 a9 a10 a11 a12 : Nat → Int32} {s o t k : Nat} (h : tp_C b s o a8 a9 a10 a11 a12) (ht : t < 4) (hk : k < 12) (ho : o.testBit t = true) (hf : a8 k = -1 ∨ a8 k = nI t) : tp_C b s o (upd a8 k (nI t)) a9 a10 a11 a12 := by
  obtain ⟨c1, c2, c3, c4, c5, c6⟩ := h
  refine ⟨c1, fun k' hk' => ?_, fun t' ht' => ?_, c4, c5, c6⟩
  · by_cases e : k' = k
    · subst e
      exact Or.inr ⟨t, ht, pk_us, ho⟩
    · rw [pk_un e]
      exact c2 k' hk'
  · obtain ⟨v, hv, e9, hb⟩ := c3 t' ht'
    refine ⟨v, hv, e9, fun k' hk' z => ?_⟩
    have e8 := hb k' hk' z
    by_cases e : k' = k
    · subst e
      rw [pk_us]
      rcases hf with y | y
      · rw [y] at e8
        exact absurd e8.symm (tp_ne1 (by omega))
      · rw [← y, e8]
    · rw [pk_un e, e8]
theorem tp_C_wr {b a8 a9 a10 a11 a12 : Nat → Int32} {o t k w : Nat} {v : Int32} (h : tp_C b t o a8 a9 a10 a11 a12) (ht : t < 4) (hk : k < 12) (ho : o.testBit t = true) (hf : a8 k = -1 ∨ a8 k = nI t) (h9 : a9 t = nI w) (hw : w < 4096) :
    tp_C b t o (upd a8 k (nI t)) (upd a9 t (nI (w ||| 2 ^ k))) (upd a10 (t * 12 + k) v) a11 a12 := by
  obtain ⟨c1, c2, c3, c4, c5, c6⟩ := tp_C_get h ht hk ho hf
  refine ⟨c1, c2, fun t' ht' => ?_, c4, c5, fun t' ht' h2 hn ho' => ?_⟩
  · obtain ⟨v', hv', e9, hb⟩ := c3 t' ht'
    by_cases e : t' = t
    · subst e
      refine ⟨w ||| 2 ^ k, tp_or_lt (n := 12) hw hk, pk_us, fun k' hk' z => ?_⟩
      have ev : v' = w := by
        rw [h9] at e9
        exact ((nI_eq (by omega) (by omega)).mp e9).symm
      subst ev
      rw [tp_or_b, Bool.or_eq_true, decide_eq_true_iff] at z
      rcases z with z | z
      · exact hb k' hk' z
      · subst z
        exact pk_us
    · exact ⟨v', hv', by rw [pk_un e, e9], hb⟩
  · have := c6 t' ht' h2 hn ho'
    unfold tp_zs at this ⊢
    rw [pk_un hn, tp_sum_cg 12 (g := fun k => if tp_wb (a9 t') k = true then a10 (t' * 12 + k) - b k else 0) (fun k' hk' => ?_)]
    · exact this
    · rw [pk_un (show t' * 12 + k' ≠ t * 12 + k by omega)]
theorem tp_C_un {b a8 a9 a10 a11 a12 : Nat → Int32} {o t : Nat} (h : tp_C b t o a8 a9 a10 a11 a12) (h11 : ∀ m, m < 3 → a11 (t * 3 + m) = 0) (h12 : o.testBit t = true → ∀ m, m < 3 → a12 (t * 3 + m) = 0) (hz : 2 ≤ t → tp_zs b a9 a10 t) : tp_C b 4 o a8 a9 a10 a11 a12 := by
  obtain ⟨c1, c2, c3, c4, c5, c6⟩ := h
  refine ⟨c1, c2, c3, fun t' ht' _ m hm => ?_, fun t' ht' _ ho m hm => ?_, fun t' ht' h2 _ ho => ?_⟩
  · by_cases e : t' = t
    · subst e
      exact h11 m hm
    · exact c4 t' ht' e m hm
  · by_cases e : t' = t
    · subst e
      exact h12 ho m hm
    · exact c5 t' ht' e ho m hm
  · by_cases e : t' = t
    · subst e
      exact hz h2
    · exact c6 t' ht' h2 e ho
theorem tp_get {post : Int32 → St1 → Prop} {st vo he ns nm sl pa tr td hp cc fi wa se lo : Int32} {a1 a2 a3 a4 a5 a6 a7 a8 a9 a10 a11 a12 a13 a14 a15 a16 : Nat → Int32} {b : Nat → Int32} {on t k : Nat} (ht : t < 4) (hk : k < 12) (hC : tp_C b 4 on a8 a9 a10 a11 a12) (H0 : ∀ r, ¬ (on.testBit t = true ∧ (a8 k = -1 ∨ a8 k = nI t)) → post r (nI on, st, vo, he, ns, nm, sl, pa, tr, td, hp, cc, fi, wa, se, lo, a1, a2, a3, a4, a5, a6, a7, a8, a9, a10, a11, a12, a13, a14, a15, a16))
    (H1 : on.testBit t = true → (a8 k = -1 ∨ a8 k = nI t) → post (tp_seen a7 a9 a10 t k) (nI on, st, vo, he, ns, nm, sl, pa, tr, td, hp, cc, fi, wa, se, lo, a1, a2, a3, a4, a5, a6, a7, upd a8 k (nI t), a9, a10, a11, a12, a13, a14, a15, a16)) : wpX_get post (nI on, st, vo, he, ns, nm, sl, pa, tr, td, hp, cc, fi, wa, se, lo, a1, a2, a3, a4, a5, a6, a7, a8, a9, a10, a11, a12, a13, a14, a15, a16) (nI t) (nI k) := by
  unfold wpX_get
  refine tp_isOpen ht hC.1 (fun e => br_t rfl (H0 _ (fun z => absurd (e.symm.trans z.1) (by decide)))) (fun eo => br_f (by decide) (tp_isKey hk (br_f (by decide) ?_)))
  refine tp_isFree ht hk (fun e => br_t rfl (H0 _ (fun z => e z.2))) (fun e => br_f (by decide) ⟨pk_in k 12 hk, nm_r (by rw [nI_clamp (by omega), tp_n8 t (by omega)]) ?_⟩)
  obtain ⟨v, hv, h9, _⟩ := hC.2.2.1 t ht
  exact tp_seenW ht hk h9 hv (H1 eo e)
theorem tp_isNumber {post : Int32 → Prop} {x : Int32} (H0 : post 0) (H1 : post 1) : wpX_isNumber post () x := br_c (fun _ => H0) (fun _ => br_c (fun _ => H0) (fun _ => H1))
theorem tp_put {post : Int32 → St1 → Prop} {st vo he ns nm sl pa tr td hp cc fi wa se lo : Int32} {a1 a2 a3 a4 a5 a6 a7 a8 a9 a10 a11 a12 a13 a14 a15 a16 : Nat → Int32} {b : Nat → Int32} {on t k : Nat} {v : Int32} (ht : t < 2) (hk : k < 12) (hC : tp_C b 4 on a8 a9 a10 a11 a12) (H : ∀ r b8 b9 b10, tp_C b 4 on b8 b9 b10 a11 a12 → post r (nI on, st, vo, he, ns, nm, sl, pa, tr, td, hp, cc, fi, wa, se, lo, a1, a2, a3, a4, a5, a6, a7, b8, b9, b10, a11, a12, a13, a14, a15, a16)) : wpX_put post (nI on, st, vo, he, ns, nm, sl, pa, tr, td, hp, cc, fi, wa, se, lo, a1, a2, a3, a4, a5, a6, a7, a8, a9, a10, a11, a12, a13, a14, a15, a16) (nI t) (nI k) v := by
  unfold wpX_put
  refine tp_isOpen (by omega) hC.1 (fun e => br_t rfl (H _ a8 a9 a10 hC)) (fun eo => br_f (by decide) (tp_isKey hk (br_f (by decide) (tp_isNumber (br_t rfl (H _ a8 a9 a10 hC)) (br_f (by decide) ?_)))))
  refine tp_isFree (by omega) hk (fun e => br_t rfl (H _ a8 a9 a10 hC)) (fun e => br_f (by decide) ?_)
  obtain ⟨w, hw, h9, _⟩ := hC.2.2.1 t (by omega)
  refine tp_seenW (by omega) hk h9 hw (tp_writeKey (by omega) hk h9 hw (H _ _ _ _ ?_))
  refine tp_C_un (tp_C_wr (tp_C_ex hC) (by omega) hk eo e h9 hw) (fun m hm => hC.2.2.2.1 t (by omega) (by omega) m hm) (fun ho m hm => hC.2.2.2.2.1 t (by omega) (by omega) ho m hm) (fun z => absurd z (by omega))
/-- what is written, less what stands -/
def tp_df (b a9 a10 : Nat → Int32) (t : Nat) : Nat → Int32 := fun k => if tp_wb (a9 t) k = true then a10 (t * 12 + k) - b k else 0
theorem tp_df_seen (b a9 a10 : Nat → Int32) (t k : Nat) : tp_df b a9 a10 t k = tp_seen b a9 a10 t k - b k := by
  unfold tp_df tp_seen
  by_cases e : tp_wb (a9 t) k = true
  · rw [if_pos e, if_pos e]
  · rw [if_neg e, if_neg e]
    exact (Int32.sub_self (b k)).symm
theorem tp_df_wr {b a9 a10 : Nat → Int32} {t k w : Nat} {v : Int32} (ht : t < 4) (hk : k < 12) (h9 : a9 t = nI w) (hw : w < 4096) :
    tp_df b (upd a9 t (nI (w ||| 2 ^ k))) (upd a10 (t * 12 + k) v) t k = v - b k ∧ ∀ k', k' < 12 → k' ≠ k → tp_df b (upd a9 t (nI (w ||| 2 ^ k))) (upd a10 (t * 12 + k) v) t k' = tp_df b a9 a10 t k' := by
  have hw' : w ||| 2 ^ k < 4096 := tp_or_lt (n := 12) hw hk
  constructor
  · unfold tp_df
    rw [pk_us, tp_wb_nI hw', tp_or_b, decide_eq_true rfl, Bool.or_true, if_pos rfl, pk_us]
  · intro k' hk' ne
    unfold tp_df
    rw [pk_us, tp_wb_nI hw', h9, tp_wb_nI hw, tp_or_b, decide_eq_false (fun z => ne z.symm), Bool.or_false, pk_un (by omega)]
theorem tp_zs_move {b a9 a10 : Nat → Int32} {t f g w : Nat} {am : Int32} (ht : t < 4) (hf : f < 12) (hg : g < 12) (hne : f ≠ g) (h9 : a9 t = nI w) (hw : w < 4096) (hz : tp_zs b a9 a10 t) :
    tp_zs b (upd (upd a9 t (nI (w ||| 2 ^ f))) t (nI ((w ||| 2 ^ f) ||| 2 ^ g))) (upd (upd a10 (t * 12 + f) (tp_seen b a9 a10 t f - am)) (t * 12 + g) (tp_seen b a9 a10 t g + am)) t := by
  have hw' : w ||| 2 ^ f < 4096 := tp_or_lt (n := 12) hw hf
  have hz' : tp_sum (tp_df b a9 a10 t) 12 = 0 := hz
  show tp_sum (tp_df b (upd (upd a9 t (nI (w ||| 2 ^ f))) t (nI ((w ||| 2 ^ f) ||| 2 ^ g))) (upd (upd a10 (t * 12 + f) (tp_seen b a9 a10 t f - am)) (t * 12 + g) (tp_seen b a9 a10 t g + am)) t) 12 = 0
  obtain ⟨p1, p2⟩ := tp_df_wr (b := b) (a9 := a9) (a10 := a10) (v := tp_seen b a9 a10 t f - am) ht hf h9 hw
  obtain ⟨q1, q2⟩ := tp_df_wr (b := b) (a9 := upd a9 t (nI (w ||| 2 ^ f))) (a10 := upd a10 (t * 12 + f) (tp_seen b a9 a10 t f - am)) (v := tp_seen b a9 a10 t g + am) ht hg pk_us hw'
  rw [tp_sum_up 12 hg q2, tp_sum_up 12 hf p2, hz', q1, p1, p2 g hg (fun z => hne z.symm), tp_df_seen, tp_df_seen]
  grind
theorem tp_move {post : Int32 → St1 → Prop} {st vo he ns nm sl pa tr td hp cc fi wa se lo : Int32} {a1 a2 a3 a4 a5 a6 a7 a8 a9 a10 a11 a12 a13 a14 a15 a16 : Nat → Int32} {on t f g am : Nat} (ht : t < 4) (hf : f < 12) (hg : g < 12) (ham : am < 100) (hC : tp_C a7 4 on a8 a9 a10 a11 a12) (H : ∀ r b8 b9 b10, tp_C a7 4 on b8 b9 b10 a11 a12 → post r (nI on, st, vo, he, ns, nm, sl, pa, tr, td, hp, cc, fi, wa, se, lo, a1, a2, a3, a4, a5, a6, a7, b8, b9, b10, a11, a12, a13, a14, a15, a16)) : wpX_move post (nI on, st, vo, he, ns, nm, sl, pa, tr, td, hp, cc, fi, wa, se, lo, a1, a2, a3, a4, a5, a6, a7, a8, a9, a10, a11, a12, a13, a14, a15, a16) (nI t) (nI (f + 12 * g)) (nI am) := by
  unfold wpX_move
  have e1 : nI (f + 12 * g) - nI (f + 12 * g) / 12 * 12 = nI f := by
    have := pk_rem (a := f + 12 * g) (d := 12) (by omega) (by omega) (by omega)
    rw [show (f + 12 * g) % 12 = f by omega] at this
    exact this
  have e2 : nI (f + 12 * g) / 12 = nI g := by
    have := pk_div (a := f + 12 * g) (d := 12) (by omega) (by omega) (by omega)
    rw [show (f + 12 * g) / 12 = g by omega] at this
    exact this
  refine tp_isOpen ht hC.1 (fun e => br_t rfl (H _ a8 a9 a10 hC)) (fun eo => br_f (by decide) ?_)
  refine pk_lt (f + 12 * g) 0 (fun z => absurd z (by omega)) (fun _ => pk_le 144 (f + 12 * g) (fun z => absurd z (by omega)) (fun _ => ⟨by decide, by decide, ?_⟩))
  refine pk_eq f g (fun _ => H _ a8 a9 a10 hC) (fun hne => ?_) e1 e2
  refine pk_lt am 0 (fun z => absurd z (by omega)) (fun _ => pk_le am 9999 (fun _ => ⟨by decide, nm_r e1 ⟨by decide, nm_r e2 ?_⟩⟩) (fun z => absurd z (by omega)))
  refine tp_isFree ht hf (fun e => br_t rfl (H _ a8 a9 a10 hC)) (fun ef => br_f (by decide) (tp_isFree ht hg (fun e => br_t rfl (H _ a8 a9 a10 hC)) (fun eg => br_f (by decide) ?_)))
  obtain ⟨w, hw, h9, _⟩ := hC.2.2.1 t ht
  refine tp_seenW ht hf h9 hw (nm_e (tp_seenW ht hg h9 hw (nm_e ?_)))
  refine tp_isNumber (br_t rfl (H _ a8 a9 a10 hC)) (br_f (by decide) (tp_isNumber (br_t rfl (H _ a8 a9 a10 hC)) (br_f (by decide) ?_)))
  have hw' : w ||| 2 ^ f < 4096 := tp_or_lt (n := 12) hw hf
  refine tp_writeKey ht hf h9 hw (tp_writeKey ht hg pk_us hw' (H _ _ _ _ ?_))
  have eg' : upd a8 f (nI t) g = -1 ∨ upd a8 f (nI t) g = nI t := by
    rw [pk_un (fun z => hne z.symm)]
    exact eg
  refine tp_C_un (tp_C_wr (tp_C_wr (tp_C_ex hC) ht hf eo ef h9 hw) ht hg eo eg' pk_us hw') (fun m hm => hC.2.2.2.1 t ht (by omega) m hm) (fun ho m hm => hC.2.2.2.2.1 t ht (by omega) ho m hm) (fun h2 => ?_)
  exact tp_zs_move ht hf hg hne h9 hw (hC.2.2.2.2.2 t ht h2 (by omega) eo)
theorem tp_abort {post : Int32 → St1 → Prop} {st vo he ns nm sl pa tr td hp cc fi wa se lo : Int32} {a1 a2 a3 a4 a5 a6 a7 a8 a9 a10 a11 a12 a13 a14 a15 a16 : Nat → Int32} {b : Nat → Int32} {on t : Nat} (ht : t < 4) (hC : tp_C b 4 on a8 a9 a10 a11 a12) (H : ∀ r on' b8 b9 b11, tp_C b 4 on' b8 b9 a10 b11 a12 → on'.testBit t = false → post r (nI on', st, vo, he, ns, nm, sl, pa, tr, td, hp, cc, fi, wa, se, lo, a1, a2, a3, a4, a5, a6, a7, b8, b9, a10, b11, a12, a13, a14, a15, a16)) : wpX_abort post (nI on, st, vo, he, ns, nm, sl, pa, tr, td, hp, cc, fi, wa, se, lo, a1, a2, a3, a4, a5, a6, a7, a8, a9, a10, a11, a12, a13, a14, a15, a16) (nI t) := by
  unfold wpX_abort
  refine tp_isOpen ht hC.1 (fun e => br_t rfl (H _ on a8 a9 a11 hC e)) (fun eo => br_f (by decide) ?_)
  refine pk_loop (σ := Int32) (fun n i x => wX_abort_15 post (nI t) (nI on) st vo he ns nm sl pa tr td hp cc fi wa se lo a1 a2 a3 a4 a5 a6 a7 a8 a9 a10 a11 a12 a13 a14 a15 a16 n x (nI i)) (fun _ _ => True) 12 0 0 (by omega) trivial ?_ ?_
  · intro n x _
    obtain ⟨v, hv, h9, _⟩ := hC.2.2.1 t ht
    refine pk_le 12 12 (fun _ => tp_rollBack ht (tp_C_HR hC) h9 hv (H _ _ _ _ _ (tp_C_rb hC ht (fun _ _ _ z => z)) ?_)) (fun z => absurd z (by omega))
    rw [tp_clr_b (by omega), decide_eq_false (fun z => z rfl), Bool.and_false]
  · intro n i x hi _ hw
    refine pk_le 12 i (fun z => absurd z (by omega)) (fun _ => ⟨pk_in i 12 hi, br_c (fun _ => nm_e (nm_r (nI_1 i) (hw _ trivial))) (fun _ => nm_e (nm_r (nI_1 i) (hw _ trivial)))⟩)
theorem tp_RD_I {n on : Nat} {a1 a2 a3 a4 a5 a6 a7 a8 a9 a10 a11 a12 : Nat → Int32} (h : tp_I n on a1 a2 a3 a4 a5 a6 a7 a8 a9 a10 a11 a12) : tp_RD a7 a7 a8 (fun _ => false) n 4 (fun _ => 0) on a1 a2 a3 a4 a5 a6 a7 a8 a9 a10 a11 a12 := by
  obtain ⟨hC, hD, hL⟩ := h
  refine ⟨hC, fun m hm => ?_, fun z => absurd z (by omega)⟩
  obtain ⟨sz, s1, s2, s3, s4, s5⟩ := hD m hm
  exact ⟨sz, s1, s2, s3, s4, s5, fun _ _ _ => rfl, fun z => absurd z (by dsimp only; omega)⟩
theorem tp_I_RD {n on : Nat} {b d h0 a1 a2 a3 a4 a5 a6 a7 a8 a9 a10 a11 a12 : Nat → Int32} {W : Nat → Bool} {σ : Nat → Nat} (h : tp_RD b d h0 W n 4 σ on a1 a2 a3 a4 a5 a6 a7 a8 a9 a10 a11 a12) (hσ : ∀ m, m < 3 → σ m = 0) (hL : tp_SL n 40 a2 a4) : tp_I n on a1 a2 a3 a4 a5 a6 a7 a8 a9 a10 a11 a12 ∧ ∀ k, k < 12 → a7 k = b k := by
  obtain ⟨hC, hD, _⟩ := h
  have e7 : ∀ k, k < 12 → a7 k = b k := by
    intro k hk
    obtain ⟨sz, s1, s2, s3, s4, s5, s6, s7⟩ := hD (k % 3) (by omega)
    have := s6 k hk rfl
    rw [hσ (k % 3) (by omega)] at this
    exact this
  refine ⟨⟨tp_C_base hC (fun t ht k hk _ => e7 k hk), fun m hm => ?_, hL⟩, e7⟩
  have D := hD m hm
  rw [hσ m hm] at D
  obtain ⟨sz, s1, s2, s3, s4, s5, s6, s7⟩ := D
  exact ⟨sz, s1, s2, s3, s4, tp_RP_cg s5 (fun _ _ => ⟨rfl, rfl, rfl, rfl⟩) (fun _ _ _ => rfl) s6⟩
theorem tp_crash {post : Int32 → St1 → Prop} {vo he ns nm sl pa tr td hp cc fi wa se lo : Int32} {a1 a2 a3 a4 a5 a6 a7 a8 a9 a10 a11 a12 a13 a14 a15 a16 : Nat → Int32} {n on m : Nat} (hm : m < 4) (hn0 : 0 < n) (hn : n < 2 ^ 31) (hI : tp_I n on a1 a2 a3 a4 a5 a6 a7 a8 a9 a10 a11 a12)
    (H : ∀ r on' b7 b8 b9 b10 b11 b12, tp_I n on' a1 a2 a3 a4 a5 a6 b7 b8 b9 b10 b11 b12 → (∀ k, k < 12 → b7 k = a7 k) → (m < 3 → ∀ k, k < 12 → k % 3 = m → b8 k = -1) → (m = 3 → on' = 0) → post r (nI on', 0, vo, he, ns, nm, sl, pa, tr, td, hp, cc, fi, wa, se, lo, a1, a2, a3, a4, a5, a6, b7, b8, b9, b10, b11, b12, a13, a14, a15, a16)) : wpX_crash post (nI on, 0, vo, he, ns, nm, sl, pa, tr, td, hp, cc, fi, wa, se, lo, a1, a2, a3, a4, a5, a6, a7, a8, a9, a10, a11, a12, a13, a14, a15, a16) (nI m) := by
  refine pk_lt m 0 (fun z => absurd z (by omega)) (fun _ => pk_le m 3 (fun _ => pk_eq m 3 (fun e => ?_) (fun e => ?_)) (fun z => absurd z (by omega)))
  · obtain ⟨sz, l1, l2, l3⟩ := hI.2.2
    refine tp_breakLeader (sz := sz) (Or.inl ⟨rfl, rfl⟩) (tp_RD_I hI) l1 (by omega) (fun r on' a8' a9' a11' hRD h0 => ⟨fun _ => ?_, fun z => absurd rfl z, fun z => absurd rfl z⟩)
    obtain ⟨I1, I2⟩ := tp_I_RD hRD (fun _ _ => rfl) hI.2.2
    exact H r on' _ _ _ _ _ _ I1 I2 (fun z => absurd z (by omega)) (fun _ => h0 rfl)
  · have m3 : m < 3 := by omega
    refine tp_breakDown (x' := 0) m3 hn0 hn (Or.inl ⟨rfl, rfl, rfl, rfl⟩) (fun z => absurd z (by omega)) (by omega) (fun z => absurd z (by omega)) (tp_RD_I hI) (fun r on' a7' a8' a9' a10' a11' a12' hRD h8 => ?_)
    obtain ⟨I1, I2⟩ := tp_I_RD hRD (fun m' _ => by unfold tp_up; by_cases c : m' = m <;> simp [c]) hI.2.2
    refine H r on' _ _ _ _ _ _ I1 I2 (fun _ k hk h3 => ?_) (fun z => absurd z e)
    rcases h8 k hk h3 with z | z
    · exact z
    · rcases I1.1.2.1 k hk with y | ⟨t, ht, y, _⟩
      · exact y
      · rw [y, nI_eq (by omega) (by omega)] at z
        omega
end
section
/-! 16: the law's checks of a crash and of a commit -/
theorem tp_open {post : Int32 → Prop} {o st vo he ns nm sl pa tr td hp cc fi wa se lo : Int32} {a1 a2 a3 a4 a5 a6 a7 a8 a9 a10 a11 a12 a13 a14 a15 a16 : Nat → Int32} (H : post o) : wpX_open post (o, st, vo, he, ns, nm, sl, pa, tr, td, hp, cc, fi, wa, se, lo, a1, a2, a3, a4, a5, a6, a7, a8, a9, a10, a11, a12, a13, a14, a15, a16) := H
theorem tp_cnt {post : Int32 → Prop} {o st vo he ns nm sl pa tr td hp cc fi wa se lo : Int32} {a1 a2 a3 a4 a5 a6 a7 a8 a9 a10 a11 a12 a13 a14 a15 a16 : Nat → Int32} (H : post cc) : wpX_commits post (o, st, vo, he, ns, nm, sl, pa, tr, td, hp, cc, fi, wa, se, lo, a1, a2, a3, a4, a5, a6, a7, a8, a9, a10, a11, a12, a13, a14, a15, a16) := H
theorem tp_crashes {post : Int32 → St1 → Prop} {vo he ns nm sl pa tr td hp cc fi wa se lo : Int32} {a1 a2 a3 a4 a5 a6 a7 a8 a9 a10 a11 a12 a13 a14 a15 a16 : Nat → Int32} {n on m : Nat} (hm : m < 4) (hn0 : 0 < n) (hn : n < 2 ^ 31) (hI : tp_I n on a1 a2 a3 a4 a5 a6 a7 a8 a9 a10 a11 a12)
    (H : ∀ on' b7 b8 b9 b10 b11 b12, tp_I n on' a1 a2 a3 a4 a5 a6 b7 b8 b9 b10 b11 b12 → (∀ k, k < 12 → b7 k = a7 k) → post 1 (nI on', 0, vo, he, ns, nm, sl, pa, tr, td, hp, cc, fi, wa, se, lo, a1, a2, a3, a4, a5, a6, b7, b8, b9, b10, b11, b12, a13, a14, a15, a16)) : wpL_crashes post (nI on, 0, vo, he, ns, nm, sl, pa, tr, td, hp, cc, fi, wa, se, lo, a1, a2, a3, a4, a5, a6, a7, a8, a9, a10, a11, a12, a13, a14, a15, a16) (nI m) := by
  unfold wpL_crashes
  refine tp_view (tp_crash hm hn0 hn hI (fun r on' b7 b8 b9 b10 b11 b12 hI' e7 h8 h0 => ?_))
  have fin : wL_crashes_74 post (tp_vw a7 12) 1 (nI on') 0 vo he ns nm sl pa tr td hp cc fi wa se lo a1 a2 a3 a4 a5 a6 b7 b8 b9 b10 b11 b12 a13 a14 a15 a16 := br_f (by decide) (tp_view (br_t (tp_vw_cg 12 e7) (H on' b7 b8 b9 b10 b11 b12 hI' e7)))
  refine pk_lt m 3 (fun m3 => ?_) (fun m3 => ?_)
  · refine pk_loop (σ := Unit) (fun g i _ => wL_crashes_33 post (nI m) (tp_vw a7 12) (nI on') 0 vo he ns nm sl pa tr td hp cc fi wa se lo a1 a2 a3 a4 a5 a6 b7 b8 b9 b10 b11 b12 a13 a14 a15 a16 g 1 (nI (m + 3 * i))) (fun _ _ => True) 4 0 () (by omega) trivial ?_ ?_
    · intro g _ _
      exact pk_le 12 (m + 3 * 4) (fun _ => fin) (fun z => absurd z (by omega))
    · intro g i _ hi _ hw
      exact pk_le 12 (m + 3 * i) (fun z => absurd z (by omega)) (fun _ => pk_le 3 m (fun z => absurd z (by omega)) (fun _ => br_f (by decide) (tp_holder (by omega) (fun e => br_t rfl (nm_r (tp_p3 m i) (hw () trivial))) (fun e => absurd (h8 m3 (m + 3 * i) (by omega) (by omega)) e))))
  · have m4 : m = 3 := by omega
    subst m4
    refine tp_open (br_t (by rw [h0 rfl]; rfl) ⟨1, ?_⟩)
    exact pk_le 12 3 (fun z => absurd z (by omega)) (fun _ => pk_le 3 3 (fun _ => fin) (fun z => absurd z (by omega)))
theorem tp_sum_seen {b a9 a10 : Nat → Int32} {t : Nat} (h : tp_zs b a9 a10 t) : tp_sum (tp_seen b a9 a10 t) 12 = tp_sum b 12 := by
  have h' : tp_sum (tp_df b a9 a10 t) 12 = 0 := h
  have e : tp_sum (tp_seen b a9 a10 t) 12 = tp_sum (fun k => b k + tp_df b a9 a10 t k) 12 := by
    refine tp_sum_cg 12 (fun k hk => ?_)
    rw [tp_df_seen]
    grind
  rw [e, tp_sum_add, h']
  exact Int32.add_zero _
theorem tp_commits {post : Int32 → St1 → Prop} {vo he nm sl pa tr td hp cc fi wa se lo : Int32} {a1 a2 a3 a4 a5 a6 a7 a8 a9 a10 a11 a12 a13 a14 a15 a16 : Nat → Int32} {c on t x y : Nat} (hI : tp_I (c + 1) on a1 a2 a3 a4 a5 a6 a7 a8 a9 a10 a11 a12) (hc : c < 2 ^ 30) (ht : t < 4) (hx : x < 8) (hy : y < 3)
    (H : ∀ (c' on' : Nat) (vo' he' nm' sl' pa' tr' td' hp' cc' fi' wa' se' lo' : Int32) (b1 b2 b3 b4 b5 b6 b7 b8 b9 b10 b11 b12 b13 b14 b15 b16 : Nat → Int32), c' ≤ c + 1 → tp_I (c' + 1) on' b1 b2 b3 b4 b5 b6 b7 b8 b9 b10 b11 b12 → (¬ (t < 2 ∧ on.testBit t = true) → tp_sum b7 12 = tp_sum a7 12) →
      post 1 (nI on', 0, vo', he', nI c', nm', sl', pa', tr', td', hp', cc', fi', wa', se', lo', b1, b2, b3, b4, b5, b6, b7, b8, b9, b10, b11, b12, b13, b14, b15, b16)) : wpL_commits post (nI on, 0, vo, he, nI c, nm, sl, pa, tr, td, hp, cc, fi, wa, se, lo, a1, a2, a3, a4, a5, a6, a7, a8, a9, a10, a11, a12, a13, a14, a15, a16) (nI t) (nI x) (nI y) := by
  have hC := hI.1
  have ho : on < 16 := hC.1
  unfold wpL_commits
  refine tp_keys ht hC (fun ks hks hkb hk0 => ?_)
  refine tp_cnt (tp_view (tp_open ?_))
  by_cases eo : on.testBit t = true
  · refine br_t ((tp_bit1 (by omega) (by omega)).mpr eo) ?_
    have seenF : ∀ k, k < 12 → ¬ a8 k = nI t → a7 k = tp_seen a7 a9 a10 t k := by
      intro k hk ne
      obtain ⟨v, hv, e9, hb⟩ := hC.2.2.1 t ht
      unfold tp_seen
      rw [if_neg]
      intro z
      rw [e9, tp_wb_nI hv] at z
      exact ne (hb k hk z)
    refine pk_loop (fun g i x8 => wL_commits_44 post (nI t) (nI x) (nI y) (nI ks) cc (tp_vw a7 12) 1 g x8 (nI i) (nI on) 0 vo he (nI c) nm sl pa tr td hp cc fi wa se lo a1 a2 a3 a4 a5 a6 a7 a8 a9 a10 a11 a12 a13 a14 a15 a16) (fun i x8 => x8 = tp_vw (tp_seen a7 a9 a10 t) i) 12 0 0 (by omega) rfl ?_ ?_
    · intro g x8 h
      subst h
      refine pk_le 12 12 (fun _ => ?_) (fun z => absurd z (by omega))
      refine tp_commit hI hc ht hx hy (fun z => absurd (eo.symm.trans z) (by decide)) (fun _ r on' vo' he' nm' sl' pa' tr' td' hp' fi' wa' se' lo' b1 b2 b3 b4 b5 b6 b7 b8 b9 b10 b11 b12 b13 b14 b15 b16 hI' hr => ?_)
      have done : ∀ z0 : Int32, r = 1 → (∀ k, k < 12 → b7 k = tp_seen a7 a9 a10 t k) → wL_commits_155 post cc (tp_vw a7 12) (tp_vw (tp_seen a7 a9 a10 t) 12) r z0 (nI on') 0 vo' he' (nI (c + 1)) nm' sl' pa' tr' td' hp' (cc + r) fi' wa' se' lo' b1 b2 b3 b4 b5 b6 b7 b8 b9 b10 b11 b12 b13 b14 b15 b16 := by
        intro z0 er e7
        refine br_t er (tp_view (br_t (tp_vw_cg 12 e7) (tp_cnt (br_t (by rw [er]) ?_))))
        refine H (c + 1) on' vo' he' nm' sl' pa' tr' td' hp' (cc + r) fi' wa' se' lo' b1 b2 b3 b4 b5 b6 b7 b8 b9 b10 b11 b12 b13 b14 b15 b16 (by omega) hI' (fun z => ?_)
        have t2 : 2 ≤ t := by
          by_cases l : t < 2
          · exact absurd ⟨l, eo⟩ z
          · omega
        rw [tp_sum_cg 12 e7]
        exact tp_sum_seen (hC.2.2.2.2.2 t ht t2 (by omega) eo)
      have sure : (nI x = 0 ∨ ¬ nI x < 6) → wL_commits_150 post cc (tp_vw a7 12) (tp_vw (tp_seen a7 a9 a10 t) 12) r (nI on') 0 vo' he' (nI (c + 1)) nm' sl' pa' tr' td' hp' (cc + r) fi' wa' se' lo' b1 b2 b3 b4 b5 b6 b7 b8 b9 b10 b11 b12 b13 b14 b15 b16 := by
        intro hs
        rcases hr with ⟨er, e7⟩ | ⟨_, ns, _⟩
        · exact done 1 er e7
        · exact absurd hs ns
      refine br_f (by decide) (br_c (fun e => sure (Or.inl e)) (fun e => br_c (fun l => ?_) (fun l => sure (Or.inr l))))
      rcases hr with ⟨er, e7⟩ | ⟨er, ns, e7⟩
      · exact done 0 er e7
      · refine br_f (by rw [er]; decide) (br_t er (br_t rfl (tp_view (br_t (tp_vw_cg 12 e7) (tp_cnt (br_t (by rw [er]; exact Int32.add_zero cc) ?_))))))
        exact H (c + 1) on' vo' he' nm' sl' pa' tr' td' hp' (cc + r) fi' wa' se' lo' b1 b2 b3 b4 b5 b6 b7 b8 b9 b10 b11 b12 b13 b14 b15 b16 (by omega) hI' (fun _ => tp_sum_cg 12 e7)
    · intro g i x8 hi h hw
      subst h
      have bit := tp_bit1 (v := ks) (k := i) (by omega) (by omega)
      refine pk_le 12 i (fun z => absurd z (by omega)) (fun _ => br_f (by decide) (br_c (fun eb => ?_) (fun eb => ?_)))
      · have e8 := (hkb i hi).mp (bit.mp eb)
        refine tp_get ht hi hC (fun r z => absurd ⟨eo, Or.inr e8⟩ z) (fun _ _ => ?_)
        rw [tp_us e8]
        exact nm_e (nm_r (nI_1 i) (hw _ rfl))
      · have n8 : ¬ a8 i = nI t := fun z => eb (bit.mpr ((hkb i hi).mpr z))
        refine tp_peek hi ?_
        rw [seenF i hi n8]
        exact nm_e (nm_r (nI_1 i) (hw _ rfl))
  · refine br_f (fun z => eo ((tp_bit1 (by omega) (by omega)).mp z)) ?_
    have eo' : on.testBit t = false := by
      cases h : on.testBit t with
      | true => exact absurd h eo
      | false => rfl
    refine pk_loop (fun g i x8 => wL_commits_44 post (nI t) (nI x) (nI y) (nI ks) cc (tp_vw a7 12) 0 g x8 (nI i) (nI on) 0 vo he (nI c) nm sl pa tr td hp cc fi wa se lo a1 a2 a3 a4 a5 a6 a7 a8 a9 a10 a11 a12 a13 a14 a15 a16) (fun _ _ => True) 12 0 0 (by omega) trivial ?_ ?_
    · intro g x8 _
      refine pk_le 12 12 (fun _ => ?_) (fun z => absurd z (by omega))
      refine tp_commit hI hc ht hx hy (fun _ => ?_) (fun z => absurd z eo)
      exact br_t rfl (br_t rfl (tp_view (br_t rfl (H c on _ _ _ _ _ _ _ _ _ _ _ _ _ _ _ _ _ _ _ _ _ _ _ _ _ _ _ _ _ (by omega) hI (fun _ => rfl)))))
    · intro g i x8 hi _ hw
      exact pk_le 12 i (fun z => absurd z (by omega)) (fun _ => br_t rfl (tp_peek hi (nm_e (nm_r (nI_1 i) (hw _ trivial)))))
end
section
/-! 17: the law -/
theorem tp_tail {post : Int32 → Prop} {L : Nat} {xs : Nat → Int32} {J : Int32 → Int32 → Int32 → Int32 → Int32 → Int32 → Int32 → Int32 → Int32 → Int32 → Int32 → Int32 → Int32 → Int32 → Int32 → Int32 → Int32 → (Nat → Int32) → (Nat → Int32) → (Nat → Int32) → (Nat → Int32) → (Nat → Int32) → (Nat → Int32) → (Nat → Int32) → (Nat → Int32) → (Nat → Int32) → (Nat → Int32) → (Nat → Int32) → (Nat → Int32) → (Nat → Int32) → (Nat → Int32) → (Nat → Int32) → (Nat → Int32) → Prop} {st vo he ns nm sl pa tr td hp cc fi wa se lo : Int32} {a1 a2 a3 a4 a5 a6 a7 a8 a9 a10 a11 a12 a13 a14 a15 a16 : Nat → Int32} {b : Nat → Int32} {i w t on on0 kc ks : Nat} {x7 : Int32} (hw : w < 16) (ht : t < 4) (ho : on0 < 16) (hC : tp_C b 4 on a8 a9 a10 a11 a12)
    (hT : ¬ (10 ≤ w ∧ w < 13 ∧ t < 2 ∧ on0.testBit t = true) → tp_sum a7 12 = x7) (H : J (nI (i + 1)) (nI on) st vo he ns nm sl pa tr td hp cc fi wa se lo a1 a2 a3 a4 a5 a6 a7 a8 a9 a10 a11 a12 a13 a14 a15 a16) : wL_law_271 post L xs J (nI i) (nI w) (nI t) x7 (nI on0) 1 kc ks (nI on) st vo he ns nm sl pa tr td hp cc fi wa se lo a1 a2 a3 a4 a5 a6 a7 a8 a9 a10 a11 a12 a13 a14 a15 a16 := by
  have k326 : wL_law_326 post L xs J (nI i) kc ks (nI on) st vo he ns nm sl pa tr td hp cc fi wa se lo a1 a2 a3 a4 a5 a6 a7 a8 a9 a10 a11 a12 a13 a14 a15 a16 := tp_sums (br_f (by decide) (tp_holders hC (br_f (by decide) (nm_r (nI_1 i) H))))
  have k304 : ¬ (10 ≤ w ∧ w < 13 ∧ t < 2 ∧ on0.testBit t = true) → wL_law_304 post L xs J (nI i) x7 1 kc ks (nI on) st vo he ns nm sl pa tr td hp cc fi wa se lo a1 a2 a3 a4 a5 a6 a7 a8 a9 a10 a11 a12 a13 a14 a15 a16 := fun g => br_f (by decide) (br_t rfl (tp_total (br_t (hT g) k326)))
  refine pk_lt w 10 (fun z => k304 (by omega)) (fun z => pk_le 13 w (fun y => k304 (by omega)) (fun y => pk_le 2 t (fun v => k304 (by omega)) (fun v => br_c (fun e => ?_) (fun e => ?_))))
  · exact br_f (by decide) (br_f (by decide) k326)
  · refine k304 (fun g => e ((tp_bit1 (by omega) (by omega)).mpr g.2.2.2))
theorem tp_rem' {n e d : Nat} {x y : Int32} (hx : x = nI n) (hy : y = nI d) (hn : n < 2 ^ 31) (hd : 0 < d) (hd2 : d < 2 ^ 31) (he : n % d = e) : x - x / y * y = nI e := by
  rw [hx, hy, pk_rem hn hd hd2, he]
theorem tp_law {L : Nat} {xs : Nat → Int32} (hL : L ≤ 260) (kc ks : Nat) : ∀ (g i c on : Nat) (vo he nm sl pa tr td hp cc fi wa se lo : Int32) (a1 a2 a3 a4 a5 a6 a7 a8 a9 a10 a11 a12 a13 a14 a15 a16 : Nat → Int32), i + g = L + 1 → i ≤ L → c ≤ i → tp_I (c + 1) on a1 a2 a3 a4 a5 a6 a7 a8 a9 a10 a11 a12 →
    wL_law_10 (fun r => r = 1) L xs kc ks g (nI i) (nI on) 0 vo he (nI c) nm sl pa tr td hp cc fi wa se lo a1 a2 a3 a4 a5 a6 a7 a8 a9 a10 a11 a12 a13 a14 a15 a16 := by
  intro g
  induction g with
  | zero =>
    intro i c on vo he nm sl pa tr td hp cc fi wa se lo a1 a2 a3 a4 a5 a6 a7 a8 a9 a10 a11 a12 a13 a14 a15 a16 h1 h2
    exact absurd h1 (by omega)
  | succ g ih =>
    intro i c on vo he nm sl pa tr td hp cc fi wa se lo a1 a2 a3 a4 a5 a6 a7 a8 a9 a10 a11 a12 a13 a14 a15 a16 h1 h2 h3 hI
    refine pk_le L i (fun _ => rfl) (fun hi => ⟨pk_in i L hi, ?_⟩)
    have hC := hI.1
    have ho : on < 16 := hC.1
    obtain ⟨w, hw, ew⟩ := pk_andE (xs (nI i).toNatClampNeg) (m := 15) 4 (by decide)
    refine nm_r ew ⟨pk_in i L hi, nm_e ?_⟩
    generalize xs (nI i).toNatClampNeg >>> ((4 : Int32) &&& 31) = Z
    obtain ⟨t, ht, et⟩ := pk_andE Z (m := 3) 2 (by decide)
    obtain ⟨u, hu, eu⟩ := pk_andE (Z >>> ((2 : Int32) &&& 31)) (m := 15) 4 (by decide)
    have ht4 : t < 4 := ht
    have hw16 : w < 16 := hw
    have hu16 : u < 16 := hu
    refine nm_r et ⟨by decide, nm_r (tp_rem' (d := 12) (e := u % 12) eu rfl (by omega) (by omega) (by omega) rfl) ?_⟩
    have hk : u % 12 < 12 := Nat.mod_lt _ (by omega)
    generalize u % 12 = k at hk
    refine tp_total (tp_open ?_)
    have nx : ∀ (c' on' : Nat) (vo he nm sl pa tr td hp cc fi wa se lo : Int32) (a1' a2' a3' a4' a5' a6' a7' a8' a9' a10' a11' a12' a13' a14' a15' a16' : Nat → Int32), c' ≤ c + 1 → tp_I (c' + 1) on' a1' a2' a3' a4' a5' a6' a7' a8' a9' a10' a11' a12' → (¬ (10 ≤ w ∧ w < 13 ∧ t < 2 ∧ on.testBit t = true) → tp_sum a7' 12 = tp_sum a7 12) →
        wL_law_271 (fun r => r = 1) L xs (wL_law_10 (fun r => r = 1) L xs kc ks g) (nI i) (nI w) (nI t) (tp_sum a7 12) (nI on) 1 kc ks (nI on') 0 vo he (nI c') nm sl pa tr td hp cc fi wa se lo a1' a2' a3' a4' a5' a6' a7' a8' a9' a10' a11' a12' a13' a14' a15' a16' := by
      intro c' on' vo he nm sl pa tr td hp cc fi wa se lo a1' a2' a3' a4' a5' a6' a7' a8' a9' a10' a11' a12' a13' a14' a15' a16' hc' hI' hT
      exact tp_tail hw16 ht4 ho hI'.1 hT (ih (i + 1) c' on' vo he nm sl pa tr td hp cc fi wa se lo a1' a2' a3' a4' a5' a6' a7' a8' a9' a10' a11' a12' a13' a14' a15' a16' (by omega) (by omega) (by omega) hI')
    refine pk_le 3 w (fun w3 => pk_le 5 w (fun w5 => pk_le 7 w (fun w7 => pk_le 10 w (fun w10 => pk_le 13 w (fun w13 => pk_le 14 w (fun w14 => ?_) (fun w14 => ?_)) (fun w13 => ⟨by decide, ?_⟩)) (fun w10 => ⟨by decide, by decide, ?_⟩)) (fun w7 => ?_)) (fun w5 => ?_)) (fun w3 => ?_)
    · obtain ⟨m, hm, em⟩ := pk_andE (Z >>> ((6 : Int32) &&& 31)) (m := 3) 2 (by decide)
      rw [em]
      refine tp_crashes (n := c + 1) hm (by omega) (by omega) hI (fun on' b7 b8 b9 b10 b11 b12 hI' e7 => ?_)
      exact nx c on' _ _ _ _ _ _ _ _ _ _ _ _ _ _ _ _ _ _ _ _ _ _ _ _ _ _ _ _ _ (by omega) hI' (fun _ => tp_sum_cg 12 e7)
    · refine tp_view (tp_abort ht4 hC (fun r on' b8 b9 b11 hC' hn' => tp_view (br_t rfl ?_)))
      refine tp_keys ht4 hC' (fun ks' _ _ h0 => br_t (by rw [h0 hn']; rfl) ?_)
      exact nx c on' _ _ _ _ _ _ _ _ _ _ _ _ _ _ _ _ _ _ _ _ _ _ _ _ _ _ _ _ _ (by omega) ⟨hC', hI.2⟩ (fun _ => rfl)
    · obtain ⟨x, hx, ex⟩ := pk_andE (Z >>> ((6 : Int32) &&& 31)) (m := 7) 3 (by decide)
      obtain ⟨y, hy, ey⟩ := pk_andE (Z >>> ((9 : Int32) &&& 31)) (m := 3) 2 (by decide)
      have hy4 : y < 4 := hy
      rw [ex, tp_rem' (y := 3) (d := 3) (e := y % 3) ey rfl (by omega) (by omega) (by omega) rfl]
      refine tp_commits hI (by omega) ht4 hx (Nat.mod_lt _ (by omega)) (fun c' on' vo' he' nm' sl' pa' tr' td' hp' cc' fi' wa' se' lo' b1 b2 b3 b4 b5 b6 b7 b8 b9 b10 b11 b12 b13 b14 b15 b16 hc' hI' hT => ?_)
      exact nx c' on' _ _ _ _ _ _ _ _ _ _ _ _ _ _ _ _ _ _ _ _ _ _ _ _ _ _ _ _ _ hc' hI' (fun z => hT (fun y => z ⟨by omega, by omega, y.1, y.2⟩))
    · obtain ⟨e, he', ee⟩ := pk_andE (Z >>> ((6 : Int32) &&& 31)) (m := 255) 8 (by decide)
      obtain ⟨am, ham, ea⟩ := pk_andE (Z >>> ((14 : Int32) &&& 31)) (m := 31) 5 (by decide)
      have he256 : e < 256 := he'
      have ham32 : am < 32 := ham
      have e11 : e % 11 < 11 := Nat.mod_lt _ (by omega)
      rw [ea, tp_rem' (y := 11) (d := 11) (e := e % 11) ee rfl (by omega) (by omega) (by omega) rfl, nI_1, nI_add, tp_rem' (x := nI (k + 1 + e % 11)) (y := 12) (d := 12) (e := (k + 1 + e % 11) % 12) rfl rfl (by omega) (by omega) (by omega) rfl]
      rw [show (12 : Int32) * nI ((k + 1 + e % 11) % 12) = nI (12 * ((k + 1 + e % 11) % 12)) from pk_mul 12 _, nI_add]
      refine tp_move ht4 hk (Nat.mod_lt _ (by omega)) (by omega) hC (fun r b8 b9 b10 hC' => ?_)
      exact nx c on _ _ _ _ _ _ _ _ _ _ _ _ _ _ _ _ _ _ _ _ _ _ _ _ _ _ _ _ _ (by omega) ⟨hC', hI.2⟩ (fun _ => rfl)
    · rw [show nI t &&& 1 = nI (t % 2) from pk_andN (by omega) 1 (by decide)]
      refine tp_put (Nat.mod_lt _ (by omega)) hk hC (fun r b8 b9 b10 hC' => ?_)
      exact nx c on _ _ _ _ _ _ _ _ _ _ _ _ _ _ _ _ _ _ _ _ _ _ _ _ _ _ _ _ _ (by omega) ⟨hC', hI.2⟩ (fun _ => rfl)
    · refine tp_get ht4 hk hC (fun r _ => ?_) (fun eo ef => ?_)
      · exact nx c on _ _ _ _ _ _ _ _ _ _ _ _ _ _ _ _ _ _ _ _ _ _ _ _ _ _ _ _ _ (by omega) hI (fun _ => rfl)
      · exact nx c on _ _ _ _ _ _ _ _ _ _ _ _ _ _ _ _ _ _ _ _ _ _ _ _ _ _ _ _ _ (by omega) ⟨tp_C_get hC ht4 hk eo ef, hI.2⟩ (fun _ => rfl)
    · refine tp_begin hC (fun r on' b9 b11 b12 hC' => ?_)
      exact nx c on' _ _ _ _ _ _ _ _ _ _ _ _ _ _ _ _ _ _ _ _ _ _ _ _ _ _ _ _ _ (by omega) ⟨hC', hI.2⟩ (fun _ => rfl)
theorem tp_I_0 {a8 : Nat → Int32} (h8 : ∀ k, k < 12 → a8 k = -1) : tp_I 1 0 (fun _ => 0) (fun _ => 0) (fun _ => 0) (fun _ => 0) (fun _ => 0) (fun _ => 0) (fun _ => 0) a8 (fun _ => 0) (fun _ => 0) (fun _ => 0) (fun _ => 0) := by
  refine ⟨⟨by omega, fun k hk => Or.inl (h8 k hk), fun t ht => ⟨0, by omega, nI_0.symm, fun k hk z => ?_⟩, fun _ _ _ _ _ => rfl, fun _ _ _ _ _ _ => rfl, fun t ht h2 hn ho => ?_⟩, fun m hm => tp_SD_0 rfl (fun _ _ _ => rfl), ⟨0, nI_0.symm, by omega, fun i hi => absurd hi (by omega)⟩⟩
  · rw [Nat.zero_testBit] at z
    exact absurd z (by decide)
  · rw [Nat.zero_testBit] at ho
    exact absurd ho (by decide)
theorem i_vc (xs : Nat → Int32) (L : Nat) (hL : L ≤ 260) : wpL_law (fun r => r = 1) L xs := by
  refine ⟨16, 1396, by omega, by omega, ?_⟩
  refine ⟨by omega, by omega, by omega, by omega, by omega, by omega, by omega, by omega, by omega, by omega, by omega, by omega, by omega, by omega, by omega, by omega, by omega, by omega, by omega, by omega, by omega, by omega, by omega, by omega, by omega, by omega, by omega, by omega, by omega, by omega, by omega, by omega, ?_⟩
  refine pk_loop (fun n i s => wX_init_136 _ 16 1396 16 1396 0 0 0 0 0 0 0 0 0 0 0 0 0 0 0 0 n (nI i) (fun _ => 0) (fun _ => 0) (fun _ => 0) (fun _ => 0) (fun _ => 0) (fun _ => 0) (fun _ => 0) s (fun _ => 0) (fun _ => 0) (fun _ => 0) (fun _ => 0) (fun _ => 0) (fun _ => 0) (fun _ => 0) (fun _ => 0)) (fun i s => ∀ k, k < i → s k = -1) 12 0 (fun _ => 0) (by omega) (fun k hk => absurd hk (by omega)) ?_ ?_
  · intro n s h
    refine pk_le 12 12 (fun _ => ⟨L + 1, ?_⟩) (fun z => absurd z (by omega))
    exact tp_law hL _ _ (L + 1) 0 0 0 _ _ _ _ _ _ _ _ _ _ _ _ _ _ _ _ _ _ _ _ _ _ _ _ _ _ _ _ _ (by omega) (by omega) (by omega) (tp_I_0 h)
  · intro n i s hi h hw
    refine pk_le 12 i (fun z => absurd z (by omega)) (fun _ => ⟨pk_in i 12 hi, nm_r (by rw [nI_clamp (by omega)]) (nm_r (nI_1 i) (hw (upd s i (-1)) (fun k hk => ?_)))⟩)
    by_cases e : k = i
    · rw [e, pk_us]
    · rw [pk_un e]
      exact h k (by omega)
end
