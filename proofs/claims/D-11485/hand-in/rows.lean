section
/-- an int out of a whole number -/
def mg_z (t : Int) : Int32 := Int32.ofInt t
theorem mg_zN (n : Nat) : mg_z (n : Int) = nI n := Int32.ofInt_eq_ofNat
theorem mg_zadd (a b : Int) : mg_z a + mg_z b = mg_z (a + b) := (Int32.ofInt_add a b).symm
theorem mg_zmul (a b : Int) : mg_z a * mg_z b = mg_z (a * b) := (Int32.ofInt_mul a b).symm
theorem mg_zsub (a b : Int) : mg_z a - mg_z b = mg_z (a - b) := (Int32.ofInt_sub a b).symm
theorem mg_zI (x : Int32) : mg_z x.toInt = x := Int32.ofInt_toInt x
theorem mg_zT {t : Int} (h : -1000000 ≤ t ∧ t ≤ 1000000) : (mg_z t).toInt = t := Int32.toInt_ofInt_of_le (by omega) (by omega)
theorem mg_zlt {a b : Int} (ha : -1000000 ≤ a ∧ a ≤ 1000000) (hb : -1000000 ≤ b ∧ b ≤ 1000000) : mg_z a < mg_z b ↔ a < b := by
  rw [Int32.lt_iff_toInt_lt, mg_zT ha, mg_zT hb]
theorem mg_zle {a b : Int} (ha : -1000000 ≤ a ∧ a ≤ 1000000) (hb : -1000000 ≤ b ∧ b ≤ 1000000) : mg_z a ≤ mg_z b ↔ a ≤ b := by
  rw [Int32.le_iff_toInt_le, mg_zT ha, mg_zT hb]
theorem mg_zeq {a b : Int} (ha : -1000000 ≤ a ∧ a ≤ 1000000) (hb : -1000000 ≤ b ∧ b ≤ 1000000) : mg_z a = mg_z b ↔ a = b := by
  rw [← Int32.toInt_inj, mg_zT ha, mg_zT hb]
theorem mg_plt {x y : Int32} {A B : Prop} (a b : Int) (f : a < b → A) (g : b ≤ a → B) (hx : x = mg_z a) (hy : y = mg_z b) (ha : -1000000 ≤ a ∧ a ≤ 1000000) (hb : -1000000 ≤ b ∧ b ≤ 1000000) : (x < y → A) ∧ (¬ x < y → B) := by
  subst hx hy
  rw [mg_zlt ha hb]
  exact ⟨f, fun z => g (by omega)⟩
theorem mg_ple {x y : Int32} {A B : Prop} (a b : Int) (f : a ≤ b → A) (g : b < a → B) (hx : x = mg_z a) (hy : y = mg_z b) (ha : -1000000 ≤ a ∧ a ≤ 1000000) (hb : -1000000 ≤ b ∧ b ≤ 1000000) : (x ≤ y → A) ∧ (¬ x ≤ y → B) := by
  subst hx hy
  rw [mg_zle ha hb]
  exact ⟨f, fun z => g (by omega)⟩
theorem mg_fill {f s : Nat → Int32} {i k : Nat} {x : Int32} (hk : k = i) (h : ∀ j, j < i → s j = f j) (hx : x = f i) : ∀ j, j < i + 1 → upd s k x j = f j := by
  intro j hj
  rw [hk]
  by_cases e : j = i
  · rw [e, pk_us, hx]
  · rw [pk_un e]
    exact h j (by omega)
/-- the value of a place of two loops: the greater weight for MAX, the lesser for MIN -/
def mg_val (P : Nat → Int32) (c : Nat → Int) (q : Nat) : Int :=
  if P q = 1 then (if c (2 * q) < c (2 * q + 1) then c (2 * q + 1) else c (2 * q)) else (if c (2 * q + 1) < c (2 * q) then c (2 * q + 1) else c (2 * q))
/-- the game: players, loops, weights -/
def mg_B (P : Nat → Int32) (c : Nat → Int) (a1 a2 a3 : Nat → Int32) : Prop :=
  (∀ q, q < 5 → a1 q = P q) ∧ (∀ q, q < 5 → a2 (2 * q) = nI q ∧ a2 (2 * q + 1) = nI q) ∧ (∀ i, i < 10 → a3 i = mg_z (c i)) ∧ (∀ i, i < 10 → -3 ≤ c i ∧ c i ≤ 3)
/-- solved: the values stand in top and bottom -/
def mg_S (P : Nat → Int32) (c : Nat → Int) (a6 a7 : Nat → Int32) : Prop := ∀ q, q < 5 → a6 q = mg_z (mg_val P c q) ∧ a7 q = 1
def mg_K (P : Nat → Int32) (c : Nat → Int) (s : Int32) (a1 a2 a3 a6 a7 : Nat → Int32) : Prop := mg_B P c a1 a2 a3 ∧ (¬ s = 0 → mg_S P c a6 a7)
theorem mg_vb {P : Nat → Int32} {c : Nat → Int} {q : Nat} (h : ∀ i, i < 10 → -3 ≤ c i ∧ c i ≤ 3) (hq : q < 5) : -3 ≤ mg_val P c q ∧ mg_val P c q ≤ 3 := by
  have h1 := h (2 * q) (by omega)
  have h2 := h (2 * q + 1) (by omega)
  unfold mg_val
  split <;> split <;> omega
theorem mg_step (i : Nat) (v : Int) : v + (i : Int) * v = ((i + 1 : Nat) : Int) * v := by
  rw [Int.natCast_add, Int.add_mul, Int.add_comm]
  simp
theorem mg_seven {v : Int} (h : -3 ≤ v ∧ v ≤ 3) : v = -3 ∨ v = -2 ∨ v = -1 ∨ v = 0 ∨ v = 1 ∨ v = 2 ∨ v = 3 := by omega
theorem mg_bdd {i : Nat} {v : Int} (hi : i ≤ 1501) (hv : -3 ≤ v ∧ v ≤ 3) : -5000 ≤ (i : Int) * v ∧ (i : Int) * v ≤ 5000 := by
  rcases mg_seven hv with h | h | h | h | h | h | h <;> subst h <;> omega
/-- roundedOver at 1501 -/
def mg_rnd (x : Int32) : Int32 := if 0 ≤ 2 * x + 1501 then (2 * x + 1501) / (2 * 1501) else if (((2 * x + 1501) / (2 * 1501)) * 2) * 1501 = 2 * x + 1501 then (2 * x + 1501) / (2 * 1501) else (2 * x + 1501) / (2 * 1501) + (-1)
theorem mg_rndv {v : Int} (hv : -3 ≤ v ∧ v ≤ 3) : mg_rnd (mg_z (1501 * v)) = mg_z v := by
  rcases mg_seven hv with h | h | h | h | h | h | h <;> subst h <;> decide +kernel
/-- bits of the small sets -/
theorem mg_bit1 : ∀ x, x < 32 → ∀ i, i < 5 → ((nI x >>> (nI i &&& 31)) &&& 1) = nI (x / 2 ^ i % 2) := by decide +kernel
theorem mg_bit2 : ∀ x, x < 32 → ∀ i, i < 5 → (((nI x >>> (nI i &&& 31)) &&& 1) = 1 ↔ x.testBit i = true) := by decide +kernel
theorem mg_or : ∀ x, x < 32 → ∀ i, i < 5 → nI x ||| ((1 : Int32) <<< (nI i &&& 31)) = nI (x ||| 2 ^ i) := by decide +kernel
theorem mg_sub1 : ∀ x, x < 32 → ∀ m, m < 32 → (nI x &&& (nI m ^^^ (-1))) = 0 → ∀ q, q < 5 → x.testBit q = true → m.testBit q = true := by decide +kernel
theorem mg_sub2 : ∀ k, k < 5 → ∀ m, m < 32 → m.testBit k = true → (nI (2 ^ k) &&& (nI m ^^^ (-1))) = 0 := by decide +kernel
def mg_cnt (x : Nat) : Nat → Nat
  | 0 => 0
  | i + 1 => mg_cnt x i + x / 2 ^ i % 2
theorem mg_cnt5 : ∀ x, x < 32 → 1 ≤ x → 1 ≤ mg_cnt x 5 ∧ mg_cnt x 5 ≤ 5 := by decide +kernel
theorem mg_cnt1 : ∀ k, k < 5 → mg_cnt (2 ^ k) 5 = 1 ∧ (2 ^ k).testBit k = true ∧ 2 ^ k < 32 := by decide +kernel
end
section
section
variable {post : St2 → Prop} {P : Nat → Int32} {c : Nat → Int} {s : Int32} {a1 a2 a3 a4 a5 a6 a7 : Nat → Int32}
theorem mg_119 (H : ∀ b : Nat → Int32, (∀ j, j < 5 → b j = a5 j) → post (5, s, a1, a2, a3, b, a5, a6, a7)) : ∃ n, wX_playRound_119 post 5 s n 0 a1 a2 a3 a4 a5 a6 a7 :=
  pk_loop (fun n i b => wX_playRound_119 post 5 s n (nI i) a1 a2 a3 b a5 a6 a7) (fun i b => ∀ j, j < i → b j = a5 j) 5 0 a4 (by omega) (fun j hj => absurd hj (by omega))
    (fun n b h => pk_le 5 5 (fun _ => H b h) (fun z => absurd z (by omega)))
    (fun n i b hi h hw => pk_le 5 i (fun z => absurd z (by omega)) (fun _ => ⟨pk_in i 5 hi, pk_in i 5 hi, nm_e (nm_r (nI_1 i) (hw _ (mg_fill (nI_clamp (by omega)) h (by rw [nI_clamp (by omega)]))))⟩))
theorem mg_i2 (i : Nat) : nI i * 2 = nI (2 * i) := by
  rw [Nat.mul_comm]
  exact pk_mul i 2
theorem mg_i3 (i : Nat) : nI i * 2 + 1 = nI (2 * i + 1) := by
  rw [mg_i2, nI_1]
theorem mg_c2 {i : Nat} (hi : i < 5) : (nI i * 2).toNatClampNeg = 2 * i := pk_cl (2 * i) (mg_i2 i)
theorem mg_c3 {i : Nat} (hi : i < 5) : (nI i * 2 + 1).toNatClampNeg = 2 * i + 1 := pk_cl (2 * i + 1) (mg_i3 i)
theorem mg_2 {T : Nat → Int} (k : mg_B P c a1 a2 a3) (h4 : ∀ q, q < 5 → a4 q = mg_z (T q)) (hT : ∀ q, q < 5 → -5000 ≤ T q ∧ T q ≤ 5000)
    (H : ∀ b4 b5 : Nat → Int32, (∀ q, q < 5 → b4 q = mg_z (mg_val P c q + T q)) → post (5, s, a1, a2, a3, b4, b5, a6, a7)) : ∃ n, wX_playRound_2 post 5 s n 0 a1 a2 a3 a4 a5 a6 a7 := by
  obtain ⟨k1, k2, k3, k4⟩ := k
  refine pk_loop (fun n i b => wX_playRound_2 post 5 s n (nI i) a1 a2 a3 a4 b a6 a7) (fun i b => ∀ j, j < i → b j = mg_z (mg_val P c j + T j)) 5 0 a5 (by omega) (fun j hj => absurd hj (by omega)) ?_ ?_
  · intro n b h
    exact pk_le 5 5 (fun _ => mg_119 (fun b4 hb => H b4 b (fun q hq => by rw [hb q hq, h q hq]))) (fun z => absurd z (by omega))
  · intro n i b hi h hw
    have e1 : (nI i).toNatClampNeg = i := nI_clamp (by omega)
    have b1 := k4 (2 * i) (by omega)
    have b2 := k4 (2 * i + 1) (by omega)
    have b3 := hT i hi
    have x2 : a3 (nI i * 2).toNatClampNeg + a4 (a2 (nI i * 2).toNatClampNeg).toNatClampNeg = mg_z (c (2 * i) + T i) := by
      rw [mg_c2 hi, (k2 i hi).1, e1, k3 (2 * i) (by omega), h4 i hi, mg_zadd]
    have x3 : a3 (nI i * 2 + 1).toNatClampNeg + a4 (a2 (nI i * 2 + 1).toNatClampNeg).toNatClampNeg = mg_z (c (2 * i + 1) + T i) := by
      rw [mg_c3 hi, (k2 i hi).2, e1, k3 (2 * i + 1) (by omega), h4 i hi, mg_zadd]
    have v1 : a1 (nI i).toNatClampNeg = P i := by rw [e1, k1 i hi]
    have F : ∀ t : Int, t = mg_val P c i + T i → ∀ j, j < i + 1 → upd b (nI i).toNatClampNeg (mg_z t) j = mg_z (mg_val P c j + T j) := fun t ht => mg_fill (f := fun j => mg_z (mg_val P c j + T j)) e1 h (by rw [ht])
    refine pk_le 5 i (fun z => absurd z (by omega)) (fun _ => ⟨pk_in (2 * i) 10 (by omega) (mg_i2 i), pk_in (2 * i) 10 (by omega) (mg_i2 i), by rw [mg_c2 hi, (k2 i hi).1]; exact pk_in i 5 hi, nm_r x2 ⟨pk_in (2 * i + 1) 10 (by omega) (mg_i3 i), pk_in (2 * i + 1) 10 (by omega) (mg_i3 i), by rw [mg_c3 hi, (k2 i hi).2]; exact pk_in i 5 hi, nm_r x3 ⟨pk_in i 5 hi, ?_⟩⟩⟩)
    rw [v1]
    refine br_c (fun g => ?_) (fun g => ?_)
    · refine mg_plt _ _ (fun z => ?_) (fun z => ?_) rfl rfl (by omega) (by omega)
      · exact br_t rfl ⟨pk_in i 5 hi, nm_e (nm_r (nI_1 i) (hw _ (F _ (by unfold mg_val; rw [if_pos g, if_pos (by omega)]))))⟩
      · exact br_f (by decide) ⟨pk_in i 5 hi, nm_e (nm_r (nI_1 i) (hw _ (F _ (by unfold mg_val; rw [if_pos g, if_neg (by omega)]))))⟩
    · refine mg_plt _ _ (fun z => ?_) (fun z => ?_) rfl rfl (by omega) (by omega)
      · exact br_t rfl ⟨pk_in i 5 hi, nm_e (nm_r (nI_1 i) (hw _ (F _ (by unfold mg_val; rw [if_neg g, if_pos (by omega)]))))⟩
      · exact br_f (by decide) ⟨pk_in i 5 hi, nm_e (nm_r (nI_1 i) (hw _ (F _ (by unfold mg_val; rw [if_neg g, if_neg (by omega)]))))⟩
theorem mg_play {T : Nat → Int} (k : mg_B P c a1 a2 a3) (h4 : ∀ q, q < 5 → a4 q = mg_z (T q)) (hT : ∀ q, q < 5 → -5000 ≤ T q ∧ T q ≤ 5000)
    (H : ∀ b4 b5 : Nat → Int32, (∀ q, q < 5 → b4 q = mg_z (mg_val P c q + T q)) → post (5, s, a1, a2, a3, b4, b5, a6, a7)) : wpX_playRound post (5, s, a1, a2, a3, a4, a5, a6, a7) := mg_2 k h4 hT H
theorem mg_ro {pr : Int32 → Prop} {x : Int32} (H : ∀ r, pr r) : wpX_roundedOver pr (5, s, a1, a2, a3, a4, a5, a6, a7) x 1501 :=
  br_t (by decide) (nm_e ⟨by decide, nm_e (br_c (fun _ => H _) (fun _ => br_c (fun _ => H _) (fun _ => nm_e (H _))))⟩)
theorem mg_ro1 {pr : Int32 → Prop} {x : Int32} {v : Int} (hv : -3 ≤ v ∧ v ≤ 3) (hx : x = mg_z (1501 * v)) (H : pr (mg_z v)) : wpX_roundedOver pr (5, s, a1, a2, a3, a4, a5, a6, a7) x 1501 := by
  have e := mg_rndv hv
  rw [← hx] at e
  rw [← e] at H
  unfold mg_rnd at H
  refine br_t (by decide) (nm_e ⟨by decide, nm_e (br_c (fun h => ?_) (fun h => br_c (fun g => ?_) (fun g => nm_e ?_)))⟩)
  · rw [if_pos h] at H
    exact H
  · rw [if_neg h, if_pos g] at H
    exact H
  · rw [if_neg h, if_neg g] at H
    exact H
theorem mg_near1 {q : Nat} (hq : q < 5) (H : post (5, s, a1, a2, a3, a4, a5, a6, a7)) : ∀ n b, b ≤ 6 → 6 - b < n → wX_nearest_15 post (nI q) 1501 30 5 s n 1 (nI b) a1 a2 a3 a4 a5 a6 a7 := by
  intro n
  induction n with
  | zero => exact fun b hb hn => absurd hn (by omega)
  | succ n ih =>
    intro b hb hn
    exact pk_lt 5 b (fun _ => H) (fun z => ⟨pk_in q 5 hq, mg_ro (fun r => ⟨pk_in q 5 hq, nm_e (br_c (fun _ => br_f (by decide) (nm_r (nI_1 b) (ih (b + 1) (by omega) (by omega)))) (fun _ => nm_e (br_f (by decide) (nm_r (nI_1 b) (ih (b + 1) (by omega) (by omega))))))⟩)⟩)
theorem mg_near {q : Nat} {v : Int} (hq : q < 5) (hv : -3 ≤ v ∧ v ≤ 3) (h4 : a4 q = mg_z (1501 * v)) (H : post (5, s, a1, a2, a3, a4, a5, upd a6 q (mg_z v), upd a7 q 1)) : wpX_nearest post (5, s, a1, a2, a3, a4, a5, a6, a7) (nI q) 1501 := by
  have e1 : (nI q).toNatClampNeg = q := nI_clamp (by omega)
  have x : a4 (nI q).toNatClampNeg * 1 = mg_z (1501 * v) := by rw [e1, h4, Int32.mul_one]
  have y : a4 (nI q).toNatClampNeg * 1 - 1501 * mg_z v = 0 := by
    rw [x, show (1501 : Int32) = mg_z 1501 from rfl, mg_zmul, mg_zsub, Int.sub_self]
    rfl
  refine nm_r (e' := 30) (by decide) ⟨6, ?_⟩
  refine pk_lt 5 1 (fun z => absurd z (by omega)) (fun _ => ⟨pk_in q 5 hq, mg_ro1 hv x ⟨pk_in q 5 hq, nm_r y (br_t (by decide) (br_t rfl (br_f (by decide) ⟨pk_in q 5 hq, nm_r (by rw [e1]) ⟨pk_in q 5 hq, nm_r (by rw [e1]) (nm_r (e' := nI 2) (by decide) (mg_near1 hq H 5 2 (by omega) (by omega)))⟩⟩)))⟩⟩)
theorem mg_62 (v : Nat → Int) (hv : ∀ q, q < 5 → -3 ≤ v q ∧ v q ≤ 3) (h4 : ∀ q, q < 5 → a4 q = mg_z (1501 * v q))
    (H : ∀ b6 b7 : Nat → Int32, (∀ q, q < 5 → b6 q = mg_z (v q) ∧ b7 q = 1) → post (5, 1, a1, a2, a3, a4, a5, b6, b7)) : ∃ n, wX_solve_62 post 1501 n 0 5 s a1 a2 a3 a4 a5 a6 a7 :=
  pk_loop (fun n i (b : (Nat → Int32) × (Nat → Int32)) => wX_solve_62 post 1501 n (nI i) 5 s a1 a2 a3 a4 a5 b.1 b.2) (fun i b => ∀ j, j < i → b.1 j = mg_z (v j) ∧ b.2 j = 1) 5 0 (a6, a7) (by omega) (fun j hj => absurd hj (by omega))
    (fun n b h => pk_le 5 5 (fun _ => H b.1 b.2 h) (fun z => absurd z (by omega)))
    (fun n i b hi h hw => pk_le 5 i (fun z => absurd z (by omega)) (fun _ => mg_near hi (hv i hi) (h4 i hi) (nm_r (nI_1 i) (hw (upd b.1 i (mg_z (v i)), upd b.2 i 1) (fun j hj => ⟨mg_fill (f := fun j => mg_z (v j)) rfl (fun j hj => (h j hj).1) rfl j hj, mg_fill (f := fun _ => 1) rfl (fun j hj => (h j hj).2) rfl j hj⟩)))))
theorem mg_38 (k : mg_B P c a1 a2 a3) (h4 : ∀ q, q < 5 → a4 q = 0) (H : ∀ s' b4 b5 b6 b7, ¬ s' = 0 → mg_S P c b6 b7 → post (5, s', a1, a2, a3, b4, b5, b6, b7)) : ∃ n, wX_solve_38 post 1501 n 0 5 s a1 a2 a3 a4 a5 a6 a7 := by
  have hv : ∀ q, q < 5 → -3 ≤ mg_val P c q ∧ mg_val P c q ≤ 3 := fun q hq => mg_vb k.2.2.2 hq
  refine pk_loop (fun n i (b : (Nat → Int32) × (Nat → Int32)) => wX_solve_38 post 1501 n (nI i) 5 s a1 a2 a3 b.1 b.2 a6 a7) (fun i b => ∀ q, q < 5 → b.1 q = mg_z ((i : Int) * mg_val P c q)) 1501 0 (a4, a5) (by omega) (fun q hq => ?_) ?_ ?_
  · show a4 q = mg_z (((0 : Nat) : Int) * mg_val P c q)
    rw [h4 q hq, Int.natCast_zero, Int.zero_mul]
    rfl
  · intro n b h
    exact pk_le 1501 1501 (fun _ => mg_62 (mg_val P c) hv (fun q hq => h q hq) (fun b6 b7 hb => H 1 b.1 b.2 b6 b7 (by decide) hb)) (fun z => absurd z (by omega))
  · intro n i b hi h hw
    refine pk_le 1501 i (fun z => absurd z (by omega)) (fun _ => pk_le 2000 i (fun z => absurd z (by omega)) (fun _ => ?_))
    exact mg_play k h (fun q hq => mg_bdd (by omega) (hv q hq)) (fun b4 b5 hb => nm_r (nI_1 i) (hw (b4, b5) (fun q hq => by rw [← mg_step]; exact hb q hq)))
theorem mg_10 (k : mg_B P c a1 a2 a3) (H : ∀ s' b4 b5 b6 b7, ¬ s' = 0 → mg_S P c b6 b7 → post (5, s', a1, a2, a3, b4, b5, b6, b7)) : ∃ n, wX_solve_10 post 5 s n 0 a1 a2 a3 a4 a5 a6 a7 :=
  pk_loop (fun n i b => wX_solve_10 post 5 s n (nI i) a1 a2 a3 b a5 a6 a7) (fun i b => ∀ j, j < i → b j = 0) 5 0 a4 (by omega) (fun j hj => absurd hj (by omega))
    (fun n b h => pk_le 5 5 (fun _ => ek_v (P := fun r => ∃ fu, wX_solve_38 post r fu 0 5 s a1 a2 a3 b a5 a6 a7) (show ((((4 : Int32) * 5) * 5) * 5) * 3 + 1 = 1501 by decide) (mg_38 k h H)) (fun z => absurd z (by omega)))
    (fun n i b hi h hw => pk_le 5 i (fun z => absurd z (by omega)) (fun _ => ⟨pk_in i 5 hi, nm_e (nm_r (nI_1 i) (hw _ (mg_fill (f := fun _ => 0) (nI_clamp (by omega)) h rfl)))⟩))
theorem mg_solve (k : mg_K P c s a1 a2 a3 a6 a7) (H : ∀ s' b4 b5 b6 b7, ¬ s' = 0 → mg_S P c b6 b7 → post (5, s', a1, a2, a3, b4, b5, b6, b7)) : wpX_solve post (5, s, a1, a2, a3, a4, a5, a6, a7) :=
  br_c (fun _ => mg_10 k.1 H) (fun z => H s a4 a5 a6 a7 z (k.2 z))
end
end
section
section
variable {P : Nat → Int32} {c : Nat → Int} {s : Int32} {a1 a2 a3 a4 a5 a6 a7 : Nat → Int32} {k : Nat}
theorem mg_bp {post : Int32 → Prop} (hk : k < 5) (H : post 0) : wpX_badPlace post (5, s, a1, a2, a3, a4, a5, a6, a7) (nI k) :=
  br_f (nI_pos (by omega)) (br_t (nI_lt (b := 5) hk (by decide)) H)
/-- a place out of range -/
def mg_out (p : Int32) : Prop := p < 0 ∨ 4 < p
theorem mg_bpn {post : Int32 → Prop} {p : Int32} (hp : mg_out p) (H : post 1) : wpX_badPlace post (5, s, a1, a2, a3, a4, a5, a6, a7) p := by
  refine br_c (fun _ => H) (fun h => br_f ?_ H)
  rcases hp with g | g
  · exact absurd g h
  · intro z
    rw [Int32.lt_iff_toInt_lt] at g z
    have e4 : (4 : Int32).toInt = 4 := rfl
    have e5 : (5 : Int32).toInt = 5 := rfl
    omega
theorem mg_bm {post : Int32 → Prop} {m : Nat} (hk : k < 5) (hm : m < 2) (H : post 0) : wpX_badMove post (5, s, a1, a2, a3, a4, a5, a6, a7) (nI k) (nI m) := by
  unfold wpX_badMove
  exact mg_bp hk (br_t rfl (br_f (nI_pos (by omega)) (br_t (nI_le (b := 1) (by omega) (by decide)) H)))
theorem mg_bmn {post : Int32 → Prop} {p q : Int32} (hp : mg_out p) (H : post 1) : wpX_badMove post (5, s, a1, a2, a3, a4, a5, a6, a7) p q := by
  unfold wpX_badMove
  exact mg_bpn hp (br_f (by decide) H)
/-- who owns a place at first -/
def mg_P0 (q : Nat) : Int32 := if (nI q &&& 1) = 0 then 1 else 0
theorem mg_fill2 {b : Nat → Int32} {i : Nat} (h : ∀ q, q < i → b (2 * q) = nI q ∧ b (2 * q + 1) = nI q) : ∀ q, q < i + 1 → upd (upd b (2 * i) (nI i)) (2 * i + 1) (nI i) (2 * q) = nI q ∧ upd (upd b (2 * i) (nI i)) (2 * i + 1) (nI i) (2 * q + 1) = nI q := by
  intro q hq
  by_cases e : q = i
  · subst e
    exact ⟨by rw [pk_un (by omega), pk_us], pk_us⟩
  · have := h q (by omega)
    exact ⟨by rw [pk_un (by omega), pk_un (by omega)]; exact this.1, by rw [pk_un (by omega), pk_un (by omega)]; exact this.2⟩
theorem mg_init {post : St2 → Prop} {mc ms : Nat} (h1 : 7 ≤ mc) (h2 : 45 ≤ ms)
    (H : ∀ b1 b2 : Nat → Int32, (∀ q, q < 5 → b1 q = mg_P0 q) → (∀ q, q < 5 → b2 (2 * q) = nI q ∧ b2 (2 * q + 1) = nI q) → post (5, 0, b1, b2, (fun _ => 0), (fun _ => 0), (fun _ => 0), (fun _ => 0), (fun _ => 0))) : wpX_init post mc ms (0, 0) 5 := by
  refine ⟨by omega, by omega, by omega, by omega, by omega, by omega, by omega, by omega, by omega, by omega, by omega, by omega, h1, h2, br_t (by decide) (br_t (by decide) ?_)⟩
  refine pk_loop (fun n i (b : (Nat → Int32) × (Nat → Int32)) => wX_init_78 post mc ms 5 7 45 5 0 n (nI i) b.1 b.2 (fun _ => 0) (fun _ => 0) (fun _ => 0) (fun _ => 0) (fun _ => 0)) (fun i b => (∀ q, q < i → b.1 q = mg_P0 q) ∧ (∀ q, q < i → b.2 (2 * q) = nI q ∧ b.2 (2 * q + 1) = nI q)) 5 0 (_, _) (by omega) ⟨fun j hj => absurd hj (by omega), fun j hj => absurd hj (by omega)⟩ ?_ ?_
  · intro n b h
    exact pk_le 5 5 (fun _ => H b.1 b.2 h.1 h.2) (fun z => absurd z (by omega))
  · intro n i b hi h hw
    have e1 : (nI i).toNatClampNeg = i := nI_clamp (by omega)
    have F : ∀ z : Int32, z = mg_P0 i → wX_init_99 post mc ms (wX_init_78 post mc ms 5 7 45 5 0 n) 5 (nI i) z (nI i) 7 45 5 0 b.1 b.2 (fun _ => 0) (fun _ => 0) (fun _ => 0) (fun _ => 0) (fun _ => 0) := fun z hz =>
      ⟨pk_in i 5 hi, nm_r (by rw [e1]) ⟨pk_in (2 * i) 10 (by omega) (mg_i2 i), nm_r (by rw [mg_c2 hi]) ⟨pk_in (2 * i + 1) 10 (by omega) (mg_i3 i), nm_r (by rw [mg_c3 hi]) (nm_r (nI_1 i) (hw (upd b.1 i z, upd (upd b.2 (2 * i) (nI i)) (2 * i + 1) (nI i)) ⟨mg_fill rfl h.1 hz, mg_fill2 h.2⟩))⟩⟩⟩
    exact pk_le 5 i (fun z => absurd z (by omega)) (fun _ => br_c (fun g => F 1 (by unfold mg_P0; rw [if_pos g])) (fun g => F 0 (by unfold mg_P0; rw [if_neg g])))
/-- a weight as it is taken -/
def mg_cl (v : Int32) : Int32 := if v < (-3) then 0 else if 3 < v then 0 else v
theorem mg_clb (v : Int32) : -3 ≤ (mg_cl v).toInt ∧ (mg_cl v).toInt ≤ 3 := by
  have e3 : (3 : Int32).toInt = 3 := rfl
  have e4 : (-3 : Int32).toInt = -3 := rfl
  have e0 : (0 : Int32).toInt = 0 := rfl
  unfold mg_cl
  split
  · omega
  · rename_i h
    split
    · omega
    · rename_i g
      rw [Int32.lt_iff_toInt_lt] at h g
      omega
def mg_put (c : Nat → Int) (j : Nat) (t : Int) : Nat → Int := fun i => if i = j then t else c i
theorem mg_km {m : Nat} : nI k * 2 + nI m = nI (2 * k + m) := by
  rw [mg_i2, nI_add]
theorem mg_moveB {m : Nat} {v : Int32} (hk : k < 5) (hm : m < 2) (b : mg_B P c a1 a2 a3) {t : Int} (ht : -3 ≤ t ∧ t ≤ 3) (hv : v = mg_z t) : mg_B P (mg_put c (2 * k + m) t) a1 (upd a2 (2 * k + m) (nI k)) (upd a3 (2 * k + m) v) := by
  obtain ⟨k1, k2, k3, k4⟩ := b
  refine ⟨k1, fun q hq => ⟨?_, ?_⟩, fun i hi => ?_, fun i hi => ?_⟩
  · by_cases e : 2 * q = 2 * k + m
    · rw [e, pk_us, show q = k by omega]
    · rw [pk_un e]
      exact (k2 q hq).1
  · by_cases e : 2 * q + 1 = 2 * k + m
    · rw [e, pk_us, show q = k by omega]
    · rw [pk_un e]
      exact (k2 q hq).2
  · unfold mg_put
    by_cases e : i = 2 * k + m
    · rw [if_pos e, e, pk_us, hv]
    · rw [if_neg e, pk_un e]
      exact k3 i hi
  · unfold mg_put
    by_cases e : i = 2 * k + m
    · rw [if_pos e]
      exact ht
    · rw [if_neg e]
      exact k4 i hi
theorem mg_putS {j : Nat} {t : Int} (h : c j = t) : mg_put c j t = c := by
  funext i
  unfold mg_put
  by_cases e : i = j
  · rw [if_pos e, e, h]
  · rw [if_neg e]
theorem mg_move {post : Int32 → St2 → Prop} {m : Nat} {v : Int32} (hk : k < 5) (hm : m < 2) (b : mg_B P c a1 a2 a3) (h0 : c (2 * k + m) = 0)
    (H : ∀ (r : Int32) (b2 b3 : Nat → Int32), mg_B P (mg_put c (2 * k + m) (mg_cl v).toInt) a1 b2 b3 → post r (5, 0, a1, b2, b3, a4, a5, a6, a7)) : wpX_move post (5, 0, a1, a2, a3, a4, a5, a6, a7) (nI k) (nI m) (nI k) v := by
  have ec : (nI k * 2 + nI m).toNatClampNeg = 2 * k + m := pk_cl (2 * k + m) mg_km
  have hin : vp_in (nI k * 2 + nI m) 10 := pk_in (2 * k + m) 10 (by omega) mg_km
  have Z : mg_cl v = 0 → post (-100) (5, 0, a1, a2, a3, a4, a5, a6, a7) := fun z => H _ a2 a3 (by rw [z, mg_putS (by rw [h0]; rfl)]; exact b)
  unfold wpX_move
  refine mg_bm hk hm (br_t rfl (mg_bp hk (br_t rfl (br_c (fun h => Z (by unfold mg_cl; rw [if_pos h])) (fun h => br_c (fun g => ?_) (fun g => Z ?_))))))
  · have e : mg_cl v = v := by
      unfold mg_cl
      rw [if_neg h, if_neg (Int32.not_lt.mpr g)]
    refine ⟨hin, nm_r (by rw [ec]) ⟨hin, nm_r (by rw [ec]) ?_⟩⟩
    exact H _ _ _ (mg_moveB hk hm b (mg_clb v) (by rw [mg_zI, e]))
  · unfold mg_cl
    rw [if_neg h, if_pos (Int32.not_le.mp g)]
theorem mg_moven {post : Int32 → St2 → Prop} {p q m v : Int32} (hp : mg_out p) (H : ∀ r, post r (5, s, a1, a2, a3, a4, a5, a6, a7)) : wpX_move post (5, s, a1, a2, a3, a4, a5, a6, a7) p m q v := by
  unfold wpX_move
  exact mg_bmn hp (br_f (by decide) (H _))
/-- is a player given -/
def mg_G (x : Int32) : Int32 := if x = 0 then 1 else if x = 1 then 1 else 0
def mg_own (P : Nat → Int32) (k : Nat) (x : Int32) : Nat → Int32 := fun q => if q = k then (if mg_G x = 0 then P q else x) else P q
theorem mg_owner {post : Int32 → St2 → Prop} {x : Int32} (hk : k < 5) (b : mg_B P c a1 a2 a3)
    (H : ∀ b1, mg_B (mg_own P k x) c b1 a2 a3 → post (if mg_G x = 0 then -100 else P k) (5, 0, b1, a2, a3, a4, a5, a6, a7)) : wpX_owner post (5, 0, a1, a2, a3, a4, a5, a6, a7) (nI k) x := by
  obtain ⟨k1, k2, k3, k4⟩ := b
  have e1 : (nI k).toNatClampNeg = k := nI_clamp (by omega)
  have Z : mg_G x = 0 → post (-100) (5, 0, a1, a2, a3, a4, a5, a6, a7) := fun z => by
    have t := H a1 ⟨fun q hq => by unfold mg_own; rw [if_pos z, k1 q hq]; by_cases e : q = k <;> simp [e], k2, k3, k4⟩
    rw [if_pos z] at t
    exact t
  have N : ∀ {d : Int32}, x ≠ 0 → x ≠ 1 → mg_G x = 0 := fun u w => by
    unfold mg_G
    rw [if_neg u, if_neg w]
  unfold wpX_owner
  refine mg_bp hk (br_t rfl (br_c (fun h => Z (N (d := 0) (fun z => ?_) (fun z => ?_))) (fun h => br_c (fun g => ?_) (fun g => Z (N (d := 0) (fun z => ?_) (fun z => ?_))))))
  · subst z
    exact absurd h (by decide)
  · subst z
    exact absurd h (by decide)
  · have gv : ¬ mg_G x = 0 := by
      have e : x = 0 ∨ x = 1 := by
        rw [Int32.lt_iff_toInt_lt] at h
        rw [Int32.le_iff_toInt_le] at g
        rw [← Int32.toInt_inj, ← Int32.toInt_inj]
        have e1 : (1 : Int32).toInt = 1 := rfl
        have e0 : (0 : Int32).toInt = 0 := rfl
        omega
      rcases e with e | e <;> subst e <;> decide
    refine ⟨pk_in k 5 hk, nm_r (by rw [e1, k1 k hk]) ⟨pk_in k 5 hk, nm_r (by rw [e1]) ?_⟩⟩
    have t := H (upd a1 k x) ⟨fun q hq => ?_, k2, k3, k4⟩
    · rw [if_neg gv] at t
      exact t
    · unfold mg_own
      by_cases e : q = k
      · rw [if_pos e, if_neg gv, e, pk_us]
      · rw [if_neg e, pk_un e, k1 q hq]
  · subst z
    exact absurd (show (0 : Int32) ≤ 1 by decide) g
  · subst z
    exact absurd (show (1 : Int32) ≤ 1 by decide) g
theorem mg_ownern {post : Int32 → St2 → Prop} {p x : Int32} (hp : mg_out p) (H : post (-100) (5, s, a1, a2, a3, a4, a5, a6, a7)) : wpX_owner post (5, s, a1, a2, a3, a4, a5, a6, a7) p x := by
  unfold wpX_owner
  exact mg_bpn hp (br_f (by decide) H)
theorem mg_num {post : Int32 → St2 → Prop} (hk : k < 5) (K : mg_K P c s a1 a2 a3 a6 a7) (H : ∀ s' b4 b5 b6 b7, mg_K P c s' a1 a2 a3 b6 b7 → post (mg_z (mg_val P c k)) (5, s', a1, a2, a3, b4, b5, b6, b7)) : wpX_numerator post (5, s, a1, a2, a3, a4, a5, a6, a7) (nI k) := by
  unfold wpX_numerator
  exact mg_bp hk (br_t rfl (mg_solve K (fun s' b4 b5 b6 b7 hs h => ⟨pk_in k 5 hk, ek_v (P := fun r => post r (5, s', a1, a2, a3, b4, b5, b6, b7)) (by rw [nI_clamp (by omega), (h k hk).1]) (H s' b4 b5 b6 b7 ⟨K.1, fun _ => h⟩)⟩)))
theorem mg_numn {post : Int32 → St2 → Prop} {p : Int32} (hp : mg_out p) (H : post (-100) (5, s, a1, a2, a3, a4, a5, a6, a7)) : wpX_numerator post (5, s, a1, a2, a3, a4, a5, a6, a7) p := by
  unfold wpX_numerator
  exact mg_bpn hp (br_f (by decide) H)
theorem mg_den {post : Int32 → St2 → Prop} (hk : k < 5) (K : mg_K P c s a1 a2 a3 a6 a7) (H : ∀ s' b4 b5 b6 b7, mg_K P c s' a1 a2 a3 b6 b7 → post 1 (5, s', a1, a2, a3, b4, b5, b6, b7)) : wpX_denominator post (5, s, a1, a2, a3, a4, a5, a6, a7) (nI k) := by
  unfold wpX_denominator
  exact mg_bp hk (br_t rfl (mg_solve K (fun s' b4 b5 b6 b7 hs h => ⟨pk_in k 5 hk, ek_v (P := fun r => post r (5, s', a1, a2, a3, b4, b5, b6, b7)) (by rw [nI_clamp (by omega), (h k hk).2]) (H s' b4 b5 b6 b7 ⟨K.1, fun _ => h⟩)⟩)))
theorem mg_denn {post : Int32 → St2 → Prop} {p : Int32} (hp : mg_out p) (H : post (-100) (5, s, a1, a2, a3, a4, a5, a6, a7)) : wpX_denominator post (5, s, a1, a2, a3, a4, a5, a6, a7) p := by
  unfold wpX_denominator
  exact mg_bpn hp (br_f (by decide) H)
/-- is a bound taken -/
def mg_bd (a b : Int32) : Int32 := if a < (-100) then 0 else if 100 < a then 0 else if b < 1 then 0 else if 20 < b then 0 else 1
theorem mg_bb {post : Int32 → Prop} {a b : Int32} (H : post (if mg_bd a b = 0 then 1 else 0)) : wpX_badBound post (5, s, a1, a2, a3, a4, a5, a6, a7) a b := by
  have Z : mg_bd a b = 0 → post 1 := fun z => by
    rw [if_pos z] at H
    exact H
  refine br_c (fun h1 => Z (by unfold mg_bd; rw [if_pos h1])) (fun h1 => br_c (fun h2 => Z (by unfold mg_bd; rw [if_neg h1, if_pos h2])) (fun h2 => br_c (fun h3 => Z (by unfold mg_bd; rw [if_neg h1, if_neg h2, if_pos h3])) (fun h3 => br_c (fun h4 => ?_) (fun h4 => Z (by unfold mg_bd; rw [if_neg h1, if_neg h2, if_neg h3, if_pos (Int32.not_le.mp h4)])))))
  have e : ¬ mg_bd a b = 0 := by
    unfold mg_bd
    rw [if_neg h1, if_neg h2, if_neg h3, if_neg (Int32.not_lt.mpr h4)]
    decide
  rw [if_neg e] at H
  exact H
theorem mg_atl {post : Int32 → St2 → Prop} {a b : Int32} (hk : k < 5) (K : mg_K P c s a1 a2 a3 a6 a7) (H : ∀ s' b4 b5 b6 b7, mg_K P c s' a1 a2 a3 b6 b7 → post (if mg_bd a b = 0 then 0 else if mg_z (mg_val P c k) * b < a then 0 else 1) (5, s', a1, a2, a3, b4, b5, b6, b7)) : wpX_atLeast post (5, s, a1, a2, a3, a4, a5, a6, a7) (nI k) a b := by
  unfold wpX_atLeast
  refine mg_bp hk (br_t rfl (mg_bb ?_))
  by_cases e : mg_bd a b = 0
  · rw [if_pos e]
    refine br_f (by decide) ?_
    have t := H s a4 a5 a6 a7 K
    rw [if_pos e] at t
    exact t
  · rw [if_neg e]
    refine br_t rfl (mg_solve K (fun s' b4 b5 b6 b7 hs h => ⟨pk_in k 5 hk, pk_in k 5 hk, ?_⟩))
    have t := H s' b4 b5 b6 b7 ⟨K.1, fun _ => h⟩
    rw [if_neg e] at t
    rw [nI_clamp (by omega), (h k hk).1, (h k hk).2, Int32.mul_one]
    refine br_c (fun g => ?_) (fun g => ?_)
    · rw [if_pos g] at t
      exact t
    · rw [if_neg g] at t
      exact t
theorem mg_atln {post : Int32 → St2 → Prop} {p a b : Int32} (hp : mg_out p) (H : post 0 (5, s, a1, a2, a3, a4, a5, a6, a7)) : wpX_atLeast post (5, s, a1, a2, a3, a4, a5, a6, a7) p a b := by
  unfold wpX_atLeast
  exact mg_bpn hp (br_f (by decide) H)
theorem mg_six {post : Int32 → St2 → Prop} (hk : k < 5) (K : mg_K P c s a1 a2 a3 a6 a7) (H : ∀ s' b4 b5 b6 b7, post (60 * mg_z (mg_val P c k)) (5, s', a1, a2, a3, b4, b5, b6, b7)) : wpX_sixtieths post (5, s, a1, a2, a3, a4, a5, a6, a7) (nI k) := by
  unfold wpX_sixtieths
  refine mg_bp hk (br_t rfl (mg_solve K (fun s' b4 b5 b6 b7 hs h => ⟨pk_in k 5 hk, ?_⟩)))
  have e1 : (nI k).toNatClampNeg = k := nI_clamp (by omega)
  have e7 : b7 (nI k).toNatClampNeg = 1 := by rw [e1, (h k hk).2]
  have e6 : b6 (nI k).toNatClampNeg * 60 = 60 * mg_z (mg_val P c k) := by rw [e1, (h k hk).1, Int32.mul_comm]
  rw [e7]
  exact br_f (by decide) ⟨pk_in k 5 hk, by decide, nm_r (e' := 60) (by decide) ⟨pk_in k 5 hk, ek_v (P := fun r => post r (5, s', a1, a2, a3, b4, b5, b6, b7)) e6 (H s' b4 b5 b6 b7)⟩⟩
theorem mg_sixn {post : Int32 → St2 → Prop} {p : Int32} (hp : mg_out p) (H : post (-6000) (5, s, a1, a2, a3, a4, a5, a6, a7)) : wpX_sixtieths post (5, s, a1, a2, a3, a4, a5, a6, a7) p := by
  unfold wpX_sixtieths
  exact mg_bpn hp (br_f (by decide) H)
theorem mg_valp (hv : ∀ i, i < 10 → -3 ≤ c i ∧ c i ≤ 3) : mg_val P (mg_put c (2 * k + 1) (c (2 * k))) k = c (2 * k) := by
  unfold mg_val mg_put
  rw [if_pos (rfl : 2 * k + 1 = 2 * k + 1), if_neg (show ¬ 2 * k = 2 * k + 1 by omega)]
  split <;> split <;> rfl
theorem mg_keepB {b2 b3 : Nat → Int32} (hk : k < 5) (B : mg_B P c a1 a2 a3) (e2 : b2 = upd (upd a2 (2 * k + 1) (a2 (2 * k))) (2 * k + 1) (a2 (2 * k + 1))) (e3 : b3 = upd (upd a3 (2 * k + 1) (a3 (2 * k))) (2 * k + 1) (a3 (2 * k + 1))) : mg_B P c a1 b2 b3 := by
  have U : ∀ (f : Nat → Int32) (x : Int32) (j : Nat), upd (upd f (2 * k + 1) x) (2 * k + 1) (f (2 * k + 1)) j = f j := by
    intro f x j
    by_cases e : j = 2 * k + 1
    · rw [e, pk_us]
    · rw [pk_un e, pk_un e]
  obtain ⟨k1, k2, k3, k4⟩ := B
  subst e2 e3
  exact ⟨k1, fun q hq => by rw [U, U]; exact k2 q hq, fun i hi => by rw [U]; exact k3 i hi, k4⟩
theorem mg_keeps {post : Int32 → St2 → Prop} (hk : k < 5) (K : mg_K P c s a1 a2 a3 a6 a7) (H : ∀ b2 b3 b4 b5 b6 b7, mg_B P c a1 b2 b3 → post (if mg_z (c (2 * k)) = mg_z (mg_val P c k) then 1 else 0) (5, 0, a1, b2, b3, b4, b5, b6, b7)) : wpX_keeps post (5, s, a1, a2, a3, a4, a5, a6, a7) (nI k) 0 := by
  have B := K.1
  have ek : (nI k).toNatClampNeg = k := nI_clamp (by omega)
  have ei : nI k * 2 + 1 - 0 = nI (2 * k + 1) := by rw [Int32.sub_zero, mg_i3]
  have eo : (nI (2 * k + 1)).toNatClampNeg = 2 * k + 1 := nI_clamp (by omega)
  have e0 : (nI k * 2 + 0).toNatClampNeg = 2 * k := by rw [Int32.add_zero, mg_c2 hk]
  have i0 : vp_in (nI k * 2 + 0) 10 := by rw [Int32.add_zero]; exact pk_in (2 * k) 10 (by omega) (mg_i2 k)
  have io : vp_in (nI (2 * k + 1)) 10 := pk_in (2 * k + 1) 10 (by omega)
  have B' : mg_B P (mg_put c (2 * k + 1) (c (2 * k))) a1 (upd a2 (2 * k + 1) (a2 (2 * k))) (upd a3 (2 * k + 1) (a3 (2 * k))) := by
    rw [(B.2.1 k hk).1]
    exact mg_moveB (m := 1) hk (by omega) B (B.2.2.2 (2 * k) (by omega)) (B.2.2.1 (2 * k) (by omega))
  unfold wpX_keeps
  refine mg_bm (m := 0) hk (by omega) (br_t rfl (mg_solve K (fun s1 b4 b5 b6 b7 hs h => ⟨pk_in k 5 hk, nm_r (by rw [ek, (h k hk).1]) ⟨pk_in k 5 hk, nm_r (by rw [ek, (h k hk).2]) (nm_r ei ⟨io, nm_r (by rw [eo]) ⟨io, nm_r (by rw [eo]) ⟨i0, io, nm_r (by rw [eo, e0]) ⟨i0, io, nm_r (by rw [eo, e0]) ?_⟩⟩⟩⟩)⟩⟩)))
  refine mg_solve ⟨B', fun z => absurd rfl z⟩ (fun s2 d4 d5 d6 d7 hs2 h2 => ⟨pk_in k 5 hk, ?_⟩)
  have v6 : d6 (nI k).toNatClampNeg = mg_z (c (2 * k)) := by rw [ek, (h2 k hk).1, mg_valp B.2.2.2]
  have v7 : d7 (nI k).toNatClampNeg = 1 := by rw [ek, (h2 k hk).2]
  have F := fun b2 b3 e2 e3 => H b2 b3 d4 d5 d6 d7 (mg_keepB hk B e2 e3)
  rw [v6, v7]
  refine br_c (fun g => ?_) (fun g => ?_)
  · rw [if_pos g] at F
    exact ⟨pk_in k 5 hk, br_t rfl ⟨io, nm_r (by rw [eo]) ⟨io, nm_r (by rw [eo]) ⟨rfl, F _ _ rfl rfl⟩⟩⟩⟩
  · rw [if_neg g] at F
    exact ⟨io, nm_r (by rw [eo]) ⟨io, nm_r (by rw [eo]) ⟨rfl, F _ _ rfl rfl⟩⟩⟩
theorem mg_keepsn {post : Int32 → St2 → Prop} {p m : Int32} (hp : mg_out p) (H : post 0 (5, s, a1, a2, a3, a4, a5, a6, a7)) : wpX_keeps post (5, s, a1, a2, a3, a4, a5, a6, a7) p m := by
  unfold wpX_keeps
  exact mg_bmn hp (br_f (by decide) H)
end
end
section
section
variable {P : Nat → Int32} {c : Nat → Int} {s : Int32} {a1 a2 a3 a4 a5 a6 a7 : Nat → Int32} {k : Nat}
theorem mg_pm {post : Int32 → Prop} (H : ∀ m, m < 32 → (∀ q, q < 5 → (m.testBit q = true ↔ a1 q = 0)) → post (nI m)) : wpX_placesOfMin post (5, s, a1, a2, a3, a4, a5, a6, a7) := by
  refine pk_loop (fun n i (m : Nat) => wX_placesOfMin_4 post 5 s a1 a2 a3 a4 a5 a6 a7 n (nI m) (nI i)) (fun i m => i ≤ 5 ∧ m < 2 ^ i ∧ ∀ q, q < i → (m.testBit q = true ↔ a1 q = 0)) 5 0 0 (by omega) ⟨by omega, by decide, fun q hq => absurd hq (by omega)⟩ ?_ ?_
  · intro n m h
    exact pk_le 5 5 (fun _ => H m h.2.1 h.2.2) (fun z => absurd z (by omega))
  · intro n i m hi h hw
    obtain ⟨_, h2, h3⟩ := h
    have e1 : (nI i).toNatClampNeg = i := nI_clamp (by omega)
    have hm : m < 32 := Nat.lt_of_lt_of_le h2 (Nat.pow_le_pow_right (n := 2) (by omega) (show i ≤ 5 by omega))
    have hp : 2 ^ (i + 1) = 2 ^ i * 2 := Nat.pow_succ 2 i
    refine pk_le 5 i (fun z => absurd z (by omega)) (fun _ => ⟨pk_in i 5 hi, br_c (fun g => ?_) (fun g => ?_)⟩)
    · rw [e1] at g
      refine nm_r (mg_or m hm i hi) (nm_r (nI_1 i) (hw (m ||| 2 ^ i) ⟨by omega, ?_, fun q hq => ?_⟩))
      · exact Nat.or_lt_two_pow (by omega) (by omega)
      · rw [Nat.testBit_or]
        by_cases e : q = i
        · subst e
          rw [Nat.testBit_two_pow_self, Bool.or_true]
          exact ⟨fun _ => g, fun _ => rfl⟩
        · rw [Nat.testBit_two_pow_of_ne (fun z => e z.symm), Bool.or_false]
          exact h3 q (by omega)
    · rw [e1] at g
      refine nm_r (nI_1 i) (hw m ⟨by omega, by omega, fun q hq => ?_⟩)
      by_cases e : q = i
      · subst e
        rw [Nat.testBit_lt_two_pow h2]
        exact ⟨fun z => absurd z (by decide), fun z => absurd z g⟩
      · exact h3 q (by omega)
theorem mg_size {post : Int32 → Prop} {x : Nat} (hx : x < 32) (H : post (nI (mg_cnt x 5))) : wpX_sizeOf post (5, s, a1, a2, a3, a4, a5, a6, a7) (nI x) := by
  refine pk_loop (fun n i (m : Nat) => wX_sizeOf_4 post (nI x) 5 s a1 a2 a3 a4 a5 a6 a7 n (nI m) (nI i)) (fun i m => m = mg_cnt x i) 5 0 0 (by omega) rfl ?_ ?_
  · intro n m h
    subst h
    exact pk_le 5 5 (fun _ => H) (fun z => absurd z (by omega))
  · intro n i m hi h hw
    exact pk_le 5 i (fun z => absurd z (by omega)) (fun _ => nm_r (by rw [mg_bit1 x hx i hi, nI_add]) (nm_r (nI_1 i) (hw _ (by rw [h]; rfl))))
/-- the players when a set is given away -/
def mg_gv (P : Nat → Int32) (x : Nat) (to : Int32) : Nat → Int32 := fun q => if x.testBit q = true then to else P q
theorem mg_give {post : St2 → Prop} {x : Nat} {to : Int32} (hx : x < 32) (h1 : ∀ q, q < 5 → a1 q = P q) (H : ∀ b1 : Nat → Int32, (∀ q, q < 5 → b1 q = mg_gv P x to q) → post (5, 0, b1, a2, a3, a4, a5, a6, a7)) : wpX_give post (5, s, a1, a2, a3, a4, a5, a6, a7) (nI x) to := by
  refine pk_loop (fun n i b => wX_give_2 post (nI x) to 5 s n (nI i) b a2 a3 a4 a5 a6 a7) (fun i b => ∀ q, q < 5 → b q = if q < i then mg_gv P x to q else P q) 5 0 a1 (by omega) (fun q hq => ?_) ?_ ?_
  · rw [if_neg (by omega)]
    exact h1 q hq
  · intro n b h
    exact pk_le 5 5 (fun _ => H b (fun q hq => by rw [h q hq, if_pos hq])) (fun z => absurd z (by omega))
  · intro n i b hi h hw
    have e1 : (nI i).toNatClampNeg = i := nI_clamp (by omega)
    refine pk_le 5 i (fun z => absurd z (by omega)) (fun _ => ek_if (mg_bit2 x hx i hi) (fun g => ⟨pk_in i 5 hi, nm_r (by rw [e1]) (nm_r (nI_1 i) (hw (upd b i to) (fun q hq => ?_)))⟩) (fun g => nm_r (nI_1 i) (hw b (fun q hq => ?_))))
    · by_cases e : q = i
      · subst e
        rw [pk_us, if_pos (by omega)]
        unfold mg_gv
        rw [if_pos g]
      · rw [pk_un e, h q hq]
        by_cases l : q < i
        · rw [if_pos l, if_pos (by omega)]
        · rw [if_neg l, if_neg (by omega)]
    · rw [h q hq]
      by_cases e : q = i
      · subst e
        rw [if_neg (by omega), if_pos (by omega)]
        unfold mg_gv
        rw [if_neg g]
      · by_cases l : q < i
        · rw [if_pos l, if_pos (by omega)]
        · rw [if_neg l, if_neg (by omega)]
/-- is one gift enough -/
def mg_W (P : Nat → Int32) (c : Nat → Int) (k : Nat) : Prop := P k = 0 ∧ ¬ c (2 * k) = c (2 * k + 1)
/-- the least gift so far -/
def mg_best (P : Nat → Int32) (c : Nat → Int) (k i b : Nat) : Prop := (b = 1 ∧ mg_W P c k ∧ 2 ^ k < i) ∨ (b = 6 ∧ ¬ (mg_W P c k ∧ 2 ^ k < i))
theorem mg_v1 {Q : Nat → Int32} (h : Q k = P k) : mg_val Q c k = mg_val P c k := by
  unfold mg_val
  rw [h]
theorem mg_v2 {Q : Nat → Int32} (h : Q k = 1) (g : P k = 0) : mg_val P c k ≤ mg_val Q c k ∧ (mg_val Q c k = mg_val P c k ↔ c (2 * k) = c (2 * k + 1)) := by
  unfold mg_val
  rw [if_pos h, if_neg (show ¬ P k = 1 by rw [g]; decide)]
  split <;> split <;> omega
/-- the value with a set given to MAX -/
theorem mg_gain {x : Nat} (hs : x.testBit k = true → P k = 0) : (mg_val (mg_gv P x 1) c k ≤ mg_val P c k → ¬ (mg_W P c k ∧ x.testBit k = true)) ∧ (mg_val P c k < mg_val (mg_gv P x 1) c k → mg_W P c k ∧ x.testBit k = true) := by
  by_cases e : x.testBit k = true
  · have t := mg_v2 (P := P) (c := c) (k := k) (Q := mg_gv P x 1) (by unfold mg_gv; rw [if_pos e]) (hs e)
    refine ⟨fun h z => z.1.2 (t.2.mp (by omega)), fun h => ⟨⟨hs e, fun z => ?_⟩, e⟩⟩
    have := t.2.mpr z
    omega
  · have t := mg_v1 (P := P) (c := c) (k := k) (Q := mg_gv P x 1) (by unfold mg_gv; rw [if_neg e])
    exact ⟨fun _ z => e z.2, fun h => absurd h (by omega)⟩
theorem mg_46 {post : Int32 → St2 → Prop} {m : Nat} (hk : k < 5) (hm : m < 32) (hb : ∀ q, q < 5 → (m.testBit q = true ↔ P q = 0)) (K : mg_K P c s a1 a2 a3 a6 a7)
    (H : ∀ (b : Nat) (s' : Int32) (b1 b2 b3 b4 b5 b6 b7 : Nat → Int32), mg_best P c k 32 b → mg_K P c s' b1 b2 b3 b6 b7 → post (nI b) (5, s', b1, b2, b3, b4, b5, b6, b7)) :
    ∃ n, wX_gifts_46 post (nI k) (mg_z (mg_val P c k)) 1 (nI m) n 6 1 5 s a1 a2 a3 a4 a5 a6 a7 := by
  have vb := mg_vb (P := P) K.1.2.2.2 hk
  have ek : (nI k).toNatClampNeg = k := nI_clamp (by omega)
  have pk1 := mg_cnt1 k hk
  refine pk_loop (σ := Nat × Int32 × (Nat → Int32) × (Nat → Int32) × (Nat → Int32) × (Nat → Int32) × (Nat → Int32) × (Nat → Int32) × (Nat → Int32)) (fun n i t => wX_gifts_46 post (nI k) (mg_z (mg_val P c k)) 1 (nI m) n (nI t.1) (nI i) 5 t.2.1 t.2.2.1 t.2.2.2.1 t.2.2.2.2.1 t.2.2.2.2.2.1 t.2.2.2.2.2.2.1 t.2.2.2.2.2.2.2.1 t.2.2.2.2.2.2.2.2)
    (fun i t => 1 ≤ i ∧ mg_best P c k i t.1 ∧ mg_K P c t.2.1 t.2.2.1 t.2.2.2.1 t.2.2.2.2.1 t.2.2.2.2.2.2.2.1 t.2.2.2.2.2.2.2.2) 32 1 (6, s, a1, a2, a3, a4, a5, a6, a7) (by omega) ⟨by omega, Or.inr ⟨rfl, fun z => ?_⟩, K⟩ ?_ ?_
  · have := z.2
    have := Nat.one_le_two_pow (n := k)
    omega
  · intro n t h
    exact pk_le 32 32 (fun _ => H t.1 t.2.1 _ _ _ _ _ _ _ h.2.1 h.2.2) (fun z => absurd z (by omega)) (by decide)
  · intro n i t hi h hw
    obtain ⟨b, s, a1, a2, a3, a4, a5, a6, a7⟩ := t
    obtain ⟨hi1, hbest, K⟩ := h
    dsimp only at hbest K
    have cb := mg_cnt5 i hi hi1
    have bb : b ≤ 6 := by rcases hbest with z | z <;> omega
    -- the same best at the next set
    have same : ¬ (b = 6 ∧ mg_W P c k ∧ i = 2 ^ k) → mg_best P c k (i + 1) b := by
      intro u
      rcases hbest with ⟨z1, z2, z3⟩ | ⟨z1, z2⟩
      · exact Or.inl ⟨z1, z2, by omega⟩
      · refine Or.inr ⟨z1, fun w => ?_⟩
        by_cases e : i = 2 ^ k
        · exact u ⟨z1, w.1, e⟩
        · exact z2 ⟨w.1, by omega⟩
    refine pk_le 32 i (fun z => absurd z (by omega)) (fun _ => mg_size hi ?_) (by decide)
    refine br_c (fun hsub => ?_) (fun hns => nm_r (nI_1 i) (hw (b, s, a1, a2, a3, a4, a5, a6, a7) ⟨by omega, same (fun z => ?_), K⟩))
    · have hbit : ∀ q, q < 5 → i.testBit q = true → P q = 0 := fun q hq z => (hb q hq).mp (mg_sub1 i hi m hm hsub q hq z)
      refine pk_le b (mg_cnt i 5) (fun g => nm_r (nI_1 i) (hw (b, s, a1, a2, a3, a4, a5, a6, a7) ⟨by omega, same (fun z => by omega), K⟩)) (fun g => ?_)
      have b6 : b = 6 ∧ ¬ (mg_W P c k ∧ 2 ^ k < i) := by
        rcases hbest with z | z
        · exact absurd z.1 (by omega)
        · exact z
      refine mg_give (P := P) hi K.1.1 (fun d1 hd1 => ?_)
      refine mg_solve (P := mg_gv P i 1) (c := c) ⟨⟨hd1, K.1.2⟩, fun z => absurd rfl z⟩ (fun s' e4 e5 e6 e7 hs hS => ⟨pk_in k 5 hk, pk_in k 5 hk, ?_⟩)
      have vb' := mg_vb (P := mg_gv P i 1) K.1.2.2.2 hk
      have gain := mg_gain (P := P) (c := c) (k := k) (x := i) (hbit k hk)
      -- the set is taken back
      have back : ∀ b', mg_best P c k (i + 1) b' → wX_gifts_116 post (wX_gifts_46 post (nI k) (mg_z (mg_val P c k)) 1 (nI m) n) (nI k) (mg_z (mg_val P c k)) 1 (nI m) (nI b') (nI i) 5 s' d1 a2 a3 e4 e5 e6 e7 := by
        intro b' hb'
        refine mg_give (P := mg_gv P i 1) hi hd1 (fun f1 hf1 => nm_r (nI_1 i) (hw (b', 0, f1, a2, a3, e4, e5, e6, e7) ⟨by omega, hb', ⟨fun q hq => ?_, K.1.2⟩, fun z => absurd rfl z⟩))
        show f1 q = P q
        rw [hf1 q hq]
        unfold mg_gv
        by_cases e : i.testBit q = true
        · rw [if_pos e, hbit q hq e]
        · rw [if_neg e, if_neg e]
      refine mg_ple (mg_val (mg_gv P i 1) c k) (mg_val P c k) (fun z => back b (same (fun w => ?_))) (fun z => back (mg_cnt i 5) ?_) (by rw [ek, (hS k hk).1, Int32.mul_one]) (by rw [ek, (hS k hk).2, Int32.mul_one]) (by omega) (by omega)
      · exact gain.1 z ⟨w.2.1, by rw [w.2.2]; exact pk1.2.1⟩
      · have w := gain.2 z
        have ge : 2 ^ k ≤ i := Nat.ge_two_pow_of_testBit w.2
        have ei : i = 2 ^ k := by
          by_cases l : 2 ^ k < i
          · exact absurd ⟨w.1, l⟩ b6.2
          · omega
        exact Or.inl ⟨by rw [ei]; exact pk1.1, w.1, by omega⟩
    · rw [z.2.2] at hns
      exact hns (mg_sub2 k hk m hm ((hb k hk).mpr z.2.1.1))
theorem mg_gifts {post : Int32 → St2 → Prop} (hk : k < 5) (K : mg_K P c s a1 a2 a3 a6 a7)
    (H : ∀ (b : Nat) (s' : Int32) (b1 b2 b3 b4 b5 b6 b7 : Nat → Int32), mg_best P c k 32 b → mg_K P c s' b1 b2 b3 b6 b7 → post (nI b) (5, s', b1, b2, b3, b4, b5, b6, b7)) : wpX_gifts post (5, s, a1, a2, a3, a4, a5, a6, a7) (nI k) := by
  have ek : (nI k).toNatClampNeg = k := nI_clamp (by omega)
  unfold wpX_gifts
  refine mg_bp hk (br_t rfl (mg_solve K (fun s' b4 b5 b6 b7 hs h => ⟨pk_in k 5 hk, nm_r (by rw [ek, (h k hk).1]) ⟨pk_in k 5 hk, nm_r (by rw [ek, (h k hk).2]) (mg_pm (fun m hm hb => nm_r (e' := 6) (by decide) ?_))⟩⟩)))
  exact mg_46 hk hm (fun q hq => by rw [← K.1.1 q hq]; exact hb q hq) ⟨K.1, fun _ => h⟩ H
theorem mg_giftsn {post : Int32 → St2 → Prop} {p : Int32} (hp : mg_out p) (H : post (-100) (5, s, a1, a2, a3, a4, a5, a6, a7)) : wpX_gifts post (5, s, a1, a2, a3, a4, a5, a6, a7) p := by
  unfold wpX_gifts
  exact mg_bpn hp (br_f (by decide) H)
end
end
section
section
variable {post : Int32 → St0 → Prop} {mc ms kc ks : Nat} {x0 x1 x2 x3 x4 x5 x7 x8 x9 x10 x11 x12 x13 x14 x15 x16 x17 x18 x19 x20 x21 x22 : Int32}
theorem mg_t421 {z : Int32} (h12 : x12 = z) (h13 : x13 = if x14 = 0 then -6000 else 60 * x21) (H : post 1 ()) : wL_lawOf_421 post mc ms x13 x14 x21 z x12 kc ks := by
  refine br_t h12 (br_c (fun g => br_t ?_ H) (fun g => br_t ?_ H))
  · rw [h13, if_pos g]
  · rw [h13, if_neg g]
theorem mg_t388 {z : Int32} (h11 : x11 = z) (h12 : x12 = if x14 = 0 then -100 else if x18 = 0 then (if x20 ≤ x19 then 6 else 1) else 6) (h13 : x13 = if x14 = 0 then -6000 else 60 * x21) (H : post 1 ()) : wL_lawOf_388 post mc ms x12 x13 x14 x18 x19 x20 x21 z x11 kc ks := by
  refine br_t h11 (br_c (fun g => mg_t421 ?_ h13 H) (fun g => br_c (fun g2 => br_c (fun g3 => mg_t421 ?_ h13 H) (fun g3 => mg_t421 ?_ h13 H)) (fun g2 => mg_t421 ?_ h13 H)))
  · rw [h12, if_pos g]
  · rw [h12, if_neg g, if_pos g2, if_pos g3]
  · rw [h12, if_neg g, if_pos g2, if_neg g3]
  · rw [h12, if_neg g, if_neg g2]
theorem mg_t366 {z : Int32} (h10 : x10 = z) (h11 : x11 = if x14 = 0 then 0 else if x15 = x21 then 1 else 0) (h12 : x12 = if x14 = 0 then -100 else if x18 = 0 then (if x20 ≤ x19 then 6 else 1) else 6) (h13 : x13 = if x14 = 0 then -6000 else 60 * x21) (H : post 1 ()) : wL_lawOf_366 post mc ms x11 x12 x13 x14 x15 x18 x19 x20 x21 z x10 kc ks := by
  refine br_t h10 (br_c (fun g => mg_t388 ?_ h12 h13 H) (fun g => br_c (fun g2 => mg_t388 ?_ h12 h13 H) (fun g2 => mg_t388 ?_ h12 h13 H)))
  · rw [h11, if_pos g]
  · rw [h11, if_neg g, if_pos g2]
  · rw [h11, if_neg g, if_neg g2]
theorem mg_t336 {z : Int32} (h9 : x9 = z) (h10 : x10 = if x14 = 0 then 0 else if x22 = 0 then 0 else if x21 * x5 < x4 then 0 else 1) (h11 : x11 = if x14 = 0 then 0 else if x15 = x21 then 1 else 0) (h12 : x12 = if x14 = 0 then -100 else if x18 = 0 then (if x20 ≤ x19 then 6 else 1) else 6) (h13 : x13 = if x14 = 0 then -6000 else 60 * x21) (H : post 1 ()) : wL_lawOf_336 post mc ms x4 x5 x10 x11 x12 x13 x14 x15 x18 x19 x20 x21 x22 z x9 kc ks := by
  refine br_t h9 (br_c (fun g => mg_t366 ?_ h11 h12 h13 H) (fun g => br_c (fun g2 => mg_t366 ?_ h11 h12 h13 H) (fun g2 => br_c (fun g3 => mg_t366 ?_ h11 h12 h13 H) (fun g3 => mg_t366 ?_ h11 h12 h13 H))))
  · rw [h10, if_pos g]
  · rw [h10, if_neg g, if_pos g2]
  · rw [h10, if_neg g, if_neg g2, if_pos g3]
  · rw [h10, if_neg g, if_neg g2, if_neg g3]
theorem mg_t284 (h7 : x7 = if x17 = 0 then -100 else 1 - (x0 &&& 1)) (h8 : x8 = if x14 = 0 then -100 else x21) (h9 : x9 = if x14 = 0 then -100 else 1) (h10 : x10 = if x14 = 0 then 0 else if x22 = 0 then 0 else if x21 * x5 < x4 then 0 else 1) (h11 : x11 = if x14 = 0 then 0 else if x15 = x21 then 1 else 0) (h12 : x12 = if x14 = 0 then -100 else if x18 = 0 then (if x20 ≤ x19 then 6 else 1) else 6) (h13 : x13 = if x14 = 0 then -6000 else 60 * x21) (H : post 1 ()) : wL_lawOf_284 post mc ms x0 x4 x5 x7 x8 x9 x10 x11 x12 x13 x14 x15 x17 x18 x19 x20 x21 x22 kc ks := by
  have T320 : ∀ z : Int32, x8 = z → wL_lawOf_320 post mc ms x4 x5 x9 x10 x11 x12 x13 x14 x15 x18 x19 x20 x21 x22 z x8 kc ks := by
    intro z hz
    refine br_t hz (br_c (fun g => mg_t336 ?_ h10 h11 h12 h13 H) (fun g => mg_t336 ?_ h10 h11 h12 h13 H))
    · rw [h9, if_pos g]
    · rw [h9, if_neg g]
  have T303 : ∀ z : Int32, x7 = z → wL_lawOf_303 post mc ms x4 x5 x8 x9 x10 x11 x12 x13 x14 x15 x18 x19 x20 x21 x22 z x7 kc ks := by
    intro z hz
    refine br_t hz (br_c (fun g => T320 _ ?_) (fun g => T320 _ ?_))
    · rw [h8, if_pos g]
    · rw [h8, if_neg g]
  refine br_c (fun g => T303 _ ?_) (fun g => T303 _ ?_)
  · rw [h7, if_pos g]
  · rw [h7, if_neg g]
theorem mg_t250 (T : wL_lawOf_284 post mc ms x0 x4 x5 x7 x8 x9 x10 x11 x12 x13 x14 x15 x17 x18 x19 x20 x21 (mg_bd x4 x5) kc ks) : wL_lawOf_250 post mc ms x0 x4 x5 x7 x8 x9 x10 x11 x12 x13 x14 x15 x17 x18 x19 x20 x21 kc ks := by
  unfold mg_bd at T
  refine br_c (fun g1 => ?_) (fun g1 => br_c (fun g2 => ?_) (fun g2 => br_c (fun g3 => ?_) (fun g3 => br_c (fun g4 => ?_) (fun g4 => ?_))))
  · rw [if_pos g1] at T
    exact T
  · rw [if_neg g1, if_pos g2] at T
    exact T
  · rw [if_neg g1, if_neg g2, if_pos g3] at T
    exact T
  · rw [if_neg g1, if_neg g2, if_neg g3, if_pos g4] at T
    exact T
  · rw [if_neg g1, if_neg g2, if_neg g3, if_neg g4] at T
    exact T
theorem mg_t204 (T : wL_lawOf_250 post mc ms x0 x4 x5 x7 x8 x9 x10 x11 x12 x13 x14 x15 x17 x18 (if x16 ≤ x15 then x16 else x15) (if x16 ≤ x15 then x15 else x16) (if x18 = 0 then (if x16 ≤ x15 then x16 else x15) else (if x16 ≤ x15 then x15 else x16)) kc ks) : wL_lawOf_204 post mc ms x0 x4 x5 x7 x8 x9 x10 x11 x12 x13 x14 x15 x16 x17 x18 kc ks := by
  refine br_c (fun g => br_t g ?_) (fun g => br_f g ?_)
  · rw [if_pos g, if_pos g] at T
    refine br_c (fun g2 => ?_) (fun g2 => ?_)
    · rw [if_pos g2] at T
      exact T
    · rw [if_neg g2] at T
      exact T
  · rw [if_neg g, if_neg g] at T
    refine br_c (fun g2 => ?_) (fun g2 => ?_)
    · rw [if_pos g2] at T
      exact T
    · rw [if_neg g2] at T
      exact T
/-- is the place the maximiser's -/
def mg_M (g p x : Int32) : Int32 := if g = 0 then (if (p &&& 1) = 0 then 1 else 0) else (if x = 1 then 1 else 0)
theorem mg_t173 (T : wL_lawOf_204 post mc ms x0 x4 x5 x7 x8 x9 x10 x11 x12 x13 x14 x15 x16 x17 (mg_M x17 x0 x3) kc ks) : wL_lawOf_173 post mc ms x0 x3 x4 x5 x7 x8 x9 x10 x11 x12 x13 x14 x15 x16 x17 kc ks := by
  unfold mg_M at T
  refine br_c (fun g => br_c (fun g2 => ?_) (fun g2 => ?_)) (fun g => br_c (fun g2 => ?_) (fun g2 => ?_))
  · rw [if_pos g, if_pos g2] at T
    exact T
  · rw [if_pos g, if_neg g2] at T
    exact T
  · rw [if_neg g, if_pos g2] at T
    exact T
  · rw [if_neg g, if_neg g2] at T
    exact T
theorem mg_t106 (T : wL_lawOf_173 post mc ms x0 x3 x4 x5 x7 x8 x9 x10 x11 x12 x13 1 (mg_cl x1) (mg_cl x2) (mg_G x3) kc ks) : wL_lawOf_106 post mc ms x0 x1 x2 x3 x4 x5 x7 x8 x9 x10 x11 x12 x13 1 kc ks := by
  have T152 : ∀ u w : Int32, u = mg_cl x1 → w = mg_cl x2 → wL_lawOf_152 post mc ms x0 x3 x4 x5 x7 x8 x9 x10 x11 x12 x13 1 u w kc ks := by
    intro u w hu hw
    rw [← hu, ← hw] at T
    unfold mg_G at T
    refine br_f (by decide) (br_c (fun g => ?_) (fun g => br_c (fun g2 => ?_) (fun g2 => ?_)))
    · rw [if_pos g] at T
      exact T
    · rw [if_neg g, if_pos g2] at T
      exact T
    · rw [if_neg g, if_neg g2] at T
      exact T
  have T129 : ∀ u : Int32, u = mg_cl x1 → wL_lawOf_129 post mc ms x0 x2 x3 x4 x5 x7 x8 x9 x10 x11 x12 x13 1 u kc ks := by
    intro u hu
    refine br_f (by decide) (br_c (fun g => T152 u 0 hu ?_) (fun g => br_c (fun g2 => T152 u 0 hu ?_) (fun g2 => T152 u x2 hu ?_)))
    · unfold mg_cl
      rw [if_pos g]
    · unfold mg_cl
      rw [if_neg g, if_pos g2]
    · unfold mg_cl
      rw [if_neg g, if_neg g2]
  refine br_f (by decide) (br_c (fun g => T129 0 ?_) (fun g => br_c (fun g2 => T129 0 ?_) (fun g2 => T129 x1 ?_)))
  · unfold mg_cl
    rw [if_pos g]
  · unfold mg_cl
    rw [if_neg g, if_pos g2]
  · unfold mg_cl
    rw [if_neg g, if_neg g2]
/-- the law's end at a place out of range -/
theorem mg_t105 (H : post 1 ()) : wL_lawOf_105 post mc ms x0 x1 x2 x3 x4 x5 (-100) (-100) (-100) 0 0 (-100) (-6000) kc ks :=
  br_t rfl (br_t rfl (br_t rfl (mg_t173 (mg_t204 (mg_t250 (mg_t284 rfl rfl rfl rfl rfl rfl rfl H))))))
end
theorem mg_cell {post : Int32 → Prop} {xs : Nat → Int32} {L : Nat} (hL : L ≤ 6) (i : Nat) (hi : i < 6) (H : ∀ r, post r) : wpL_cellAt post L xs () (nI i) :=
  pk_le L i (fun _ => H 0) (fun z => ⟨pk_in i L z, H _⟩)
theorem mg_where (p : Int32) : mg_out p ∨ ∃ k, k < 5 ∧ p = nI k := by
  rcases pk_ix p (n := 5) (by decide) with h | h | h
  · exact Or.inl (Or.inl h)
  · refine Or.inl (Or.inr ?_)
    rw [Int32.le_iff_toInt_le] at h
    rw [Int32.lt_iff_toInt_lt]
    have e4 : (4 : Int32).toInt = 4 := rfl
    have e5 : (nI 5).toInt = 5 := rfl
    omega
  · exact Or.inr h
theorem mg_P0o : ∀ k, k < 5 → mg_P0 k = 1 - (nI k &&& 1) := by decide +kernel
/-- the law's picture of the value is the game's -/
theorem mg_due {P : Nat → Int32} {c : Nat → Int} {k : Nat} {X Y M : Int32} (hX : X = mg_z (c (2 * k))) (hY : Y = mg_z (c (2 * k + 1))) (b1 : -3 ≤ c (2 * k) ∧ c (2 * k) ≤ 3) (b2 : -3 ≤ c (2 * k + 1) ∧ c (2 * k + 1) ≤ 3) (hM : M = 0 ↔ ¬ P k = 1) :
    (if M = 0 then (if Y ≤ X then Y else X) else (if Y ≤ X then X else Y)) = mg_z (mg_val P c k) := by
  have le : Y ≤ X ↔ c (2 * k + 1) ≤ c (2 * k) := by rw [hX, hY]; exact mg_zle (by omega) (by omega)
  unfold mg_val
  by_cases e : P k = 1
  · rw [if_pos e, if_neg (fun z => hM.mp z e)]
    by_cases g : c (2 * k + 1) ≤ c (2 * k)
    · rw [if_pos (le.mpr g), if_neg (by omega), hX]
    · rw [if_neg (fun z => g (le.mp z)), if_pos (by omega), hY]
  · rw [if_neg e, if_pos (hM.mpr e)]
    by_cases g : c (2 * k + 1) ≤ c (2 * k)
    · rw [if_pos (le.mpr g), hY]
      by_cases g2 : c (2 * k + 1) < c (2 * k)
      · rw [if_pos g2]
      · rw [if_neg g2, show c (2 * k) = c (2 * k + 1) by omega]
    · rw [if_neg (fun z => g (le.mp z)), if_neg (by omega), hX]
/-- the law's picture of the gifts is the game's -/
theorem mg_gf {P : Nat → Int32} {c : Nat → Int} {k b : Nat} {X Y M : Int32} (hk : k < 5) (hX : X = mg_z (c (2 * k))) (hY : Y = mg_z (c (2 * k + 1))) (b1 : -3 ≤ c (2 * k) ∧ c (2 * k) ≤ 3) (b2 : -3 ≤ c (2 * k + 1) ∧ c (2 * k + 1) ≤ 3) (hM : M = 0 ↔ P k = 0) (hb : mg_best P c k 32 b) :
    nI b = if M = 0 then (if (if Y ≤ X then X else Y) ≤ (if Y ≤ X then Y else X) then 6 else 1) else 6 := by
  have le : Y ≤ X ↔ c (2 * k + 1) ≤ c (2 * k) := by rw [hX, hY]; exact mg_zle (by omega) (by omega)
  have le' : X ≤ Y ↔ c (2 * k) ≤ c (2 * k + 1) := by rw [hX, hY]; exact mg_zle (by omega) (by omega)
  have h32 := (mg_cnt1 k hk).2.2
  have eqv : (if Y ≤ X then X else Y) ≤ (if Y ≤ X then Y else X) ↔ c (2 * k) = c (2 * k + 1) := by
    by_cases g : Y ≤ X
    · rw [if_pos g, if_pos g, le']
      have := le.mp g
      omega
    · rw [if_neg g, if_neg g, le]
      have : ¬ c (2 * k + 1) ≤ c (2 * k) := fun z => g (le.mpr z)
      omega
  rcases hb with ⟨e, w, _⟩ | ⟨e, w⟩
  · rw [if_pos (hM.mpr w.1), if_neg (fun z => w.2 (eqv.mp z)), e]
    rfl
  · rw [e]
    by_cases g : M = 0
    · rw [if_pos g, if_pos (eqv.mpr ?_)]
      · rfl
      · by_cases u : c (2 * k) = c (2 * k + 1)
        · exact u
        · exact absurd ⟨⟨hM.mp g, u⟩, h32⟩ w
    · rw [if_neg g]
      rfl
theorem mg_law {post : Int32 → St0 → Prop} {mc ms : Nat} (hc : 8 ≤ mc) (hs : 54 ≤ ms) (p v w x a b : Int32) (H : post 1 ()) : wpL_lawOf post mc ms () p v w x a b := by
  refine ⟨by omega, by omega, 7, 45, by omega, by omega, mg_init (by omega) (by omega) (fun d1 d2 h1 h2 => ?_)⟩
  rcases mg_where p with hp | ⟨k, hk, rfl⟩
  · refine mg_moven hp (fun _ => mg_moven hp (fun _ => mg_ownern hp (mg_numn hp (mg_denn hp (mg_atln hp (mg_keepsn hp (mg_giftsn hp (mg_sixn hp ?_))))))))
    refine br_c (fun _ => mg_t105 H) (fun g => br_t ?_ (mg_t105 H))
    rcases hp with z | z
    · exact absurd z g
    · exact z
  · have B0 : mg_B mg_P0 (fun _ => 0) d1 d2 (fun _ => 0) := ⟨h1, h2, fun _ _ => rfl, fun _ _ => (by decide : (-3 : Int) ≤ 0 ∧ (0 : Int) ≤ 3)⟩
    refine mg_move (m := 0) hk (by omega) B0 rfl (fun _ u2 u3 B1 => ?_)
    refine mg_move (m := 1) hk (by omega) B1 (by unfold mg_put; rw [if_neg (by omega)]) (fun _ w2 w3 B2 => ?_)
    refine mg_owner hk B2 (fun e1 B3 => ?_)
    generalize hcc : mg_put (mg_put (fun _ => (0 : Int)) (2 * k + 0) (mg_cl v).toInt) (2 * k + 1) (mg_cl w).toInt = cc at B3
    have cX : cc (2 * k) = (mg_cl v).toInt := by
      rw [← hcc]
      unfold mg_put
      rw [if_neg (by omega), if_pos (by omega)]
    have cY : cc (2 * k + 1) = (mg_cl w).toInt := by
      rw [← hcc]
      unfold mg_put
      rw [if_pos rfl]
    have zX : mg_cl v = mg_z (cc (2 * k)) := by rw [cX, mg_zI]
    have zY : mg_cl w = mg_z (cc (2 * k + 1)) := by rw [cY, mg_zI]
    have bX := B3.2.2.2 (2 * k) (by omega)
    have bY := B3.2.2.2 (2 * k + 1) (by omega)
    generalize hPP : mg_own mg_P0 k x = PP at B3
    have hPk : PP k = if mg_G x = 0 then mg_P0 k else x := by
      rw [← hPP]
      unfold mg_own
      rw [if_pos rfl]
    have PM : PP k = mg_M (mg_G x) (nI k) x := by
      rw [hPk]
      unfold mg_M
      by_cases g : mg_G x = 0
      · rw [if_pos g, if_pos g]
        rfl
      · rw [if_neg g, if_neg g]
        unfold mg_G at g
        by_cases g0 : x = 0
        · rw [g0]
          rfl
        · by_cases g1 : x = 1
          · rw [g1]
            rfl
          · rw [if_neg g0, if_neg g1] at g
            exact absurd rfl g
    have M01 : mg_M (mg_G x) (nI k) x = 0 ∨ mg_M (mg_G x) (nI k) x = 1 := by
      unfold mg_M
      split <;> split <;> simp
    have hM0 : mg_M (mg_G x) (nI k) x = 0 ↔ PP k = 0 := by rw [PM]
    have hM1 : mg_M (mg_G x) (nI k) x = 0 ↔ ¬ PP k = 1 := by
      rw [PM]
      rcases M01 with z | z <;> rw [z] <;> decide
    have n1' : ¬ (1 : Int32) = 0 := by decide
    have due := mg_due zX zY bX bY hM1
    refine mg_num hk ⟨B3, fun z => absurd rfl z⟩ (fun s4 i4 i5 i6 i7 K4 => ?_)
    refine mg_den hk K4 (fun s5 j4 j5 j6 j7 K5 => ?_)
    refine mg_atl hk K5 (fun s6 l4 l5 l6 l7 K6 => ?_)
    refine mg_keeps hk K6 (fun m2 m3 m4 m5 m6 m7 B7 => ?_)
    refine mg_gifts hk ⟨B7, fun z => absurd rfl z⟩ (fun bb s8 n1 n2 n3 n4 n5 n6 n7 hbb K8 => ?_)
    refine mg_six hk K8 (fun s9 o4 o5 o6 o7 => ?_)
    refine br_f (nI_pos (by omega)) (br_f (nI_nlt (a := 4) (b := k) (by omega) (by omega)) (mg_t106 (mg_t173 (mg_t204 (mg_t250 (mg_t284 ?_ ?_ ?_ ?_ ?_ ?_ ?_ H))))))
    · rw [mg_P0o k hk]
    · rw [if_neg n1', due]
    · rw [if_neg n1']
    · rw [if_neg n1', due]
    · rw [if_neg n1', due, zX]
    · rw [if_neg n1']
      exact mg_gf hk zX zY bX bY hM0 hbb
    · rw [if_neg n1', due]
theorem i_vc (xs : Nat → Int32) (L : Nat) (hL : L ≤ 6) : wpL_law (fun r => r = 1) L xs :=
  mg_cell hL 0 (by omega) (fun p => mg_cell hL 1 (by omega) (fun v => mg_cell hL 2 (by omega) (fun w => mg_cell hL 3 (by omega) (fun x => mg_cell hL 4 (by omega) (fun a => mg_cell hL 5 (by omega) (fun b => ⟨46, 720, by omega, by omega, mg_law (by omega) (by omega) p v w x a b rfl⟩))))))
end
