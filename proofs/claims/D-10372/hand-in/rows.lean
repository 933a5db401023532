section
/-- a digit modulo seven as an int -/
def mo_n (a : Fin 7) : Int32 := nI a.val
/-- a flag as an int -/
def mo_b : Bool → Int32
  | true => 1
  | false => 0
/-- what mod answers -/
def mo_md (x : Int32) : Int32 := if 0 ≤ x - x / 7 * 7 then x - x / 7 * 7 else x - x / 7 * 7 + 7
/-- the inverse, and 0 for 0 -/
def mo_iv (a : Fin 7) : Fin 7 := a * a * a * a * a
theorem mo_mod {post : Int32 → Prop} {x y : Int32} (e : mo_md x = y) (h : post y) : wpX_mod post () x := by
  subst e
  refine ⟨by decide, fun z ez => ?_⟩
  subst ez
  unfold mo_md at h
  exact ⟨fun c => by rw [if_pos c] at h; exact h, fun c => by rw [if_neg c] at h; exact h⟩
theorem mo_red : ∀ w f r : Fin 7, mo_md (mo_n w - mo_n f * mo_n r) = mo_n (w - f * r) := by decide +kernel
theorem mo_mulr : ∀ a b : Fin 7, mo_n a * mo_n b - mo_n a * mo_n b / 7 * 7 = mo_n (a * b) := by decide +kernel
theorem mo_n0 : ∀ a : Fin 7, mo_n a = 0 ↔ a = 0 := by decide +kernel
theorem mo_b0 : ∀ b : Bool, mo_b b = 0 ↔ b = false := by decide +kernel
theorem mo_b1 : ∀ b : Bool, mo_b b = 1 ↔ b = true := by decide +kernel
theorem mo_bn : ∀ b : Bool, vp_nar .boolean (mo_b b) = mo_b b := by
  intro b
  cases b <;> rfl
theorem mo_iv1 : ∀ a : Fin 7, a ≠ 0 → a * mo_iv a = 1 := by decide +kernel
theorem mo_ivp : ∀ a : Fin 7, a ≠ 0 → 1 ≤ (mo_iv a).val := by decide +kernel
theorem mo_ivq : ∀ a i : Fin 7, mo_n a * nI i.val - mo_n a * nI i.val / 7 * 7 = 1 ↔ a ≠ 0 ∧ i = mo_iv a := by decide +kernel
theorem mo_ix (e i : Nat) : nI e * 5 + nI i = nI (e * 5 + i) := by
  rw [show (5 : Int32) = nI 5 from rfl, pk_mul, nI_add]
theorem mo_cx {e i : Nat} (he : e < 6) (hi : i < 5) : (nI e * 5 + nI i).toNatClampNeg = e * 5 + i := pk_cl (e * 5 + i) (mo_ix e i) (by omega)
/-- the first k places of an array are the digits W -/
def mo_P (k : Nat) (a : Nat → Int32) (W : Nat → Fin 7) : Prop := ∀ j, j < k → a j = mo_n (W j)
/-- the first k places of an array are the flags D -/
def mo_PB (k : Nat) (a : Nat → Int32) (D : Nat → Bool) : Prop := ∀ j, j < k → a j = mo_b (D j)
/-- the rows of determined unknowns are R -/
def mo_PR (a : Nat → Int32) (D : Nat → Bool) (R : Nat → Nat → Fin 7) : Prop := ∀ u, u < 4 → D u = true → ∀ i, i < 5 → a (u * 5 + i) = mo_n (R u i)
/-- the first n equations are E -/
def mo_PE (n : Nat) (a : Nat → Int32) (E : Nat → Nat → Fin 7) : Prop := ∀ e, e < n → ∀ i, i < 5 → a (e * 5 + i) = mo_n (E e i)
theorem mo_fill {f s : Nat → Int32} {i k : Nat} {x : Int32} (hk : k = i) (h : ∀ j, j < i → s j = f j) (hx : x = f i) : ∀ j, j < i + 1 → upd s k x j = f j := by
  intro j hj
  rw [hk]
  by_cases e : j = i
  · rw [e, pk_us, hx]
  · rw [pk_un e]
    exact h j (by omega)
theorem mo_fill2 {f g s : Nat → Int32} {m i k : Nat} {x : Int32} (hk : k = i) (h : ∀ j, j < m → s j = if j < i then f j else g j) (hx : x = f i) : ∀ j, j < m → upd s k x j = if j < i + 1 then f j else g j := by
  intro j hj
  rw [hk]
  by_cases e : j = i
  · rw [e, pk_us, hx, if_pos (by omega)]
  · rw [pk_un e, h j hj]
    by_cases g : j < i
    · rw [if_pos g, if_pos (by omega)]
    · rw [if_neg g, if_neg (by omega)]
theorem mo_fillR {f g s : Nat → Int32} {w m i k : Nat} {x : Int32} (hk : k = w * 5 + i) (h : ∀ j, j < m → s (w * 5 + j) = if j < i then f j else g j) (hx : x = f i) : ∀ j, j < m → upd s k x (w * 5 + j) = if j < i + 1 then f j else g j := by
  intro j hj
  rw [hk]
  by_cases e : j = i
  · rw [e, pk_us, hx, if_pos (by omega)]
  · rw [pk_un (by omega), h j hj]
    by_cases g : j < i
    · rw [if_pos g, if_pos (by omega)]
    · rw [if_neg g, if_neg (by omega)]
theorem mo_offR {s a : Nat → Int32} {w i k : Nat} {x : Int32} (hk : k = w * 5 + i) (hi : i < 5) (h : ∀ v, v ≠ w → ∀ j, j < 5 → s (v * 5 + j) = a (v * 5 + j)) : ∀ v, v ≠ w → ∀ j, j < 5 → upd s k x (v * 5 + j) = a (v * 5 + j) := by
  intro v hv j hj
  rw [hk, pk_un (by omega)]
  exact h v hv j hj
theorem mo_ofN {m : Nat} : mo_n (Fin.ofNat 7 m) = nI (m % 7) := rfl
theorem mo_rem7 {m : Nat} (h : m < 2 ^ 31) : nI m - nI m / 7 * 7 = mo_n (Fin.ofNat 7 m) := pk_rem h (by decide) (by decide)
theorem mo_div7 {m : Nat} (h : m < 2 ^ 31) : nI m / 7 = nI (m / 7) := pk_div h (by decide) (by decide)
theorem mo_inj {a b : Fin 7} : mo_n a = mo_n b ↔ a = b := by
  unfold mo_n
  rw [nI_eq (by omega) (by omega)]
  exact Fin.ext_iff.symm
/-- one bit of a set of at most six -/
theorem mo_bit : ∀ S : Fin 64, ∀ e : Fin 6, ((nI S.val >>> (nI e.val &&& 31)) &&& 1) = 1 ↔ S.val.testBit e.val = true := by decide +kernel
theorem mo_or : ∀ e : Fin 6, ∀ S : Fin 64, S.val < 2 ^ e.val → nI S.val ||| ((1 : Int32) <<< (nI e.val &&& 31)) = nI (S.val + 2 ^ e.val) ∧ S.val + 2 ^ e.val < 2 ^ (e.val + 1) ∧ (S.val + 2 ^ e.val).testBit e.val = true ∧ S.val.testBit e.val = false ∧ ∀ d : Fin 6, d.val < e.val → (S.val + 2 ^ e.val).testBit d.val = S.val.testBit d.val := by decide +kernel
theorem mo_inverse {post : Int32 → Prop} {a : Fin 7} (h : post (mo_n (mo_iv a))) : wpX_inverse post () (mo_n a) := by
  by_cases ha : a = 0
  · subst ha
    exact pk_loop (σ := Unit) (fun n i _ => wX_inverse_2 post (mo_n 0) n (nI i)) (fun _ _ => True) 7 1 () (by omega) trivial
      (fun n _ _ => pk_le 7 7 (fun _ => h) (fun z => absurd z (by omega)))
      (fun n i _ hi _ hw => pk_le 7 i (fun z => absurd z (by omega)) (fun _ => ⟨by decide, br_f (fun z => ((mo_ivq 0 ⟨i, hi⟩).mp z).1 rfl) (nm_r (nI_1 i) (hw () trivial))⟩))
  · have h7 : (mo_iv a).val < 7 := (mo_iv a).isLt
    exact pk_loop (σ := Unit) (fun n i _ => wX_inverse_2 post (mo_n a) n (nI i)) (fun _ _ => True) (mo_iv a).val 1 () (mo_ivp a ha) trivial
      (fun n _ _ => pk_le 7 (mo_iv a).val (fun z => absurd z (by omega)) (fun _ => ⟨by decide, br_t ((mo_ivq a (mo_iv a)).mpr ⟨ha, rfl⟩) h⟩))
      (fun n i _ hi _ hw => pk_le 7 i (fun z => absurd z (by omega)) (fun _ => ⟨by decide, br_f (fun z => absurd (congrArg Fin.val ((mo_ivq a ⟨i, by omega⟩).mp z).2) (by show i ≠ _; omega)) (nm_r (nI_1 i) (hw () trivial))⟩))
end
section
/-! ===== the pure program ===== -/
/-- reduce, at unknown u -/
def mo_rS (R : Nat → Nat → Fin 7) (D : Nat → Bool) (u : Nat) (s : Option Nat × (Nat → Fin 7)) : Option Nat × (Nat → Fin 7) :=
  if s.2 u = 0 then s else if D u = true then (s.1, fun i => s.2 i - s.2 u * R u i) else if s.1 = none then (some u, s.2) else s
/-- reduce, from unknown k - 1 down -/
def mo_rL (R : Nat → Nat → Fin 7) (D : Nat → Bool) : Nat → Option Nat × (Nat → Fin 7) → Option Nat × (Nat → Fin 7)
  | 0, s => s
  | k + 1, s => mo_rL R D k (mo_rS R D k s)
def mo_rd (R : Nat → Nat → Fin 7) (D : Nat → Bool) (W : Nat → Fin 7) : Option Nat × (Nat → Fin 7) := mo_rL R D 4 (none, W)
def mo_kD (D : Nat → Bool) (u : Nat) : Nat → Bool := fun w => if w = u then true else D w
def mo_kR (R : Nat → Nat → Fin 7) (W : Nat → Fin 7) (u : Nat) : Nat → Nat → Fin 7 := fun w i =>
  if w = u then W i * mo_iv (W u) else if u < w then R w i - R w u * (W i * mo_iv (W u)) else R w i
/-- one equation more: the flags, the rows, whether there is a contradiction -/
def mo_st (s : (Nat → Bool) × (Nat → Nat → Fin 7) × Bool) (W : Nat → Fin 7) : (Nat → Bool) × (Nat → Nat → Fin 7) × Bool :=
  match mo_rd s.2.1 s.1 W with
  | (none, V) => if V 4 = 0 then s else (s.1, s.2.1, true)
  | (some u, V) => (mo_kD s.1 u, mo_kR s.2.1 V u, s.2.2)
def mo_sv (E : Nat → Nat → Fin 7) (O : Nat → Bool) : Nat → (Nat → Bool) × (Nat → Nat → Fin 7) × Bool
  | 0 => (fun _ => false, fun _ _ => 0, false)
  | e + 1 => if O e = true then mo_st (mo_sv E O e) (E e) else mo_sv E O e
/-- the ways of k unknowns from u on -/
def mo_wy (D : Nat → Bool) : Nat → Nat → Nat
  | 0, _ => 1
  | k + 1, u => (if D u = true then 1 else 7) * mo_wy D k (u + 1)
/-- k digits from place w on, as a number -/
def mo_h (d : Nat → Fin 7) : Nat → Nat → Nat
  | _, 0 => 0
  | w, k + 1 => (d w).val + 7 * mo_h d (w + 1) k
/-- the right side less the first k products -/
def mo_rs (r d : Nat → Fin 7) : Nat → Fin 7
  | 0 => r 4
  | k + 1 => mo_rs r d k - r k * d k
def mo_up (d : Nat → Fin 7) (u : Nat) (v : Fin 7) : Nat → Fin 7 := fun j => if j = u then v else d j
def mo_sS (R : Nat → Nat → Fin 7) (D : Nat → Bool) (u : Nat) (s : Nat × (Nat → Fin 7)) : Nat × (Nat → Fin 7) :=
  if D u = true then (s.1, mo_up s.2 u (mo_rs (R u) s.2 u)) else (s.1 % mo_wy D (3 - u) (u + 1), mo_up s.2 u (Fin.ofNat 7 (s.1 / mo_wy D (3 - u) (u + 1))))
/-- solution number n: what is left, the digits -/
def mo_sL (R : Nat → Nat → Fin 7) (D : Nat → Bool) (n : Nat) : Nat → Nat × (Nat → Fin 7)
  | 0 => (n, fun _ => 0)
  | k + 1 => mo_sS R D k (mo_sL R D n k)
def mo_rk (D : Nat → Bool) (d : Nat → Fin 7) : Nat → Nat
  | 0 => 0
  | k + 1 => mo_rk D d k + (if D k = true then 0 else (d k).val * mo_wy D (3 - k) (k + 1))
/-! ===== points ===== -/
def mo_ho (W x : Nat → Fin 7) : Prop := W 0 * x 0 + W 1 * x 1 + W 2 * x 2 + W 3 * x 3 = W 4
def mo_sat (R : Nat → Nat → Fin 7) (D : Nat → Bool) (x : Nat → Fin 7) : Prop := ∀ u, u < 4 → D u = true → mo_ho (R u) x
def mo_Tri (R : Nat → Nat → Fin 7) (D : Nat → Bool) : Prop := ∀ u, u < 4 → D u = true → R u u = 1 ∧ ∀ w, u < w → w < 4 → R u w = 0
def mo_Sol (n : Nat) (E : Nat → Nat → Fin 7) (O : Nat → Bool) (x : Nat → Fin 7) : Prop := ∀ e, e < n → O e = true → mo_ho (E e) x
theorem mo_lin {W r x : Nat → Fin 7} (f : Fin 7) (h : mo_ho r x) : mo_ho (fun i => W i - f * r i) x ↔ mo_ho W x := by
  unfold mo_ho at *
  dsimp only
  constructor
  · intro g
    grind
  · intro g
    grind
theorem mo_scl {W x : Nat → Fin 7} {a b : Fin 7} (h : a * b = 1) : mo_ho (fun i => W i * b) x ↔ mo_ho W x := by
  unfold mo_ho
  dsimp only
  constructor
  · intro g
    have g2 : a * (W 0 * b * x 0 + W 1 * b * x 1 + W 2 * b * x 2 + W 3 * b * x 3) = a * (W 4 * b) := by rw [g]
    grind
  · intro g
    grind
theorem mo_rS_ho {R : Nat → Nat → Fin 7} {D : Nat → Bool} {x : Nat → Fin 7} (hx : mo_sat R D x) {u : Nat} (hu : u < 4) (s : Option Nat × (Nat → Fin 7)) : mo_ho (mo_rS R D u s).2 x ↔ mo_ho s.2 x := by
  unfold mo_rS
  by_cases h0 : s.2 u = 0
  · rw [if_pos h0]
  · rw [if_neg h0]
    by_cases hD : D u = true
    · rw [if_pos hD]
      exact mo_lin (s.2 u) (hx u hu hD)
    · rw [if_neg hD]
      by_cases ht : s.1 = none
      · rw [if_pos ht]
      · rw [if_neg ht]
theorem mo_rL_ho {R : Nat → Nat → Fin 7} {D : Nat → Bool} {x : Nat → Fin 7} (hx : mo_sat R D x) : ∀ k, k ≤ 4 → ∀ s : Option Nat × (Nat → Fin 7), mo_ho (mo_rL R D k s).2 x ↔ mo_ho s.2 x := by
  intro k
  induction k with
  | zero => exact fun _ s => Iff.rfl
  | succ k ih =>
    intro hk s
    exact (ih (by omega) (mo_rS R D k s)).trans (mo_rS_ho hx (by omega) s)
/-- what stands when reduce has come down to k -/
def mo_J (D : Nat → Bool) (k : Nat) (s : Option Nat × (Nat → Fin 7)) : Prop :=
  (s.1 = none → ∀ w, k ≤ w → w < 4 → s.2 w = 0) ∧ (∀ u, s.1 = some u → k ≤ u ∧ u < 4 ∧ D u = false ∧ s.2 u ≠ 0 ∧ ∀ w, u < w → w < 4 → s.2 w = 0)
theorem mo_rS_J {R : Nat → Nat → Fin 7} {D : Nat → Bool} (hT : mo_Tri R D) {k : Nat} (hk : k < 4) {s : Option Nat × (Nat → Fin 7)} (h : mo_J D (k + 1) s) : mo_J D k (mo_rS R D k s) := by
  obtain ⟨h1, h2⟩ := h
  unfold mo_rS
  by_cases h0 : s.2 k = 0
  · rw [if_pos h0]
    refine ⟨fun z w hw hw4 => ?_, fun u hu => ?_⟩
    · by_cases e : w = k
      · rw [e, h0]
      · exact h1 z w (by omega) hw4
    · obtain ⟨g1, g2⟩ := h2 u hu
      exact ⟨by omega, g2⟩
  · rw [if_neg h0]
    by_cases hD : D k = true
    · rw [if_pos hD]
      obtain ⟨t1, t2⟩ := hT k hk hD
      have same : ∀ w, k < w → w < 4 → s.2 w - s.2 k * R k w = s.2 w := by
        intro w hw hw4
        rw [t2 w hw hw4]
        grind
      refine ⟨fun z w hw hw4 => ?_, fun u hu => ?_⟩
      · show s.2 w - s.2 k * R k w = 0
        by_cases e : w = k
        · rw [e, t1]
          grind
        · rw [same w (by omega) hw4]
          exact h1 z w (by omega) hw4
      · obtain ⟨g1, g2, g3, g4, g5⟩ := h2 u hu
        refine ⟨by omega, g2, g3, ?_, fun w hw hw4 => ?_⟩
        · show s.2 u - s.2 k * R k u ≠ 0
          rw [same u (by omega) g2]
          exact g4
        · show s.2 w - s.2 k * R k w = 0
          rw [same w (by omega) hw4]
          exact g5 w hw hw4
    · rw [if_neg hD]
      by_cases ht : s.1 = none
      · rw [if_pos ht]
        refine ⟨fun z => absurd z (Option.some_ne_none k), fun u hu => ?_⟩
        have e : k = u := Option.some.inj hu
        subst e
        refine ⟨by omega, hk, ?_, h0, fun w hw hw4 => h1 ht w (by omega) hw4⟩
        cases g : D k
        · rfl
        · exact absurd g hD
      · rw [if_neg ht]
        refine ⟨fun z => absurd z ht, fun u hu => ?_⟩
        obtain ⟨g1, g2⟩ := h2 u hu
        exact ⟨by omega, g2⟩
theorem mo_rL_J {R : Nat → Nat → Fin 7} {D : Nat → Bool} (hT : mo_Tri R D) : ∀ k, k ≤ 4 → ∀ s : Option Nat × (Nat → Fin 7), mo_J D k s → mo_J D 0 (mo_rL R D k s) := by
  intro k
  induction k with
  | zero => exact fun _ s h => h
  | succ k ih => exact fun hk s h => ih (by omega) _ (mo_rS_J hT (by omega) h)
theorem mo_rd_J {R : Nat → Nat → Fin 7} {D : Nat → Bool} (hT : mo_Tri R D) (W : Nat → Fin 7) : mo_J D 0 (mo_rd R D W) :=
  mo_rL_J hT 4 (by omega) (none, W) ⟨fun _ w h1 h2 => absurd h1 (by omega), fun u hu => absurd hu.symm (Option.some_ne_none u)⟩
theorem mo_rd_ho {R : Nat → Nat → Fin 7} {D : Nat → Bool} {x : Nat → Fin 7} (hx : mo_sat R D x) (W : Nat → Fin 7) : mo_ho (mo_rd R D W).2 x ↔ mo_ho W x := mo_rL_ho hx 4 (by omega) (none, W)
theorem mo_zero {W x : Nat → Fin 7} (h : ∀ w, 0 ≤ w → w < 4 → W w = 0) : mo_ho W x ↔ W 4 = 0 := by
  unfold mo_ho
  rw [h 0 (by omega) (by omega), h 1 (by omega) (by omega), h 2 (by omega) (by omega), h 3 (by omega) (by omega)]
  constructor
  · intro g
    grind
  · intro g
    grind
/-! ===== keep ===== -/
theorem mo_kp_Tri {R : Nat → Nat → Fin 7} {D : Nat → Bool} {W : Nat → Fin 7} {u : Nat} (hT : mo_Tri R D) (h1 : W u ≠ 0) (h2 : ∀ w, u < w → w < 4 → W w = 0) : mo_Tri (mo_kR R W u) (mo_kD D u) := by
  have hi := mo_iv1 (W u) h1
  intro w hw hD
  unfold mo_kR
  by_cases e : w = u
  · subst e
    rw [if_pos rfl]
    refine ⟨hi, fun v hv hv4 => ?_⟩
    rw [if_pos rfl, h2 v hv hv4]
    grind
  · have hD' : D w = true := by
      unfold mo_kD at hD
      rw [if_neg e] at hD
      exact hD
    obtain ⟨t1, t2⟩ := hT w hw hD'
    rw [if_neg e]
    by_cases g : u < w
    · rw [if_pos g, t1, h2 w g hw]
      refine ⟨by grind, fun v hv hv4 => ?_⟩
      rw [if_neg e, if_pos g, t2 v hv hv4, h2 v (by omega) hv4]
      grind
    · rw [if_neg g]
      refine ⟨t1, fun v hv hv4 => ?_⟩
      rw [if_neg e, if_neg g]
      exact t2 v hv hv4
theorem mo_kp_sat {R : Nat → Nat → Fin 7} {D : Nat → Bool} {W : Nat → Fin 7} {u : Nat} (hu : u < 4) (hD : D u = false) (h1 : W u ≠ 0) (x : Nat → Fin 7) : mo_sat (mo_kR R W u) (mo_kD D u) x ↔ mo_sat R D x ∧ mo_ho W x := by
  have hi := mo_iv1 (W u) h1
  have eu : mo_kR R W u u = fun i => W i * mo_iv (W u) := by
    funext i
    unfold mo_kR
    rw [if_pos rfl]
  have du : mo_kD D u u = true := if_pos rfl
  have sc : mo_ho (mo_kR R W u u) x ↔ mo_ho W x := by
    rw [eu]
    exact mo_scl hi
  have other : ∀ w, w ≠ u → mo_ho (mo_kR R W u u) x → (mo_ho (mo_kR R W u w) x ↔ mo_ho (R w) x) := by
    intro w hw hx
    by_cases g : u < w
    · have ew : mo_kR R W u w = fun i => R w i - R w u * mo_kR R W u u i := by
        funext i
        rw [eu]
        unfold mo_kR
        rw [if_neg hw, if_pos g]
      rw [ew]
      exact mo_lin (R w u) hx
    · have ew : mo_kR R W u w = R w := by
        funext i
        unfold mo_kR
        rw [if_neg hw, if_neg g]
      rw [ew]
  have dw : ∀ w, w ≠ u → mo_kD D u w = D w := fun w hw => if_neg hw
  constructor
  · intro h
    have hx := h u hu du
    refine ⟨fun w hw hDw => ?_, sc.mp hx⟩
    have ne : w ≠ u := by
      intro e
      rw [e, hD] at hDw
      exact absurd hDw (by decide)
    exact (other w ne hx).mp (h w hw (by rw [dw w ne]; exact hDw))
  · intro h w hw hDw
    have hx := sc.mpr h.2
    by_cases e : w = u
    · rw [e]
      exact hx
    · rw [dw w e] at hDw
      exact (other w e hx).mpr (h.1 w hw hDw)
end
section
theorem mo_tf : ¬ (true = false) := by decide
theorem mo_ft : ¬ (false = true) := by decide
/-- what stands of a state of the elimination, P being the points of the equations so far -/
def mo_K (s : (Nat → Bool) × (Nat → Nat → Fin 7) × Bool) (P : (Nat → Fin 7) → Prop) : Prop :=
  mo_Tri s.2.1 s.1 ∧ (s.2.2 = false → ∀ x, mo_sat s.2.1 s.1 x ↔ P x) ∧ (s.2.2 = true → ∀ x, ¬ P x)
theorem mo_st_K {s : (Nat → Bool) × (Nat → Nat → Fin 7) × Bool} {P : (Nat → Fin 7) → Prop} (h : mo_K s P) (W : Nat → Fin 7) : mo_K (mo_st s W) (fun x => P x ∧ mo_ho W x) := by
  obtain ⟨hT, h2, h3⟩ := h
  unfold mo_st
  have J := mo_rd_J hT W
  have Ho : ∀ x, mo_sat s.2.1 s.1 x → (mo_ho (mo_rd s.2.1 s.1 W).2 x ↔ mo_ho W x) := fun x hx => mo_rd_ho hx W
  generalize mo_rd s.2.1 s.1 W = r at J Ho ⊢
  obtain ⟨t, V⟩ := r
  cases t with
  | none =>
    have z := J.1 rfl
    show mo_K (if V 4 = 0 then s else (s.1, s.2.1, true)) _
    by_cases h4 : V 4 = 0
    · rw [if_pos h4]
      refine ⟨hT, fun hc x => ?_, fun hc x hx => h3 hc x hx.1⟩
      constructor
      · intro hx
        exact ⟨(h2 hc x).mp hx, (Ho x hx).mp ((mo_zero z).mpr h4)⟩
      · intro hx
        exact (h2 hc x).mpr hx.1
    · rw [if_neg h4]
      refine ⟨hT, fun hc => absurd hc mo_tf, fun _ x hx => ?_⟩
      cases hc : s.2.2
      · have hs := (h2 hc x).mpr hx.1
        exact h4 ((mo_zero z).mp ((Ho x hs).mpr hx.2))
      · exact h3 hc x hx.1
  | some u =>
    obtain ⟨_, g2, g3, g4, g5⟩ := J.2 u rfl
    show mo_K (mo_kD s.1 u, mo_kR s.2.1 V u, s.2.2) _
    refine ⟨mo_kp_Tri hT g4 g5, fun hc x => ?_, fun hc x hx => h3 hc x hx.1⟩
    show mo_sat (mo_kR s.2.1 V u) (mo_kD s.1 u) x ↔ _
    rw [mo_kp_sat g2 g3 g4]
    constructor
    · intro hx
      exact ⟨(h2 hc x).mp hx.1, (Ho x hx.1).mp hx.2⟩
    · intro hx
      have hs := (h2 hc x).mpr hx.1
      exact ⟨hs, (Ho x hs).mpr hx.2⟩
theorem mo_K_congr {s : (Nat → Bool) × (Nat → Nat → Fin 7) × Bool} {P Q : (Nat → Fin 7) → Prop} (h : mo_K s P) (e : ∀ x, P x ↔ Q x) : mo_K s Q :=
  ⟨h.1, fun hc x => (h.2.1 hc x).trans (e x), fun hc x hx => h.2.2 hc x ((e x).mpr hx)⟩
theorem mo_sv_K (E : Nat → Nat → Fin 7) (O : Nat → Bool) : ∀ n, mo_K (mo_sv E O n) (mo_Sol n E O) := by
  intro n
  induction n with
  | zero => exact ⟨fun u _ h => absurd h mo_ft, fun _ x => ⟨fun _ e he => absurd he (by omega), fun _ u _ h => absurd h mo_ft⟩, fun h => absurd h mo_ft⟩
  | succ n ih =>
    unfold mo_sv
    by_cases hO : O n = true
    · rw [if_pos hO]
      refine mo_K_congr (mo_st_K ih (E n)) (fun x => ⟨fun h e he hOe => ?_, fun h => ⟨fun e he hOe => h e (by omega) hOe, h n (by omega) hO⟩⟩)
      by_cases g : e = n
      · rw [g]
        exact h.2
      · exact h.1 e (by omega) hOe
    · rw [if_neg hO]
      refine mo_K_congr ih (fun x => ⟨fun h e he hOe => ?_, fun h e he hOe => h e (by omega) hOe⟩)
      by_cases g : e = n
      · rw [g] at hOe
        exact absurd hOe hO
      · exact h e (by omega) hOe
/-! ===== counting ===== -/
def mo_s7 (f : Fin 7 → Nat) : Nat := f 0 + f 1 + f 2 + f 3 + f 4 + f 5 + f 6
noncomputable def mo_c1 (p : Prop) : Nat := @ite Nat p (Classical.propDecidable p) 1 0
theorem mo_c1_t {p : Prop} (h : p) : mo_c1 p = 1 := @if_pos p (Classical.propDecidable p) h Nat 1 0
theorem mo_c1_f {p : Prop} (h : ¬ p) : mo_c1 p = 0 := @if_neg p (Classical.propDecidable p) h Nat 1 0
def mo_pt (a b c d : Fin 7) : Nat → Fin 7
  | 0 => a
  | 1 => b
  | 2 => c
  | _ => d
noncomputable def mo_cnt (P : (Nat → Fin 7) → Prop) : Nat := mo_s7 fun a => mo_s7 fun b => mo_s7 fun c => mo_s7 fun d => mo_c1 (P (mo_pt a b c d)) * 1
theorem mo_cnt_congr {P Q : (Nat → Fin 7) → Prop} (h : ∀ x, P x ↔ Q x) : mo_cnt P = mo_cnt Q := by
  rw [show P = Q from funext (fun x => propext (h x))]
theorem mo_s7_1 : ∀ v : Fin 7, mo_s7 (fun a => if a = v then 1 else 0) = 1 := by decide +kernel
theorem mo_s7_m (f : Fin 7 → Nat) (w : Nat) : mo_s7 (fun a => f a * w) = mo_s7 f * w := by
  unfold mo_s7
  simp only [Nat.add_mul]
theorem mo_s7_L (P : Prop) (D : Bool) (v : Fin 7) (w : Nat) : mo_s7 (fun d => mo_c1 (P ∧ (D = true → d = v)) * w) = mo_c1 P * ((if D = true then 1 else 7) * w) := by
  rw [mo_s7_m, ← Nat.mul_assoc]
  congr 1
  by_cases hP : P
  · rw [mo_c1_t hP, Nat.one_mul]
    cases D
    · rw [show (fun d : Fin 7 => mo_c1 (P ∧ (false = true → d = v))) = fun _ => 1 from funext (fun d => mo_c1_t ⟨hP, fun z => absurd z (by decide)⟩)]
      rfl
    · rw [show (fun d : Fin 7 => mo_c1 (P ∧ (true = true → d = v))) = fun d => if d = v then 1 else 0 from funext (fun d => ?_)]
      · rw [mo_s7_1]
        rfl
      · by_cases e : d = v
        · rw [if_pos e, mo_c1_t ⟨hP, fun _ => e⟩]
        · rw [if_neg e, mo_c1_f (fun z => e (z.2 rfl))]
  · rw [mo_c1_f hP, Nat.zero_mul, show (fun d : Fin 7 => mo_c1 (P ∧ (D = true → d = v))) = fun _ => 0 from funext (fun d => mo_c1_f (fun z => hP z.1))]
    rfl
theorem mo_cnt0 {P : (Nat → Fin 7) → Prop} (h : ∀ x, ¬ P x) : mo_cnt P = 0 := by
  rw [show P = fun _ => False from funext (fun x => propext ⟨fun z => h x z, fun z => z.elim⟩)]
  unfold mo_cnt
  dsimp only
  rw [mo_c1_f (fun z : False => z)]
  rfl
theorem mo_row0 {r : Nat → Fin 7} {a b c d : Fin 7} (h : r 0 = 1 ∧ ∀ w, 0 < w → w < 4 → r w = 0) : mo_ho r (mo_pt a b c d) ↔ a = r 4 := by
  show r 0 * a + r 1 * b + r 2 * c + r 3 * d = r 4 ↔ _
  rw [h.1, h.2 1 (by omega) (by omega), h.2 2 (by omega) (by omega), h.2 3 (by omega) (by omega)]
  constructor <;> intro g <;> grind
theorem mo_row1 {r : Nat → Fin 7} {a b c d : Fin 7} (h : r 1 = 1 ∧ ∀ w, 1 < w → w < 4 → r w = 0) : mo_ho r (mo_pt a b c d) ↔ b = r 4 - r 0 * a := by
  show r 0 * a + r 1 * b + r 2 * c + r 3 * d = r 4 ↔ _
  rw [h.1, h.2 2 (by omega) (by omega), h.2 3 (by omega) (by omega)]
  constructor <;> intro g <;> grind
theorem mo_row2 {r : Nat → Fin 7} {a b c d : Fin 7} (h : r 2 = 1 ∧ ∀ w, 2 < w → w < 4 → r w = 0) : mo_ho r (mo_pt a b c d) ↔ c = r 4 - r 0 * a - r 1 * b := by
  show r 0 * a + r 1 * b + r 2 * c + r 3 * d = r 4 ↔ _
  rw [h.1, h.2 3 (by omega) (by omega)]
  constructor <;> intro g <;> grind
theorem mo_row3 {r : Nat → Fin 7} {a b c d : Fin 7} (h : r 3 = 1) : mo_ho r (mo_pt a b c d) ↔ d = r 4 - r 0 * a - r 1 * b - r 2 * c := by
  show r 0 * a + r 1 * b + r 2 * c + r 3 * d = r 4 ↔ _
  rw [h]
  constructor <;> intro g <;> grind
theorem mo_four {P : Nat → Prop} : (∀ u, u < 4 → P u) ↔ P 0 ∧ P 1 ∧ P 2 ∧ P 3 := by
  constructor
  · exact fun h => ⟨h 0 (by omega), h 1 (by omega), h 2 (by omega), h 3 (by omega)⟩
  · intro h u hu
    match u, hu with
    | 0, _ => exact h.1
    | 1, _ => exact h.2.1
    | 2, _ => exact h.2.2.1
    | 3, _ => exact h.2.2.2
theorem mo_sat_pt {R : Nat → Nat → Fin 7} {D : Nat → Bool} (hT : mo_Tri R D) (a b c d : Fin 7) : mo_sat R D (mo_pt a b c d) ↔ ((((True ∧ (D 0 = true → a = R 0 4)) ∧ (D 1 = true → b = R 1 4 - R 1 0 * a)) ∧ (D 2 = true → c = R 2 4 - R 2 0 * a - R 2 1 * b)) ∧ (D 3 = true → d = R 3 4 - R 3 0 * a - R 3 1 * b - R 3 2 * c)) := by
  have e0 : (D 0 = true → mo_ho (R 0) (mo_pt a b c d)) ↔ (D 0 = true → a = R 0 4) := imp_congr_right (fun h => mo_row0 (hT 0 (by omega) h))
  have e1 : (D 1 = true → mo_ho (R 1) (mo_pt a b c d)) ↔ (D 1 = true → b = R 1 4 - R 1 0 * a) := imp_congr_right (fun h => mo_row1 (hT 1 (by omega) h))
  have e2 : (D 2 = true → mo_ho (R 2) (mo_pt a b c d)) ↔ (D 2 = true → c = R 2 4 - R 2 0 * a - R 2 1 * b) := imp_congr_right (fun h => mo_row2 (hT 2 (by omega) h))
  have e3 : (D 3 = true → mo_ho (R 3) (mo_pt a b c d)) ↔ (D 3 = true → d = R 3 4 - R 3 0 * a - R 3 1 * b - R 3 2 * c) := imp_congr_right (fun h => mo_row3 (hT 3 (by omega) h).1)
  unfold mo_sat
  rw [mo_four (P := fun u => D u = true → mo_ho (R u) (mo_pt a b c d)), e0, e1, e2, e3]
  constructor
  · exact fun h => ⟨⟨⟨⟨trivial, h.1⟩, h.2.1⟩, h.2.2.1⟩, h.2.2.2⟩
  · exact fun h => ⟨h.1.1.1.2, h.1.1.2, h.1.2, h.2⟩
theorem mo_cnt_sat {R : Nat → Nat → Fin 7} {D : Nat → Bool} (hT : mo_Tri R D) : mo_cnt (mo_sat R D) = mo_wy D 4 0 := by
  unfold mo_cnt
  rw [show (fun a => mo_s7 fun b => mo_s7 fun c => mo_s7 fun d => mo_c1 (mo_sat R D (mo_pt a b c d)) * 1) = fun a => mo_c1 (True ∧ (D 0 = true → a = R 0 4)) * ((if D 1 = true then 1 else 7) * ((if D 2 = true then 1 else 7) * ((if D 3 = true then 1 else 7) * 1))) from funext (fun a => ?_)]
  · rw [mo_s7_L, mo_c1_t trivial, Nat.one_mul]
    rfl
  · rw [show (fun b => mo_s7 fun c => mo_s7 fun d => mo_c1 (mo_sat R D (mo_pt a b c d)) * 1) = fun b => mo_c1 ((True ∧ (D 0 = true → a = R 0 4)) ∧ (D 1 = true → b = R 1 4 - R 1 0 * a)) * ((if D 2 = true then 1 else 7) * ((if D 3 = true then 1 else 7) * 1)) from funext (fun b => ?_)]
    · rw [mo_s7_L]
    · rw [show (fun c => mo_s7 fun d => mo_c1 (mo_sat R D (mo_pt a b c d)) * 1) = fun c => mo_c1 (((True ∧ (D 0 = true → a = R 0 4)) ∧ (D 1 = true → b = R 1 4 - R 1 0 * a)) ∧ (D 2 = true → c = R 2 4 - R 2 0 * a - R 2 1 * b)) * ((if D 3 = true then 1 else 7) * 1) from funext (fun c => ?_)]
      · rw [mo_s7_L]
      · rw [show (fun d => mo_c1 (mo_sat R D (mo_pt a b c d)) * 1) = fun d => mo_c1 ((((True ∧ (D 0 = true → a = R 0 4)) ∧ (D 1 = true → b = R 1 4 - R 1 0 * a)) ∧ (D 2 = true → c = R 2 4 - R 2 0 * a - R 2 1 * b)) ∧ (D 3 = true → d = R 3 4 - R 3 0 * a - R 3 1 * b - R 3 2 * c)) * 1 from funext (fun d => by rw [propext (mo_sat_pt hT a b c d)])]
        rw [mo_s7_L]
/-! ===== the answer of solutions, and follows ===== -/
def mo_va (s : (Nat → Bool) × (Nat → Nat → Fin 7) × Bool) : Nat := if s.2.2 = true then 0 else mo_wy s.1 4 0
def mo_an (E : Nat → Nat → Fin 7) (O : Nat → Bool) (n : Nat) : Nat := mo_va (mo_sv E O n)
def mo_fs (s : (Nat → Bool) × (Nat → Nat → Fin 7) × Bool) (W : Nat → Fin 7) : Bool := s.2.2 || ((mo_rd s.2.1 s.1 W).1.isNone && decide ((mo_rd s.2.1 s.1 W).2 4 = 0))
def mo_fl (E : Nat → Nat → Fin 7) (O : Nat → Bool) (n q : Nat) : Bool := mo_fs (mo_sv E O n) (E q)
def mo_ub (O : Nat → Bool) (q : Nat) (b : Bool) : Nat → Bool := fun j => if j = q then b else O j
theorem mo_va_cnt {s : (Nat → Bool) × (Nat → Nat → Fin 7) × Bool} {P : (Nat → Fin 7) → Prop} (h : mo_K s P) : mo_va s = mo_cnt P := by
  unfold mo_va
  cases hc : s.2.2
  · rw [if_neg (by decide), ← mo_cnt_sat h.1]
    exact mo_cnt_congr (h.2.1 hc)
  · rw [if_pos rfl]
    exact (mo_cnt0 (h.2.2 hc)).symm
theorem mo_wy_pos (D : Nat → Bool) : ∀ k u, 0 < mo_wy D k u := by
  intro k
  induction k with
  | zero => exact fun u => Nat.one_pos
  | succ k ih =>
    intro u
    unfold mo_wy
    have := ih (u + 1)
    by_cases h : D u = true
    · rw [if_pos h]
      omega
    · rw [if_neg h]
      omega
theorem mo_wy_le (D : Nat → Bool) : ∀ k u, mo_wy D k u ≤ 7 ^ k := by
  intro k
  induction k with
  | zero => exact fun u => Nat.le_refl 1
  | succ k ih =>
    intro u
    unfold mo_wy
    have := ih (u + 1)
    rw [Nat.pow_succ]
    by_cases h : D u = true
    · rw [if_pos h]
      omega
    · rw [if_neg h]
      omega
theorem mo_wy_kD {D : Nat → Bool} {u : Nat} (hu : u < 4) (hD : D u = false) : mo_wy (mo_kD D u) 4 0 ≠ mo_wy D 4 0 := by
  have hw : ∀ b0 b1 b2 b3 : Bool, ∀ v : Fin 4, [b0, b1, b2, b3][v.val] = false →
      (if (if 0 = v.val then true else b0) = true then 1 else 7) * ((if (if 1 = v.val then true else b1) = true then 1 else 7) * ((if (if 2 = v.val then true else b2) = true then 1 else 7) * ((if (if 3 = v.val then true else b3) = true then 1 else 7) * 1))) ≠ (if b0 = true then 1 else 7) * ((if b1 = true then 1 else 7) * ((if b2 = true then 1 else 7) * ((if b3 = true then 1 else 7) * 1))) := by decide +kernel
  refine hw (D 0) (D 1) (D 2) (D 3) ⟨u, hu⟩ ?_
  match u, hu, hD with
  | 0, _, h => exact h
  | 1, _, h => exact h
  | 2, _, h => exact h
  | 3, _, h => exact h
theorem mo_fs_ok {s : (Nat → Bool) × (Nat → Nat → Fin 7) × Bool} {P : (Nat → Fin 7) → Prop} (h : mo_K s P) (W : Nat → Fin 7) : (mo_fs s W = true → mo_va (mo_st s W) = mo_va s) ∧ (mo_fs s W = false → mo_va (mo_st s W) ≠ mo_va s) := by
  have J := mo_rd_J h.1 W
  have wp := mo_wy_pos s.1 4 0
  unfold mo_fs mo_st
  generalize mo_rd s.2.1 s.1 W = r at J ⊢
  obtain ⟨t, V⟩ := r
  cases hc : s.2.2
  · cases t with
    | none =>
      show (((false || (true && decide (V 4 = 0))) = true) → mo_va (if V 4 = 0 then s else (s.1, s.2.1, true)) = mo_va s) ∧ (((false || (true && decide (V 4 = 0))) = false) → mo_va (if V 4 = 0 then s else (s.1, s.2.1, true)) ≠ mo_va s)
      by_cases h4 : V 4 = 0
      · rw [if_pos h4, decide_eq_true h4]
        exact ⟨fun _ => rfl, fun z => absurd z (by decide)⟩
      · rw [if_neg h4, decide_eq_false h4]
        refine ⟨fun z => absurd z (by decide), fun _ => ?_⟩
        show (0 : Nat) ≠ mo_va s
        unfold mo_va
        rw [hc, if_neg (by decide)]
        omega
    | some u =>
      obtain ⟨_, g2, g3, g4, g5⟩ := J.2 u rfl
      refine ⟨fun z => absurd z mo_ft, fun _ => ?_⟩
      show mo_va (mo_kD s.1 u, mo_kR s.2.1 V u, false) ≠ mo_va s
      unfold mo_va
      rw [hc]
      exact mo_wy_kD g2 g3
  · refine ⟨fun _ => ?_, fun z => absurd z (by simp)⟩
    have e0 : mo_va s = 0 := by
      unfold mo_va
      rw [hc, if_pos rfl]
    rw [e0]
    cases t with
    | none =>
      show mo_va (if V 4 = 0 then s else (s.1, s.2.1, true)) = 0
      by_cases h4 : V 4 = 0
      · rw [if_pos h4, e0]
      · rw [if_neg h4]
        rfl
    | some u => rfl
theorem mo_Sol_on {n q : Nat} {E : Nat → Nat → Fin 7} {O : Nat → Bool} (hq : q < n) (hO : O q = true) (x : Nat → Fin 7) : mo_Sol n E (mo_ub O q false) x ∧ mo_ho (E q) x ↔ mo_Sol n E O x := by
  constructor
  · intro h e he hOe
    by_cases g : e = q
    · rw [g]
      exact h.2
    · refine h.1 e he ?_
      unfold mo_ub
      rw [if_neg g]
      exact hOe
  · refine fun h => ⟨fun e he hOe => h e he ?_, h q hq hO⟩
    unfold mo_ub at hOe
    by_cases g : e = q
    · rw [if_pos g] at hOe
      exact absurd hOe (by decide)
    · rw [if_neg g] at hOe
      exact hOe
theorem mo_an_st {n q : Nat} {E : Nat → Nat → Fin 7} {O : Nat → Bool} (hq : q < n) (hO : O q = true) : mo_an E O n = mo_va (mo_st (mo_sv E (mo_ub O q false) n) (E q)) := by
  unfold mo_an
  rw [mo_va_cnt (mo_sv_K E O n), mo_va_cnt (mo_st_K (mo_sv_K E (mo_ub O q false) n) (E q))]
  exact mo_cnt_congr (fun x => (mo_Sol_on hq hO x).symm)
theorem mo_ub_same {O : Nat → Bool} {q : Nat} {b : Bool} (h : O q = b) : mo_ub O q b = O := by
  funext j
  unfold mo_ub
  by_cases e : j = q
  · rw [if_pos e, e, h]
  · rw [if_neg e]
theorem mo_fl_t {n q : Nat} {E : Nat → Nat → Fin 7} {O : Nat → Bool} (hq : q < n) (h : mo_fl E (mo_ub O q false) n q = true) : mo_an E (mo_ub O q false) n = mo_an E O n := by
  cases hO : O q
  · rw [mo_ub_same hO]
  · rw [mo_an_st hq hO]
    exact ((mo_fs_ok (mo_sv_K E (mo_ub O q false) n) (E q)).1 h).symm
theorem mo_fl_f {n q : Nat} {E : Nat → Nat → Fin 7} {O : Nat → Bool} (hq : q < n) (hO : O q = true) (h : mo_fl E (mo_ub O q false) n q = false) : mo_an E (mo_ub O q false) n ≠ mo_an E O n := by
  rw [mo_an_st hq hO]
  exact ((mo_fs_ok (mo_sv_K E (mo_ub O q false) n) (E q)).2 h).symm
/-! ===== solutions by number ===== -/
theorem mo_rs_congr {r d d' : Nat → Fin 7} : ∀ k, (∀ j, j < k → d j = d' j) → mo_rs r d k = mo_rs r d' k := by
  intro k
  induction k with
  | zero => exact fun _ => rfl
  | succ k ih =>
    intro h
    unfold mo_rs
    rw [ih (fun j hj => h j (by omega)), h k (by omega)]
theorem mo_rk_congr {D : Nat → Bool} {d d' : Nat → Fin 7} : ∀ k, (∀ j, j < k → d j = d' j) → mo_rk D d k = mo_rk D d' k := by
  intro k
  induction k with
  | zero => exact fun _ => rfl
  | succ k ih =>
    intro h
    unfold mo_rk
    rw [ih (fun j hj => h j (by omega)), h k (by omega)]
theorem mo_h_congr {d d' : Nat → Fin 7} : ∀ k w, (∀ j, w ≤ j → j < w + k → d j = d' j) → mo_h d w k = mo_h d' w k := by
  intro k
  induction k with
  | zero => exact fun w _ => rfl
  | succ k ih =>
    intro w h
    unfold mo_h
    rw [ih (w + 1) (fun j h1 h2 => h j (by omega) (by omega)), h w (by omega) (by omega)]
theorem mo_h_top (d : Nat → Fin 7) : ∀ k w, mo_h d w (k + 1) = mo_h d w k + (d (w + k)).val * 7 ^ k := by
  intro k
  induction k with
  | zero =>
    intro w
    show (d w).val + 7 * 0 = 0 + (d w).val * 1
    omega
  | succ k ih =>
    intro w
    have h1 : mo_h d w (k + 2) = (d w).val + 7 * mo_h d (w + 1) (k + 1) := rfl
    have h2 : mo_h d w (k + 1) = (d w).val + 7 * mo_h d (w + 1) k := rfl
    rw [h1, ih (w + 1), h2, Nat.pow_succ, show w + 1 + k = w + (k + 1) by omega, Nat.mul_add, ← Nat.add_assoc]
    congr 1
    rw [Nat.mul_comm 7, Nat.mul_assoc]
theorem mo_h_lt (d : Nat → Fin 7) : ∀ k w, mo_h d w k < 7 ^ k := by
  intro k
  induction k with
  | zero => exact fun w => Nat.one_pos
  | succ k ih =>
    intro w
    unfold mo_h
    have h1 := ih (w + 1)
    have h2 := (d w).isLt
    rw [Nat.pow_succ]
    omega
theorem mo_up_s {d : Nat → Fin 7} {u : Nat} {v : Fin 7} : mo_up d u v u = v := if_pos rfl
theorem mo_up_n {d : Nat → Fin 7} {u j : Nat} {v : Fin 7} (h : j ≠ u) : mo_up d u v j = d j := if_neg h
theorem mo_wy_s {D : Nat → Bool} {k : Nat} (hk : k < 4) : mo_wy D (4 - k) k = (if D k = true then 1 else 7) * mo_wy D (3 - k) (k + 1) := by
  rw [show 4 - k = (3 - k) + 1 by omega]
  rfl
theorem mo_sL_lt {R : Nat → Nat → Fin 7} {D : Nat → Bool} {n : Nat} (hn : n < mo_wy D 4 0) : ∀ k, k ≤ 4 → (mo_sL R D n k).1 < mo_wy D (4 - k) k := by
  intro k
  induction k with
  | zero => exact fun _ => hn
  | succ k ih =>
    intro hk
    have h := ih (by omega)
    rw [mo_wy_s (by omega)] at h
    unfold mo_sL mo_sS
    rw [show 4 - (k + 1) = 3 - k by omega]
    by_cases hD : D k = true
    · rw [if_pos hD] at h ⊢
      rw [Nat.one_mul] at h
      exact h
    · rw [if_neg hD]
      exact Nat.mod_lt _ (mo_wy_pos _ _ _)
/-- the digit of a free unknown -/
theorem mo_sL_dg {R : Nat → Nat → Fin 7} {D : Nat → Bool} {n k : Nat} (hn : n < mo_wy D 4 0) (hk : k < 4) (hD : ¬ D k = true) : (mo_sL R D n k).1 / mo_wy D (3 - k) (k + 1) < 7 := by
  have h := mo_sL_lt (R := R) hn k (by omega)
  rw [mo_wy_s hk, if_neg hD] at h
  exact Nat.div_lt_of_lt_mul (by rw [Nat.mul_comm]; exact h)
theorem mo_sL_rk {R : Nat → Nat → Fin 7} {D : Nat → Bool} {n : Nat} (hn : n < mo_wy D 4 0) : ∀ k, k ≤ 4 → mo_rk D (mo_sL R D n k).2 k + (mo_sL R D n k).1 = n := by
  intro k
  induction k with
  | zero => exact fun _ => Nat.zero_add n
  | succ k ih =>
    intro hk
    have h := ih (by omega)
    have e : mo_sL R D n (k + 1) = mo_sS R D k (mo_sL R D n k) := rfl
    rw [e]
    unfold mo_sS
    by_cases hD : D k = true
    · rw [if_pos hD]
      show mo_rk D (mo_up (mo_sL R D n k).2 k _) k + (if D k = true then 0 else _) + (mo_sL R D n k).1 = n
      rw [if_pos hD, Nat.add_zero, mo_rk_congr k (d' := (mo_sL R D n k).2) (fun j hj => mo_up_n (by omega))]
      exact h
    · rw [if_neg hD]
      show mo_rk D (mo_up (mo_sL R D n k).2 k _) k + (if D k = true then 0 else (mo_up (mo_sL R D n k).2 k _ k).val * mo_wy D (3 - k) (k + 1)) + (mo_sL R D n k).1 % mo_wy D (3 - k) (k + 1) = n
      rw [if_neg hD, mo_rk_congr k (d' := (mo_sL R D n k).2) (fun j hj => mo_up_n (by omega)), mo_up_s]
      have g := mo_sL_dg (R := R) hn (by omega) hD
      have g2 : (Fin.ofNat 7 ((mo_sL R D n k).1 / mo_wy D (3 - k) (k + 1))).val = (mo_sL R D n k).1 / mo_wy D (3 - k) (k + 1) := Nat.mod_eq_of_lt g
      have g3 := Nat.div_add_mod' (mo_sL R D n k).1 (mo_wy D (3 - k) (k + 1))
      rw [g2]
      omega
theorem mo_sL_at {R : Nat → Nat → Fin 7} {D : Nat → Bool} {n : Nat} : ∀ k, k ≤ 4 → ∀ u, u < k → D u = true → (mo_sL R D n k).2 u = mo_rs (R u) (mo_sL R D n k).2 u := by
  intro k
  induction k with
  | zero => exact fun _ u hu => absurd hu (by omega)
  | succ k ih =>
    intro hk u hu hDu
    have e : mo_sL R D n (k + 1) = mo_sS R D k (mo_sL R D n k) := rfl
    rw [e]
    unfold mo_sS
    by_cases g : u = k
    · subst g
      rw [if_pos hDu]
      show mo_up _ u _ u = mo_rs (R u) (mo_up _ u _) u
      rw [mo_up_s]
      exact (mo_rs_congr u (fun j hj => mo_up_n (by omega))).symm
    · have h := ih (by omega) u (by omega) hDu
      by_cases hD : D k = true
      · rw [if_pos hD]
        show mo_up _ k _ u = mo_rs (R u) (mo_up _ k _) u
        rw [mo_up_n g, mo_rs_congr u (fun j hj => mo_up_n (by omega))]
        exact h
      · rw [if_neg hD]
        show mo_up _ k _ u = mo_rs (R u) (mo_up _ k _) u
        rw [mo_up_n g, mo_rs_congr u (fun j hj => mo_up_n (by omega))]
        exact h
/-- solution number n -/
def mo_so (R : Nat → Nat → Fin 7) (D : Nat → Bool) (n : Nat) : Nat → Fin 7 := (mo_sL R D n 4).2
theorem mo_so_rk {R : Nat → Nat → Fin 7} {D : Nat → Bool} {n : Nat} (hn : n < mo_wy D 4 0) : mo_rk D (mo_so R D n) 4 = n := by
  have h := mo_sL_rk (R := R) hn 4 (by omega)
  have h2 := mo_sL_lt (R := R) hn 4 (by omega)
  have h3 : mo_wy D (4 - 4) 4 = 1 := rfl
  unfold mo_so
  omega
theorem mo_so_at {R : Nat → Nat → Fin 7} {D : Nat → Bool} {n u : Nat} (hu : u < 4) (hD : D u = true) : mo_so R D n u = mo_rs (R u) (mo_so R D n) u := mo_sL_at 4 (by omega) u hu hD
theorem mo_at_sat {R : Nat → Nat → Fin 7} {D : Nat → Bool} {x : Nat → Fin 7} (hT : mo_Tri R D) (h : ∀ u, u < 4 → D u = true → x u = mo_rs (R u) x u) : mo_sat R D x := by
  intro u hu hD
  obtain ⟨t1, t2⟩ := hT u hu hD
  have hx := h u hu hD
  unfold mo_ho
  match u, hu with
  | 0, _ =>
    have g : x 0 = R 0 4 := hx
    rw [t1, t2 1 (by omega) (by omega), t2 2 (by omega) (by omega), t2 3 (by omega) (by omega)]
    grind
  | 1, _ =>
    have g : x 1 = R 1 4 - R 1 0 * x 0 := hx
    rw [t1, t2 2 (by omega) (by omega), t2 3 (by omega) (by omega)]
    grind
  | 2, _ =>
    have g : x 2 = R 2 4 - R 2 0 * x 0 - R 2 1 * x 1 := hx
    rw [t1, t2 3 (by omega) (by omega)]
    grind
  | 3, _ =>
    have g : x 3 = R 3 4 - R 3 0 * x 0 - R 3 1 * x 1 - R 3 2 * x 2 := hx
    rw [t1]
    grind
theorem mo_so_Sol {n i : Nat} {E : Nat → Nat → Fin 7} {O : Nat → Bool} (hc : (mo_sv E O n).2.2 = false) : mo_Sol n E O (mo_so (mo_sv E O n).2.1 (mo_sv E O n).1 i) :=
  ((mo_sv_K E O n).2.1 hc _).mp (mo_at_sat (mo_sv_K E O n).1 (fun _ hu hD => mo_so_at hu hD))
end
section
/-! ===== load, reduce ===== -/
theorem mo_load {post : St1 → Prop} {f c : Int32} {a1 a2 a3 a4 a5 : Nat → Int32} {e : Nat} (he : e < 6) (H : ∀ a, (∀ j, j < 5 → a j = a1 (e * 5 + j)) → post (f, c, a1, a2, a3, a4, a)) : wpX_load post (f, c, a1, a2, a3, a4, a5) (nI e) :=
  pk_loop (fun n i s => wX_load_2 post (nI e) f c n (nI i) a1 a2 a3 a4 s) (fun i s => ∀ j, j < i → s j = a1 (e * 5 + j)) 5 0 a5 (by omega) (fun j hj => absurd hj (by omega))
    (fun n s h => pk_le 5 5 (fun _ => H s h) (fun z => absurd z (by omega)))
    (fun n i s hi h hw => pk_le 5 i (fun z => absurd z (by omega)) (fun _ => ⟨pk_in (e * 5 + i) 30 (by omega) (mo_ix e i), pk_in i 5 hi, nm_e (nm_r (nI_1 i) (hw _ (mo_fill (f := fun j => a1 (e * 5 + j)) (nI_clamp (by omega)) h (by rw [mo_cx he hi]))))⟩))
theorem mo_red31 {post : Int32 → St1 → Prop} {J : Int32 → Int32 → (Nat → Int32) → (Nat → Int32) → (Nat → Int32) → (Nat → Int32) → (Nat → Int32) → Prop} {x1 f c : Int32} {a1 a2 a3 a4 a5 : Nat → Int32} {u : Nat} {W r : Nat → Fin 7} (hu : u < 4) (hW : mo_P 5 a5 W) (hR : ∀ i, i < 5 → a4 (u * 5 + i) = mo_n (r i))
    (H : ∀ a, mo_P 5 a (fun i => W i - W u * r i) → J x1 (nI u + (-1)) a1 a2 a3 a4 a) : ∃ n, wX_reduce_31 post J x1 (nI u) (mo_n (W u)) f c n 0 a1 a2 a3 a4 a5 :=
  pk_loop (fun n i s => wX_reduce_31 post J x1 (nI u) (mo_n (W u)) f c n (nI i) a1 a2 a3 a4 s) (fun i s => ∀ j, j < 5 → s j = if j < i then mo_n (W j - W u * r j) else mo_n (W j)) 5 0 a5 (by omega) (fun j hj => by rw [if_neg (by omega)]; exact hW j hj)
    (fun n s h => pk_le 5 5 (fun _ => nm_e (H s (fun j hj => by rw [h j hj, if_pos hj]))) (fun z => absurd z (by omega)))
    (fun n i s hi h hw => pk_le 5 i (fun z => absurd z (by omega)) (fun _ => ⟨pk_in i 5 hi, pk_in (u * 5 + i) 20 (by omega) (mo_ix u i), mo_mod (y := mo_n (W i - W u * r i)) (by rw [nI_clamp (by omega), mo_cx (by omega) hi, h i hi, if_neg (by omega), hR i hi, mo_red]) ⟨pk_in i 5 hi, nm_e (nm_r (nI_1 i) (hw _ (mo_fill2 (f := fun j => mo_n (W j - W u * r j)) (g := fun j => mo_n (W j)) (nI_clamp (by omega)) h rfl)))⟩⟩))
def mo_t : Option Nat → Int32
  | none => -1
  | some u => nI u
theorem mo_red4 {post : Int32 → St1 → Prop} {f c : Int32} {a1 a2 a3 a4 : Nat → Int32} {R : Nat → Nat → Fin 7} {D : Nat → Bool} (hD : mo_PB 4 a3 D) (hR : mo_PR a4 D R) : ∀ k, k ≤ 4 → ∀ (s : Option Nat × (Nat → Fin 7)) (a5 : Nat → Int32), (∀ t, s.1 = some t → t < 4) → mo_P 5 a5 s.2 →
    (∀ a, (∀ t, (mo_rL R D k s).1 = some t → t < 4) → mo_P 5 a (mo_rL R D k s).2 → post (mo_t (mo_rL R D k s).1) (f, c, a1, a2, a3, a4, a)) → wX_reduce_4 post f c (k + 1) (mo_t s.1) (nI k + (-1)) a1 a2 a3 a4 a5 := by
  intro k
  induction k with
  | zero => exact fun _ s a5 hs h H => br_t (by decide) (H a5 hs h)
  | succ k ih =>
    intro hk s a5 hs h H
    rw [pk_m1]
    have hk0 : a5 (nI k).toNatClampNeg = mo_n (s.2 k) := by
      rw [nI_clamp (by omega)]
      exact h k (by omega)
    have hk3 : a3 (nI k).toNatClampNeg = mo_b (D k) := by
      rw [nI_clamp (by omega)]
      exact hD k (by omega)
    have eL : mo_rL R D (k + 1) s = mo_rL R D k (mo_rS R D k s) := rfl
    refine br_f (nI_pos (by omega)) ⟨pk_in k 5 (by omega), nm_r hk0 ?_⟩
    by_cases h0 : s.2 k = 0
    · have eS : mo_rS R D k s = s := by
        unfold mo_rS
        rw [if_pos h0]
      rw [eL, eS] at H
      have hz : mo_n (s.2 k) = 0 := (mo_n0 _).mpr h0
      exact br_t hz (br_t hz (nm_e (ih (by omega) s a5 hs h H)))
    · have hz : ¬ mo_n (s.2 k) = 0 := fun z => h0 ((mo_n0 _).mp z)
      refine br_f hz ⟨pk_in k 4 (by omega), ?_⟩
      rw [hk3]
      cases hDk : D k
      · refine br_t rfl (br_f hz ?_)
        have hDk' : ¬ D k = true := by
          rw [hDk]
          decide
        cases ht : s.1 with
        | none =>
          have eS : mo_rS R D k s = (some k, s.2) := by
            unfold mo_rS
            rw [if_neg h0, if_neg hDk', if_pos ht]
          rw [eL, eS] at H
          exact br_f (by decide) (nm_e (ih (by omega) (some k, s.2) a5 (fun t e => by have := Option.some.inj e; omega) h H))
        | some t =>
          have eS : mo_rS R D k s = s := by
            unfold mo_rS
            rw [if_neg h0, if_neg hDk', if_neg (by rw [ht]; exact Option.some_ne_none t)]
          rw [eL, eS] at H
          have ht4 := hs t ht
          have := ih (by omega) s a5 hs h H
          rw [ht] at this
          exact br_t (nI_pos' (by omega)) (nm_e this)
      · refine br_f (by decide) ?_
        have eS : mo_rS R D k s = (s.1, fun i => s.2 i - s.2 k * R k i) := by
          unfold mo_rS
          rw [if_neg h0, if_pos hDk]
        rw [eL, eS] at H
        exact mo_red31 (by omega) h (hR k (by omega) hDk) (fun a ha => ih (by omega) (s.1, fun i => s.2 i - s.2 k * R k i) a hs ha H)
theorem mo_reduce {post : Int32 → St1 → Prop} {f c : Int32} {a1 a2 a3 a4 a5 : Nat → Int32} {R : Nat → Nat → Fin 7} {D : Nat → Bool} {W : Nat → Fin 7} (hD : mo_PB 4 a3 D) (hR : mo_PR a4 D R) (hW : mo_P 5 a5 W)
    (H : ∀ a, (∀ t, (mo_rd R D W).1 = some t → t < 4) → mo_P 5 a (mo_rd R D W).2 → post (mo_t (mo_rd R D W).1) (f, c, a1, a2, a3, a4, a)) : wpX_reduce post (f, c, a1, a2, a3, a4, a5) :=
  ⟨5, mo_red4 hD hR 4 (by omega) (none, W) a5 (fun t e => absurd e.symm (Option.some_ne_none t)) hW H⟩
/-! ===== keep ===== -/
theorem mo_keep75 {post : St1 → Prop} {J : Int32 → (Nat → Int32) → (Nat → Int32) → (Nat → Int32) → (Nat → Int32) → (Nat → Int32) → Prop} {f c : Int32} {a1 a2 a3 a4 a5 : Nat → Int32} {u w : Nat} {g : Fin 7} {rw' ru : Nat → Fin 7} (hu : u < 4) (hw : w < 4) (hne : u ≠ w) (hd : ¬ a3 w = 0) (hg : g ≠ 0)
    (h1 : ∀ j, j < 5 → a4 (w * 5 + j) = mo_n (rw' j)) (h2 : ∀ j, j < 5 → a4 (u * 5 + j) = mo_n (ru j))
    (H : ∀ a, (∀ j, j < 5 → a (w * 5 + j) = mo_n (rw' j - g * ru j)) → (∀ v, v ≠ w → ∀ j, j < 5 → a (v * 5 + j) = a4 (v * 5 + j)) → J (nI (w + 1)) a1 a2 a3 a a5) : ∃ n, wX_keep_75 post J (nI u) (nI w) (mo_n g) f c n 0 a1 a2 a3 a4 a5 :=
  pk_loop (fun n i s => wX_keep_75 post J (nI u) (nI w) (mo_n g) f c n (nI i) a1 a2 a3 s a5) (fun i s => (∀ j, j < 5 → s (w * 5 + j) = if j < i then mo_n (rw' j - g * ru j) else mo_n (rw' j)) ∧ (∀ v, v ≠ w → ∀ j, j < 5 → s (v * 5 + j) = a4 (v * 5 + j))) 5 0 a4 (by omega) ⟨fun j hj => by rw [if_neg (by omega)]; exact h1 j hj, fun v _ j _ => rfl⟩
    (fun n s h => pk_le 5 5 (fun _ => nm_r (nI_1 w) (H s (fun j hj => by rw [h.1 j hj, if_pos hj]) h.2)) (fun z => absurd z (by omega)))
    (fun n i s hi h hs => pk_le 5 i (fun z => absurd z (by omega)) (fun _ => ⟨pk_in w 4 hw, br_f (by rw [nI_clamp (by omega)]; exact hd) (br_f (fun z => hg ((mo_n0 _).mp z)) ⟨pk_in (w * 5 + i) 20 (by omega) (mo_ix w i), pk_in (u * 5 + i) 20 (by omega) (mo_ix u i),
      mo_mod (y := mo_n (rw' i - g * ru i)) (by rw [mo_cx (by omega) hi, mo_cx (by omega) hi, h.1 i hi, if_neg (by omega), h.2 u hne i hi, h2 i hi, mo_red]) ⟨pk_in (w * 5 + i) 20 (by omega) (mo_ix w i), nm_e (nm_r (nI_1 i) (hs _ ⟨mo_fillR (f := fun j => mo_n (rw' j - g * ru j)) (g := fun j => mo_n (rw' j)) (mo_cx (by omega) hi) h.1 rfl, mo_offR (mo_cx (by omega) hi) hi h.2⟩))⟩⟩)⟩))
/-- rows below w anew, the others as they were -/
def mo_mix (R R' : Nat → Nat → Fin 7) (w : Nat) : Nat → Nat → Fin 7 := fun v i => if v < w then R' v i else R v i
theorem mo_mix_t {R R' : Nat → Nat → Fin 7} {w v i : Nat} (h : v < w) : mo_mix R R' w v i = R' v i := if_pos h
theorem mo_mix_f {R R' : Nat → Nat → Fin 7} {w v i : Nat} (h : ¬ v < w) : mo_mix R R' w v i = R v i := if_neg h
theorem mo_keep55 {post : St1 → Prop} {f c : Int32} {a1 a2 a3 a4 a5 : Nat → Int32} {u : Nat} {R : Nat → Nat → Fin 7} {D : Nat → Bool} {W : Nat → Fin 7} (hu : u < 4) (hD : mo_PB 4 a3 (mo_kD D u))
    (h4 : mo_PR a4 (mo_kD D u) (mo_mix R (mo_kR R W u) (u + 1)))
    (H : ∀ a, mo_PR a (mo_kD D u) (mo_kR R W u) → post (f, c, a1, a2, a3, a, a5)) : ∃ n, wX_keep_55 post (nI u) f c n (nI (u + 1)) a1 a2 a3 a4 a5 :=
  pk_loop (fun n i s => wX_keep_55 post (nI u) f c n (nI i) a1 a2 a3 s a5) (fun i s => u < i ∧ mo_PR s (mo_kD D u) (mo_mix R (mo_kR R W u) i)) 4 (u + 1) a4 (by omega) ⟨by omega, h4⟩
    (fun n s h => pk_le 4 4 (fun _ => H s (fun v hv hDv i hi => by rw [h.2 v hv hDv i hi, mo_mix_t hv])) (fun z => absurd z (by omega)))
    (fun n w s hw h hs => by
      obtain ⟨huw, hp⟩ := h
      refine pk_le 4 w (fun z => absurd z (by omega)) (fun _ => ⟨pk_in (w * 5 + u) 20 (by omega) (mo_ix w u), ?_⟩)
      have e3 : a3 (nI w).toNatClampNeg = mo_b (mo_kD D u w) := by
        rw [nI_clamp (by omega)]
        exact hD w hw
      rw [mo_cx (show w < 6 by omega) (show u < 5 by omega)]
      cases hDw : mo_kD D u w
      · refine nm_e ⟨1, br_f (nI_ge (b := 5) (a := 0) (by omega) (by decide)) ⟨pk_in w 4 hw, br_t (by rw [e3, hDw]; rfl) (nm_r (nI_1 w) (hs s ⟨by omega, fun v hv hDv i hi => ?_⟩))⟩⟩
        have ne : v ≠ w := fun z => by rw [z, hDw] at hDv; exact absurd hDv (by decide)
        rw [hp v hv hDv i hi]
        by_cases g : v < w
        · rw [mo_mix_t g, mo_mix_t (by omega)]
        · rw [mo_mix_f g, mo_mix_f (by omega)]
      · have rww : ∀ j, j < 5 → s (w * 5 + j) = mo_n (R w j) := fun j hj => by rw [hp w hw hDw j hj, mo_mix_f (by omega)]
        have ruu : ∀ j, j < 5 → s (u * 5 + j) = mo_n (W j * mo_iv (W u)) := fun j hj => by
          rw [hp u hu (if_pos rfl) j hj, mo_mix_t huw]
          unfold mo_kR
          rw [if_pos rfl]
        have ek : ∀ j, mo_kR R W u w j = R w j - R w u * (W j * mo_iv (W u)) := fun j => by
          unfold mo_kR
          rw [if_neg (by omega), if_pos huw]
        refine nm_r (rww u (by omega)) ?_
        by_cases hg : R w u = 0
        · refine ⟨1, br_f (nI_ge (b := 5) (a := 0) (by omega) (by decide)) ⟨pk_in w 4 hw, br_f (by rw [e3, hDw]; decide) (br_t ((mo_n0 _).mpr hg) (nm_r (nI_1 w) (hs s ⟨by omega, fun v hv hDv i hi => ?_⟩)))⟩⟩
          rw [hp v hv hDv i hi]
          by_cases g : v < w
          · rw [mo_mix_t g, mo_mix_t (by omega)]
          · rw [mo_mix_f g]
            by_cases g2 : v = w
            · rw [g2, mo_mix_t (by omega), ek i, hg]
              congr 1
              grind
            · rw [mo_mix_f (by omega)]
        · refine mo_keep75 hu hw (by omega) (by rw [hD w hw, hDw]; decide) hg rww ruu (fun a b1 b2 => hs a ⟨by omega, fun v hv hDv i hi => ?_⟩)
          by_cases g2 : v = w
          · rw [g2, mo_mix_t (by omega), b1 i hi, ek i]
          · rw [b2 v g2 i hi, hp v hv hDv i hi]
            by_cases g : v < w
            · rw [mo_mix_t g, mo_mix_t (by omega)]
            · rw [mo_mix_f g, mo_mix_f (by omega)])
theorem mo_keep {post : St1 → Prop} {f c : Int32} {a1 a2 a3 a4 a5 : Nat → Int32} {u : Nat} {R : Nat → Nat → Fin 7} {D : Nat → Bool} {W : Nat → Fin 7} (hu : u < 4) (hD : mo_PB 4 a3 D) (hR : mo_PR a4 D R) (hW : mo_P 5 a5 W)
    (H : ∀ b a, mo_PB 4 b (mo_kD D u) → mo_PR a (mo_kD D u) (mo_kR R W u) → post (f, c, a1, a2, b, a, a5)) : wpX_keep post (f, c, a1, a2, a3, a4, a5) (nI u) := by
  have h3 : mo_PB 4 (upd a3 u 1) (mo_kD D u) := by
    intro j hj
    unfold mo_kD
    by_cases e : j = u
    · rw [e, pk_us, if_pos rfl]
      rfl
    · rw [pk_un e, if_neg e]
      exact hD j hj
  refine ⟨pk_in u 5 (by omega), ?_⟩
  rw [nI_clamp (show u < 2 ^ 31 by omega), hW u (by omega)]
  refine mo_inverse ⟨pk_in u 4 hu, nm_e ?_⟩
  refine pk_loop (fun n i s => wX_keep_19 post (nI u) (mo_n (mo_iv (W u))) f c n (nI i) a1 a2 (upd a3 u 1) s a5) (fun i s => (∀ j, j < 5 → s (u * 5 + j) = if j < i then mo_n (W j * mo_iv (W u)) else a4 (u * 5 + j)) ∧ (∀ v, v ≠ u → ∀ j, j < 5 → s (v * 5 + j) = a4 (v * 5 + j))) 5 0 a4 (by omega) ⟨fun j hj => by rw [if_neg (by omega)], fun v _ j _ => rfl⟩
    (fun n s h => pk_le 5 5 (fun _ => nm_r (nI_1 u) (mo_keep55 hu h3 (fun v hv hDv i hi => ?_) (fun a ha => H _ a h3 ha))) (fun z => absurd z (by omega)))
    (fun n i s hi h hs => pk_le 5 i (fun z => absurd z (by omega)) (fun _ => ⟨pk_in i 5 hi, by decide, pk_in (u * 5 + i) 20 (by omega) (mo_ix u i), nm_e (nm_r (nI_1 i) (hs _ ⟨mo_fillR (f := fun j => mo_n (W j * mo_iv (W u))) (g := fun j => a4 (u * 5 + j)) (mo_cx (by omega) hi) h.1 (by rw [nI_clamp (by omega), hW i hi, mo_mulr]), mo_offR (mo_cx (by omega) hi) hi h.2⟩))⟩))
  by_cases e : v = u
  · rw [e, h.1 i hi, if_pos hi, mo_mix_t (by omega)]
    unfold mo_kR
    rw [if_pos rfl]
  · have hDv' : D v = true := by
      unfold mo_kD at hDv
      rw [if_neg e] at hDv
      exact hDv
    rw [h.2 v e i hi, hR v hv hDv' i hi]
    by_cases g : v < u + 1
    · rw [mo_mix_t g]
      unfold mo_kR
      rw [if_neg e, if_neg (by omega)]
    · rw [mo_mix_f g]
end
section
/-! ===== onSet, solveSet, solve ===== -/
/-- a set of equations as an int: bit e for equation e -/
def mo_set (n : Nat) (x : Int32) (O : Nat → Bool) : Prop := ∀ e, e < n → (((x >>> (nI e &&& 31)) &&& 1) = 1 ↔ O e = true)
theorem mo_onSet {post : Int32 → Prop} {c : Int32} {a1 a2 a3 a4 a5 : Nat → Int32} {n : Nat} {O : Nat → Bool} (hn : n ≤ 6) (hO : mo_PB n a2 O) (H : ∀ x, mo_set n x O → post x) : wpX_onSet post (nI n, c, a1, a2, a3, a4, a5) :=
  pk_loop (σ := Nat) (fun m i S => wX_onSet_4 post (nI n) c a1 a2 a3 a4 a5 m (nI S) (nI i)) (fun i S => S < 2 ^ i ∧ ∀ e, e < i → S.testBit e = O e) n 0 0 (by omega) ⟨by decide, fun e he => absurd he (by omega)⟩
    (fun m S h => pk_le n n (fun _ => H _ (fun e he => by
      have hS : S < 64 := Nat.lt_of_lt_of_le h.1 (Nat.pow_le_pow_right (by decide) hn)
      rw [← h.2 e he]
      exact mo_bit ⟨S, hS⟩ ⟨e, by omega⟩)) (fun z => absurd z (by omega)))
    (fun m i S hi h hs => pk_le n i (fun z => absurd z (by omega)) (fun _ => by
      have hS : S < 64 := Nat.lt_of_lt_of_le h.1 (Nat.pow_le_pow_right (by decide) (show i ≤ 6 by omega))
      obtain ⟨g1, g2, g3, g4, g5⟩ := mo_or ⟨i, by omega⟩ ⟨S, hS⟩ h.1
      refine ⟨pk_in i 6 (by omega), ?_⟩
      rw [nI_clamp (show i < 2 ^ 31 by omega), hO i hi]
      cases hOi : O i
      · refine br_t rfl (nm_r (nI_1 i) (hs S ⟨Nat.lt_of_lt_of_le h.1 (Nat.pow_le_pow_right (by decide) (by omega)), fun e he => ?_⟩))
        by_cases z : e = i
        · rw [z, hOi]
          exact g4
        · exact h.2 e (by omega)
      · refine br_f (by decide) (nm_r g1 (nm_r (nI_1 i) (hs _ ⟨g2, fun e he => ?_⟩)))
        by_cases z : e = i
        · rw [z, hOi]
          exact g3
        · rw [← h.2 e (by omega)]
          exact g5 ⟨e, by omega⟩ (show e < i by omega)))
/-- the state of the elimination in the arrays -/
def mo_Q (s : (Nat → Bool) × (Nat → Nat → Fin 7) × Bool) (c : Int32) (a3 a4 : Nat → Int32) : Prop := c = mo_b s.2.2 ∧ mo_PB 4 a3 s.1 ∧ mo_PR a4 s.1 s.2.1
theorem mo_step27 {post : St1 → Prop} {x : Int32} {f c : Int32} {a1 a2 a3 a4 a5 : Nat → Int32} {m e : Nat} {W : Nat → Fin 7} {s : (Nat → Bool) × (Nat → Nat → Fin 7) × Bool} (he : e < 6) (hx : ((x >>> (nI e &&& 31)) &&& 1) = 1) (hlt : ¬ f ≤ nI e) (hW : ∀ i, i < 5 → a1 (e * 5 + i) = mo_n (W i)) (hq : mo_Q s c a3 a4)
    (H : ∀ c' b3 b4 b5, mo_Q (mo_st s W) c' b3 b4 → wX_solveSet_27 post x m (nI (e + 1)) f c' a1 a2 b3 b4 b5) : wX_solveSet_27 post x (m + 1) (nI e) f c a1 a2 a3 a4 a5 := by
  obtain ⟨hc, h3, h4⟩ := hq
  refine br_f hlt (br_t hx (mo_load he (fun b5 hb => mo_reduce h3 h4 (W := W) (fun j hj => by rw [hb j hj]; exact hW j hj) (fun a ht ha => ?_))))
  have eS : mo_st s W = (match mo_rd s.2.1 s.1 W with
    | (none, V) => if V 4 = 0 then s else (s.1, s.2.1, true)
    | (some u, V) => (mo_kD s.1 u, mo_kR s.2.1 V u, s.2.2)) := rfl
  generalize mo_rd s.2.1 s.1 W = r at ht ha eS ⊢
  obtain ⟨t, V⟩ := r
  cases t with
  | none =>
    have eS' : mo_st s W = if V 4 = 0 then s else (s.1, s.2.1, true) := eS
    refine br_t (show (-1 : Int32) < 0 by decide) ?_
    rw [show a 4 = mo_n (V 4) from ha 4 (by omega)]
    by_cases h0 : V 4 = 0
    · refine br_t ((mo_n0 _).mpr h0) (nm_r (nI_1 e) (H c a3 a4 a ?_))
      rw [eS', if_pos h0]
      exact ⟨hc, h3, h4⟩
    · refine br_f (fun z => h0 ((mo_n0 _).mp z)) (nm_r (nI_1 e) (H 1 a3 a4 a ?_))
      rw [eS', if_neg h0]
      exact ⟨rfl, h3, h4⟩
  | some u =>
    have hu : u < 4 := ht u rfl
    have eS' : mo_st s W = (mo_kD s.1 u, mo_kR s.2.1 V u, s.2.2) := eS
    refine br_f (nI_pos (by omega)) (mo_keep hu h3 h4 ha (fun b3 b4 k3 k4 => nm_r (nI_1 e) (H c b3 b4 a ?_)))
    rw [eS']
    exact ⟨hc, k3, k4⟩
theorem mo_solve27 {post : St1 → Prop} {x c : Int32} {a1 a2 a3 a4 a5 : Nat → Int32} {n : Nat} {E : Nat → Nat → Fin 7} {O : Nat → Bool} (hn : n ≤ 6) (hE : mo_PE n a1 E) (hx : mo_set n x O) (h3 : mo_Q (mo_sv E O 0) c a3 a4)
    (H : ∀ c' b3 b4 b5, mo_Q (mo_sv E O n) c' b3 b4 → post (nI n, c', a1, a2, b3, b4, b5)) : ∃ m, wX_solveSet_27 post x m 0 (nI n) c a1 a2 a3 a4 a5 :=
  pk_loop (σ := Int32 × (Nat → Int32) × (Nat → Int32) × (Nat → Int32)) (fun m i s => wX_solveSet_27 post x m (nI i) (nI n) s.1 a1 a2 s.2.1 s.2.2.1 s.2.2.2) (fun i s => mo_Q (mo_sv E O i) s.1 s.2.1 s.2.2.1) n 0 (c, a3, a4, a5) (by omega) h3
    (fun m s h => pk_le n n (fun _ => H _ _ _ _ h) (fun z => absurd z (by omega)))
    (fun m i s hi h hs => by
      have eS : mo_sv E O (i + 1) = if O i = true then mo_st (mo_sv E O i) (E i) else mo_sv E O i := rfl
      by_cases hO : O i = true
      · rw [if_pos hO] at eS
        exact mo_step27 (by omega) ((hx i hi).mpr hO) (nI_ge hi (by omega)) (hE i hi) h (fun c' b3 b4 b5 hq => hs (c', b3, b4, b5) (by rw [eS]; exact hq))
      · rw [if_neg hO] at eS
        exact br_f (nI_ge hi (by omega)) (br_f (fun z => hO ((hx i hi).mp z)) (nm_r (nI_1 i) (hs s (by rw [eS]; exact h)))))
theorem mo_solveSet {post : St1 → Prop} {x c : Int32} {a1 a2 a3 a4 a5 : Nat → Int32} {n : Nat} {E : Nat → Nat → Fin 7} {O : Nat → Bool} (hn : n ≤ 6) (hE : mo_PE n a1 E) (hx : mo_set n x O)
    (H : ∀ c' b3 b4 b5, mo_Q (mo_sv E O n) c' b3 b4 → post (nI n, c', a1, a2, b3, b4, b5)) : wpX_solveSet post (nI n, c, a1, a2, a3, a4, a5) x :=
  pk_loop (fun m i s => wX_solveSet_7 post x (nI n) 0 m (nI i) a1 a2 s a4 a5) (fun i s => ∀ j, j < i → s j = 0) 4 0 a3 (by omega) (fun j hj => absurd hj (by omega))
    (fun m s h => pk_le 4 4 (fun _ => mo_solve27 hn hE hx ⟨rfl, h, fun u _ z => absurd z mo_ft⟩ H) (fun z => absurd z (by omega)))
    (fun m i s hi h hs => pk_le 4 i (fun z => absurd z (by omega)) (fun _ => ⟨pk_in i 4 hi, nm_e (nm_r (nI_1 i) (hs _ (mo_fill (f := fun _ => 0) (nI_clamp (by omega)) h rfl)))⟩))
theorem mo_solve {post : St1 → Prop} {c : Int32} {a1 a2 a3 a4 a5 : Nat → Int32} {n : Nat} {E : Nat → Nat → Fin 7} {O : Nat → Bool} (hn : n ≤ 6) (hE : mo_PE n a1 E) (hO : mo_PB n a2 O)
    (H : ∀ c' b3 b4 b5, mo_Q (mo_sv E O n) c' b3 b4 → post (nI n, c', a1, a2, b3, b4, b5)) : wpX_solve post (nI n, c, a1, a2, a3, a4, a5) :=
  mo_onSet hn hO (fun x hx => mo_solveSet hn hE hx H)
/-! ===== waysFrom, solutions ===== -/
theorem mo_ways {post : Int32 → Prop} {f c : Int32} {a1 a2 a3 a4 a5 : Nat → Int32} {D : Nat → Bool} {u : Nat} (hu : u ≤ 4) (hD : mo_PB 4 a3 D) (H : post (nI (mo_wy D (4 - u) u))) : wpX_waysFrom post (f, c, a1, a2, a3, a4, a5) (nI u) :=
  pk_loop (σ := Nat) (fun m i p => wX_waysFrom_4 post f c a1 a2 a3 a4 a5 m (nI p) (nI i)) (fun i p => p * mo_wy D (4 - i) i = mo_wy D (4 - u) u) 4 u 1 hu (Nat.one_mul _)
    (fun m p h => pk_le 4 4 (fun _ => by
      have e : p = mo_wy D (4 - u) u := by
        rw [← h]
        exact (Nat.mul_one p).symm
      rw [e]
      exact H) (fun z => absurd z (by omega)))
    (fun m i p hi h hs => pk_le 4 i (fun z => absurd z (by omega)) (fun _ => ⟨pk_in i 4 hi, by
      rw [mo_wy_s hi] at h
      rw [nI_clamp (show i < 2 ^ 31 by omega), hD i hi]
      cases hDi : D i
      · rw [if_neg (by rw [hDi]; decide)] at h
        refine br_t rfl (nm_r (pk_mul p 7) (nm_r (nI_1 i) (hs (p * 7) ?_)))
        rw [show 4 - (i + 1) = 3 - i by omega, Nat.mul_assoc]
        exact h
      · rw [if_pos hDi, Nat.one_mul] at h
        refine br_f (by decide) (nm_r (nI_1 i) (hs p ?_))
        rw [show 4 - (i + 1) = 3 - i by omega]
        exact h⟩))
/-- what a state keeps between two calls -/
def mo_In (n : Nat) (E : Nat → Nat → Fin 7) (O : Nat → Bool) (a1 a2 : Nat → Int32) : Prop := n ≤ 6 ∧ mo_PE n a1 E ∧ mo_PB n a2 O
theorem mo_solutions {post : Int32 → St1 → Prop} {c : Int32} {a1 a2 a3 a4 a5 : Nat → Int32} {n : Nat} {E : Nat → Nat → Fin 7} {O : Nat → Bool} (hI : mo_In n E O a1 a2)
    (H : ∀ c' b3 b4 b5, post (nI (mo_an E O n)) (nI n, c', a1, a2, b3, b4, b5)) : wpX_solutions post (nI n, c, a1, a2, a3, a4, a5) := by
  unfold wpX_solutions
  dsimp only
  refine mo_solve hI.1 hI.2.1 hI.2.2 (fun c' b3 b4 b5 hq => ?_)
  obtain ⟨hc, h3, h4⟩ := hq
  dsimp only
  subst hc
  have e : mo_an E O n = if (mo_sv E O n).2.2 = true then 0 else mo_wy (mo_sv E O n).1 4 0 := rfl
  cases hb : (mo_sv E O n).2.2
  · rw [hb, if_neg (by decide)] at e
    refine br_t rfl (mo_ways (u := 0) (by omega) h3 ?_)
    have := H (mo_b false) b3 b4 b5
    rw [e] at this
    exact this
  · rw [hb, if_pos rfl] at e
    refine br_f (by decide) ?_
    have := H (mo_b true) b3 b4 b5
    rw [e] at this
    exact this
theorem mo_noEq {post : Int32 → Prop} {c : Int32} {a1 a2 a3 a4 a5 : Nat → Int32} {n q : Nat} (hn : n ≤ 6) (hq : q < n) (H : post 0) : wpX_noEquation post (nI n, c, a1, a2, a3, a4, a5) (nI q) :=
  br_f (nI_pos (by omega)) (br_t (nI_lt hq (by omega)) H)
theorem mo_turn {post : Int32 → St1 → Prop} {c : Int32} {a1 a2 a3 a4 a5 : Nat → Int32} {n q : Nat} {E : Nat → Nat → Fin 7} {O : Nat → Bool} {b : Bool} (hI : mo_In n E O a1 a2) (hq : q < n)
    (H : ∀ b2, mo_In n E (mo_ub O q b) a1 b2 → post (mo_b (O q)) (nI n, c, a1, b2, a3, a4, a5)) : wpX_turn post (nI n, c, a1, a2, a3, a4, a5) (nI q) (mo_b b) := by
  have hn := hI.1
  have key : mo_In n E (mo_ub O q b) a1 (upd a2 q (mo_b b)) := by
    refine ⟨hn, hI.2.1, fun j hj => ?_⟩
    unfold mo_ub
    by_cases e : j = q
    · rw [e, pk_us, if_pos rfl]
    · rw [pk_un e, if_neg e]
      exact hI.2.2 j hj
  have fin : ∀ z, z = mo_b (O q) → wX_turn_24 post (nI q) (mo_b b) z (nI n) c a1 a2 a3 a4 a5 := by
    intro z hz
    rw [hz]
    refine ⟨pk_in q 6 (by omega), nm_r (e' := upd a2 q (mo_b b)) (by rw [nI_clamp (by omega), mo_bn]) (H _ key)⟩
  unfold wpX_turn
  dsimp only
  refine mo_noEq hn hq (br_t rfl ⟨pk_in q 6 (by omega), ?_⟩)
  rw [nI_clamp (show q < 2 ^ 31 by omega), hI.2.2 q hq]
  cases hOq : O q
  · exact br_t rfl (fin 0 (by rw [hOq]; rfl))
  · exact br_f (by decide) (fin 1 (by rw [hOq]; rfl))
theorem mo_follows {post : Int32 → St1 → Prop} {c : Int32} {a1 a2 a3 a4 a5 : Nat → Int32} {n q : Nat} {E : Nat → Nat → Fin 7} {O : Nat → Bool} (hI : mo_In n E O a1 a2) (hq : q < n)
    (H : ∀ c' b3 b4 b5, post (mo_b (mo_fl E O n q)) (nI n, c', a1, a2, b3, b4, b5)) : wpX_follows post (nI n, c, a1, a2, a3, a4, a5) (nI q) := by
  have hn := hI.1
  unfold wpX_follows
  dsimp only
  refine mo_noEq hn hq (br_t rfl (mo_solve hn hI.2.1 hI.2.2 (fun c' b3 b4 b5 hs => ?_)))
  obtain ⟨hc, h3, h4⟩ := hs
  dsimp only
  subst hc
  have e : mo_fl E O n q = ((mo_sv E O n).2.2 || ((mo_rd (mo_sv E O n).2.1 (mo_sv E O n).1 (E q)).1.isNone && decide ((mo_rd (mo_sv E O n).2.1 (mo_sv E O n).1 (E q)).2 4 = 0))) := rfl
  cases hb : (mo_sv E O n).2.2
  · rw [hb, Bool.false_or] at e
    refine br_t rfl (mo_load (by omega) (fun b hb5 => mo_reduce h3 h4 (W := E q) (fun j hj => (hb5 j hj).trans (hI.2.1 q hq j hj)) (fun a ht ha => ?_)))
    have HH := H (mo_b false) b3 b4 a
    rw [e] at HH
    generalize mo_rd (mo_sv E O n).2.1 (mo_sv E O n).1 (E q) = r at ht ha HH ⊢
    obtain ⟨t, V⟩ := r
    cases t with
    | none =>
      refine br_f (show ¬ (0 : Int32) ≤ -1 by decide) ?_
      dsimp only
      rw [show a 4 = mo_n (V 4) from ha 4 (by omega)]
      by_cases h0 : V 4 = 0
      · refine br_t ((mo_n0 _).mpr h0) ?_
        have HH' : post (mo_b (true && decide (V 4 = 0))) (nI n, mo_b false, a1, a2, b3, b4, a) := HH
        rw [decide_eq_true h0] at HH'
        exact HH'
      · refine br_f (fun z => h0 ((mo_n0 _).mp z)) ?_
        have HH' : post (mo_b (true && decide (V 4 = 0))) (nI n, mo_b false, a1, a2, b3, b4, a) := HH
        rw [decide_eq_false h0] at HH'
        exact HH'
    | some u =>
      have hu : u < 4 := ht u rfl
      exact br_t (nI_pos' (by omega)) HH
  · rw [hb, Bool.true_or] at e
    refine br_f (by decide) ?_
    have := H (mo_b true) b3 b4 b5
    rw [e] at this
    exact this
end
section
/-! ===== resultOf ===== -/
theorem mo_md2 : ∀ p : Fin 7, ∀ q : Fin 109, mo_md (mo_n p - nI q.val) = mo_n (p - Fin.ofNat 7 q.val) := by decide +kernel
theorem mo_ofadd (q : Nat) (a b : Fin 7) : Fin.ofNat 7 (q + a.val * b.val) = Fin.ofNat 7 q + a * b := Fin.ext (Nat.add_mod q (a.val * b.val) 7)
theorem mo_subsub (x y z : Int32) : x - y - z = x - (y + z) := by grind
theorem mo_v36 (a b : Fin 7) : a.val * b.val ≤ 36 := Nat.mul_le_mul (show a.val ≤ 6 by omega) (show b.val ≤ 6 by omega)
theorem mo_h_s {d : Nat → Fin 7} {i u : Nat} (h : i < u) (hu : u ≤ 4) : nI (mo_h d i (u - i)) - nI (mo_h d i (u - i)) / 7 * 7 = mo_n (d i) ∧ nI (mo_h d i (u - i)) / 7 = nI (mo_h d (i + 1) (u - (i + 1))) := by
  have e : mo_h d i (u - i) = (d i).val + 7 * mo_h d (i + 1) (u - (i + 1)) := by
    rw [show u - i = (u - (i + 1)) + 1 by omega]
    rfl
  have h1 := mo_h_lt d (u - i) i
  have h2 : 7 ^ (u - i) ≤ 7 ^ 4 := Nat.pow_le_pow_right (by decide) (by omega)
  have h3 := (d i).isLt
  have h4 : (7 : Nat) ^ 4 = 2401 := by decide
  have h5 : mo_h d i (u - i) < 2 ^ 31 := by omega
  constructor
  · rw [mo_rem7 h5]
    congr 1
    refine Fin.ext ?_
    show mo_h d i (u - i) % 7 = (d i).val
    omega
  · rw [mo_div7 h5]
    congr 1
    omega
theorem mo_resultOf {post : Int32 → Prop} {f c : Int32} {a1 a2 a3 a4 a5 : Nat → Int32} {u : Nat} {r d : Nat → Fin 7} (hu : u < 4) (hr : ∀ i, i < 5 → a4 (u * 5 + i) = mo_n (r i)) (H : post (mo_n (mo_rs r d u))) : wpX_resultOf post (f, c, a1, a2, a3, a4, a5) (nI u) (nI (mo_h d 0 u)) := by
  refine ⟨pk_in (u * 5 + 4) 20 (by omega) (mo_ix u 4), nm_r (e' := mo_n (r 4)) ?_ ?_⟩
  · rw [show (nI u * 5 + 4).toNatClampNeg = u * 5 + 4 from mo_cx (i := 4) (by omega) (by omega)]
    exact hr 4 (by omega)
  · refine pk_loop (σ := Int32) (fun m i s => wX_resultOf_17 post (nI u) f c a1 a2 a3 a4 a5 m s (nI (mo_h d i (u - i))) (nI i)) (fun i s => ∃ q, q ≤ 36 * i ∧ s = mo_n (r 4) - nI q ∧ mo_rs r d i = r 4 - Fin.ofNat 7 q) u 0 (mo_n (r 4)) (by omega) ⟨0, by omega, ?_, ?_⟩
      (fun m s h => pk_le u u (fun _ => mo_mod (y := mo_n (mo_rs r d u)) ?_ H) (fun z => absurd z (by omega)))
      (fun m i s hi h hs => pk_le u i (fun z => absurd z (by omega)) (fun _ => ⟨pk_in (u * 5 + i) 20 (by omega) (mo_ix u i), by decide, nm_r (e' := s - mo_n (r i) * mo_n (d i)) ?_ ⟨by decide, nm_r (mo_h_s hi (by omega)).2 (nm_r (nI_1 i) (hs _ ?_))⟩⟩))
    · rw [nI_0]
      grind
    · show r 4 = r 4 - 0
      grind
    · obtain ⟨q, h1, h2, h3⟩ := h
      rw [h2, h3]
      exact mo_md2 (r 4) ⟨q, by omega⟩
    · rw [mo_cx (by omega) (by omega), hr i (by omega), (mo_h_s hi (by omega)).1]
    · obtain ⟨q, h1, h2, h3⟩ := h
      have h4 := mo_v36 (r i) (d i)
      refine ⟨q + (r i).val * (d i).val, by omega, ?_, ?_⟩
      · rw [h2, mo_subsub, show mo_n (r i) * mo_n (d i) = nI ((r i).val * (d i).val) from pk_mul _ _, nI_add]
      · show mo_rs r d i - r i * d i = _
        rw [h3, mo_ofadd]
        grind
/-! ===== solutionAt, value ===== -/
theorem mo_h_up {d : Nat → Fin 7} {i : Nat} {v : Fin 7} : mo_h (mo_up d i v) 0 (i + 1) = mo_h d 0 i + v.val * 7 ^ i := by
  rw [mo_h_top, Nat.zero_add, mo_up_s, mo_h_congr i 0 (d' := d) (fun j h1 h2 => mo_up_n (by omega))]
theorem mo_at67 {post : Int32 → Prop} {J : Int32 → Int32 → Int32 → Int32 → Prop} {f c x2 x3 : Int32} {a1 a2 a3 a4 a5 : Nat → Int32} {d : Nat → Fin 7} {i : Nat} {v : Fin 7} (h3 : x3 = nI (mo_h d 0 i)) (H : J x2 (nI (mo_h (mo_up d i v) 0 (i + 1))) (nI (7 ^ (i + 1))) (nI (i + 1))) : wX_solutionAt_67 post J x2 x3 (nI (7 ^ i)) (nI i) (mo_n v) f c a1 a2 a3 a4 a5 := by
  refine nm_r (e' := nI (mo_h (mo_up d i v) 0 (i + 1))) ?_ (nm_r (pk_mul (7 ^ i) 7) (nm_r (nI_1 i) H))
  rw [h3, mo_h_up, show mo_n v * nI (7 ^ i) = nI (v.val * 7 ^ i) from pk_mul _ _, nI_add]
theorem mo_solAt {post : Int32 → Prop} {f c : Int32} {a1 a2 a3 a4 a5 : Nat → Int32} {R : Nat → Nat → Fin 7} {D : Nat → Bool} {n : Nat} (hD : mo_PB 4 a3 D) (hR : mo_PR a4 D R) (hn : n < mo_wy D 4 0) (H : post (nI (mo_h (mo_so R D n) 0 4))) : wpX_solutionAt post (f, c, a1, a2, a3, a4, a5) (nI n) :=
  pk_loop (σ := Unit) (fun m i _ => wX_solutionAt_10 post f c a1 a2 a3 a4 a5 m (nI (mo_sL R D n i).1) (nI (mo_h (mo_sL R D n i).2 0 i)) (nI (7 ^ i)) (nI i)) (fun _ _ => True) 4 0 () (by omega) trivial
    (fun m _ _ => pk_le 4 4 (fun _ => H) (fun z => absurd z (by omega)))
    (fun m i _ hi _ hs => pk_le 4 i (fun z => absurd z (by omega)) (fun _ => ⟨pk_in i 4 hi, by
      have hs' := hs () trivial
      have eL : mo_sL R D n (i + 1) = mo_sS R D i (mo_sL R D n i) := rfl
      have wp := mo_wy_pos D (3 - i) (i + 1)
      have wl := mo_wy_le D (3 - i) (i + 1)
      have w2 : 7 ^ (3 - i) ≤ 7 ^ 3 := Nat.pow_le_pow_right (by decide) (by omega)
      have w3 : (7 : Nat) ^ 3 = 343 := by decide
      have ll := mo_sL_lt (R := R) hn i (by omega)
      have l2 := mo_wy_le D (4 - i) i
      have l3 : 7 ^ (4 - i) ≤ 7 ^ 4 := Nat.pow_le_pow_right (by decide) (by omega)
      have l4 : (7 : Nat) ^ 4 = 2401 := by decide
      rw [nI_clamp (show i < 2 ^ 31 by omega), hD i hi, nI_1]
      cases hDi : D i
      · have hDn : ¬ D i = true := by
          rw [hDi]
          decide
        have dg := mo_sL_dg (R := R) hn hi hDn
        have eS : mo_sS R D i (mo_sL R D n i) = ((mo_sL R D n i).1 % mo_wy D (3 - i) (i + 1), mo_up (mo_sL R D n i).2 i (Fin.ofNat 7 ((mo_sL R D n i).1 / mo_wy D (3 - i) (i + 1)))) := if_neg hDn
        rw [eL, eS] at hs'
        refine br_t rfl (mo_ways (u := i + 1) (by omega) hD ?_)
        rw [show 4 - (i + 1) = 3 - i by omega]
        refine br_f (nI_nle wp (by omega)) ⟨nI_ne0 wp (by omega), nm_r (e' := mo_n (Fin.ofNat 7 ((mo_sL R D n i).1 / mo_wy D (3 - i) (i + 1)))) ?_ ⟨nI_ne0 wp (by omega), nm_r (pk_rem (by omega) wp (by omega)) (mo_at67 rfl hs')⟩⟩
        rw [pk_div (by omega) wp (by omega), mo_ofN, Nat.mod_eq_of_lt dg]
      · have eS : mo_sS R D i (mo_sL R D n i) = ((mo_sL R D n i).1, mo_up (mo_sL R D n i).2 i (mo_rs (R i) (mo_sL R D n i).2 i)) := if_pos hDi
        rw [eL, eS] at hs'
        exact br_f (by decide) (mo_resultOf hi (hR i hi hDi) (mo_at67 rfl hs'))⟩))
theorem mo_an_pos {E : Nat → Nat → Fin 7} {O : Nat → Bool} {n : Nat} (h : 0 < mo_an E O n) : (mo_sv E O n).2.2 = false ∧ mo_an E O n = mo_wy (mo_sv E O n).1 4 0 := by
  have e : mo_an E O n = if (mo_sv E O n).2.2 = true then 0 else mo_wy (mo_sv E O n).1 4 0 := rfl
  cases hb : (mo_sv E O n).2.2
  · rw [hb, if_neg (by decide)] at e
    exact ⟨rfl, e⟩
  · rw [hb, if_pos rfl] at e
    omega
theorem mo_value {post : Int32 → St1 → Prop} {c : Int32} {a1 a2 a3 a4 a5 : Nat → Int32} {n : Nat} {E : Nat → Nat → Fin 7} {O : Nat → Bool} {i v : Nat} (hI : mo_In n E O a1 a2) (hv : v < 4) (hi : i < mo_an E O n)
    (H : ∀ c' b3 b4 b5, post (mo_n (mo_so (mo_sv E O n).2.1 (mo_sv E O n).1 i v)) (nI n, c', a1, a2, b3, b4, b5)) : wpX_value post (nI n, c, a1, a2, a3, a4, a5) (nI i) (nI v) := by
  obtain ⟨hb, ha⟩ := mo_an_pos (show 0 < mo_an E O n by omega)
  rw [ha] at hi
  have l2 := mo_wy_le (mo_sv E O n).1 4 0
  have l4 : (7 : Nat) ^ 4 = 2401 := by decide
  refine br_f (nI_pos (by omega)) (br_t (nI_lt (b := 4) hv (by decide)) (mo_solve hI.1 hI.2.1 hI.2.2 (fun c' b3 b4 b5 hq => ?_)))
  obtain ⟨hc, h3, h4⟩ := hq
  dsimp only
  rw [hb] at hc
  subst hc
  have hl : nI i < nI (mo_wy (mo_sv E O n).1 4 0) := nI_lt hi (by omega)
  refine br_t rfl (br_f (nI_pos (by omega)) (mo_ways (u := 0) (by omega) h3 (br_t hl (mo_solAt h3 h4 hi ?_))))
  exact pk_loop (σ := Unit) (fun m j _ => wX_value_48 post (nI v) (nI n) (mo_b false) a1 a2 b3 b4 b5 m (nI (mo_h (mo_so (mo_sv E O n).2.1 (mo_sv E O n).1 i) j (4 - j))) (nI j)) (fun _ _ => True) v 0 () (by omega) trivial
    (fun m _ _ => pk_le v v (fun _ => ⟨by decide, by rw [(mo_h_s (d := mo_so (mo_sv E O n).2.1 (mo_sv E O n).1 i) hv (Nat.le_refl 4)).1]; exact H _ b3 b4 b5⟩) (fun z => absurd z (by omega)))
    (fun m j _ hj _ hs => pk_le v j (fun z => absurd z (by omega)) (fun _ => ⟨by decide, nm_r (mo_h_s (by omega) (Nat.le_refl 4)).2 (nm_r (nI_1 j) (hs () trivial))⟩))
/-! ===== power, rank ===== -/
theorem mo_power {post : Int32 → Prop} {u : Nat} (hu : u < 4) (H : post (nI (7 ^ u))) : wpX_power post () (nI u) :=
  pk_loop (σ := Unit) (fun m i _ => wX_power_4 post (nI u) m (nI (7 ^ i)) (nI i)) (fun _ _ => True) u 0 () (by omega) trivial
    (fun m _ _ => pk_le u u (fun _ => H) (fun z => absurd z (by omega)))
    (fun m i _ hi _ hs => pk_le u i (fun z => absurd z (by omega)) (fun _ => nm_r (pk_mul (7 ^ i) 7) (nm_r (nI_1 i) (hs () trivial))))
theorem mo_rank {post : Int32 → St1 → Prop} {c p : Int32} {a1 a2 a3 a4 a5 : Nat → Int32} {n : Nat} {E : Nat → Nat → Fin 7} {O : Nat → Bool} {x : Nat → Fin 7} (hI : mo_In n E O a1 a2) (hb : (mo_sv E O n).2.2 = false) (hx : ∀ u, u < 4 → (mo_sv E O n).1 u = true → x u = mo_rs ((mo_sv E O n).2.1 u) x u) (hp : p = nI (mo_h x 0 4))
    (H : ∀ c' b3 b4 b5, post (nI (mo_rk (mo_sv E O n).1 x 4)) (nI n, c', a1, a2, b3, b4, b5)) : wpX_rank post (nI n, c, a1, a2, a3, a4, a5) p := by
  subst hp
  unfold wpX_rank
  dsimp only
  refine mo_solve hI.1 hI.2.1 hI.2.2 (fun c' b3 b4 b5 hq => ?_)
  obtain ⟨hc, h3, h4⟩ := hq
  dsimp only
  rw [hb] at hc
  subst hc
  have l := mo_h_lt x 4 0
  have l4 : (7 : Nat) ^ 4 = 2401 := by decide
  have ea : nI (mo_h x 0 4) &&& 2147483647 = nI (mo_h x 0 4) := by
    rw [pk_andN (by omega) 31 (by decide), Nat.mod_eq_of_lt (by omega)]
  refine br_t rfl (nm_r ea ?_)
  generalize (mo_sv E O n).1 = D at *
  generalize (mo_sv E O n).2.1 = R at *
  refine pk_loop (σ := Unit) (fun m i _ => wX_rank_26 post (nI n) (mo_b false) a1 a2 b3 b4 b5 m (nI (mo_h x i (4 - i))) (nI (mo_h x 0 i)) (nI (mo_rk D x i)) (nI i)) (fun _ _ => True) 4 0 () (by omega) trivial
    (fun m _ _ => pk_le 4 4 (fun _ => H _ b3 b4 b5) (fun z => absurd z (by omega)))
    (fun m i _ hi _ hs => pk_le 4 i (fun z => absurd z (by omega)) (fun _ => ⟨by decide, nm_r (mo_h_s hi (Nat.le_refl 4)).1 ⟨by decide, nm_r (mo_h_s hi (Nat.le_refl 4)).2 ?_⟩⟩))
  have hs' := hs () trivial
  have et : mo_h x 0 (i + 1) = mo_h x 0 i + (x i).val * 7 ^ i := by
    rw [mo_h_top, Nat.zero_add]
  have er : mo_rk D x (i + 1) = mo_rk D x i + (if D i = true then 0 else (x i).val * mo_wy D (3 - i) (i + 1)) := rfl
  rw [nI_1]
  refine mo_ways (u := i + 1) (by omega) h3 ⟨pk_in i 4 hi, ?_⟩
  rw [show 4 - (i + 1) = 3 - i by omega] at hs'
  rw [nI_clamp (show i < 2 ^ 31 by omega), h3 i hi, show 4 - (i + 1) = 3 - i by omega]
  have e3 : nI (mo_h x 0 i) + mo_n (x i) * nI (7 ^ i) = nI (mo_h x 0 (i + 1)) := by
    rw [et, show mo_n (x i) * nI (7 ^ i) = nI ((x i).val * 7 ^ i) from pk_mul _ _, nI_add]
  cases hDi : D i
  · rw [if_neg (by rw [hDi]; decide)] at er
    refine br_t rfl (nm_r (e' := nI (mo_rk D x (i + 1))) ?_ (mo_power hi (nm_r e3 (nm_r (nI_1 i) hs'))))
    rw [er, show mo_n (x i) * nI (mo_wy D (3 - i) (i + 1)) = nI ((x i).val * mo_wy D (3 - i) (i + 1)) from pk_mul _ _, nI_add]
  · rw [if_pos hDi, Nat.add_zero] at er
    rw [er] at hs'
    refine br_f (by decide) (mo_resultOf hi (h4 i hi hDi) ?_)
    rw [← hx i hi hDi]
    have lx : (x i).val < 2 ^ 31 := by omega
    exact br_t (nI_le (Nat.le_refl _) lx) (br_t (nI_le (Nat.le_refl _) lx) (mo_power hi (nm_r e3 (nm_r (nI_1 i) hs'))))
/-! ===== varies, possible ===== -/
theorem mo_varies {post : Int32 → Prop} {f c : Int32} {a1 a2 a3 a4 a5 : Nat → Int32} {D : Nat → Bool} {u : Nat} (hu : u < 4) (hD : mo_PB 4 a3 D) (H1 : post 1) (H0 : D u = true → post 0) : wpX_varies post (f, c, a1, a2, a3, a4, a5) (nI u) := by
  refine ⟨pk_in u 4 hu, ?_⟩
  rw [nI_clamp (show u < 2 ^ 31 by omega), hD u hu]
  cases hDu : D u
  · exact br_t rfl H1
  · exact br_f (by decide) (pk_loop (σ := Unit) (fun m i _ => wX_varies_13 post (nI u) f c a1 a2 a3 a4 a5 m (nI i)) (fun _ _ => True) u 0 () (by omega) trivial
      (fun m _ _ => pk_le u u (fun _ => H0 hDu) (fun z => absurd z (by omega)))
      (fun m i _ hi _ hs => pk_le u i (fun z => absurd z (by omega)) (fun _ => ⟨pk_in (u * 5 + i) 20 (by omega) (mo_ix u i), br_c (fun _ => nm_r (nI_1 i) (hs () trivial)) (fun _ => H1)⟩)))
theorem mo_possible {post : Int32 → St1 → Prop} {c : Int32} {a1 a2 a3 a4 a5 : Nat → Int32} {n u : Nat} {E : Nat → Nat → Fin 7} {O : Nat → Bool} (hI : mo_In n E O a1 a2) (hu : u < 4)
    (H0 : mo_an E O n = 0 → ∀ c' b3 b4 b5, post 0 (nI n, c', a1, a2, b3, b4, b5))
    (H1 : 0 < mo_an E O n → ∀ c' b3 b4 b5, post 127 (nI n, c', a1, a2, b3, b4, b5))
    (H2 : 0 < mo_an E O n → ∀ (a : Fin 7) c' b3 b4 b5, post ((1 : Int32) <<< (mo_n a &&& 31)) (nI n, c', a1, a2, b3, b4, b5)) : wpX_possible post (nI n, c, a1, a2, a3, a4, a5) (nI u) := by
  refine br_f (nI_pos (by omega)) (br_t (nI_lt (b := 4) hu (by decide)) (mo_solve hI.1 hI.2.1 hI.2.2 (fun c' b3 b4 b5 hq => ?_)))
  obtain ⟨hc, h3, h4⟩ := hq
  dsimp only
  have e : mo_an E O n = if (mo_sv E O n).2.2 = true then 0 else mo_wy (mo_sv E O n).1 4 0 := rfl
  cases hb : (mo_sv E O n).2.2
  · rw [hb] at hc
    subst hc
    rw [hb, if_neg (by decide)] at e
    have wp := mo_wy_pos (mo_sv E O n).1 4 0
    refine br_t rfl (mo_varies hu h3 (br_f (by decide) (H1 (by omega) _ b3 b4 b5)) (fun hD => br_t rfl ⟨pk_in (u * 5 + 4) 20 (by omega) (mo_ix u 4), ?_⟩))
    rw [show (nI u * 5 + 4).toNatClampNeg = u * 5 + 4 from mo_cx (i := 4) (by omega) (by omega), h4 u hu hD 4 (by omega)]
    exact H2 (by omega) _ _ b3 b4 b5
  · rw [hb] at hc
    subst hc
    rw [hb, if_pos rfl] at e
    exact br_f (by decide) (H0 e _ b3 b4 b5)
end
section
/-! ===== the law's own helpers: cell, digit, holds, bits; and add ===== -/
def mo_ce (L : Nat) (xs : Nat → Int32) (k : Nat) : Int32 := if k < L then xs k else 0
theorem mo_cell {post : Int32 → Prop} {L : Nat} {xs : Nat → Int32} {k : Nat} {p : Int32} (hL : L ≤ 260) (hk : k < 300) (hp : p = nI k) (H : post (mo_ce L xs k)) : wpL_cell post L xs () p := by
  subst hp
  unfold mo_ce at H
  refine pk_le L k (fun z => ?_) (fun z => ⟨pk_in k L z, ?_⟩)
  · rw [if_neg (by omega)] at H
    exact H
  · rw [if_pos z] at H
    rw [nI_clamp (by omega)]
    exact H
def mo_m (x : Int32) : Nat := x.toBitVec.toNat % 2 ^ 31
theorem mo_m_lt (x : Int32) : mo_m x < 2 ^ 31 := Nat.mod_lt _ (by decide)
theorem mo_m_e (x : Int32) : x &&& 2147483647 = nI (mo_m x) := pk_and x 31 (by decide)
/-- digit i of a script's cell -/
def mo_dd (x : Int32) (i : Nat) : Fin 7 := Fin.ofNat 7 (mo_m x / 7 ^ i)
theorem mo_dv (m i : Nat) : m / 7 ^ i / 7 = m / 7 ^ (i + 1) := by rw [Nat.div_div_eq_div_mul, Nat.pow_succ]
theorem mo_dl (x : Int32) (i : Nat) : mo_m x / 7 ^ i < 2 ^ 31 := Nat.lt_of_le_of_lt (Nat.div_le_self _ _) (mo_m_lt x)
theorem mo_digit {post : Int32 → Prop} {x : Int32} (i : Nat) (hi : i ≤ 4) (H : post (mo_n (mo_dd x i))) : wpL_digit post () x (nI i) := by
  refine nm_r (mo_m_e x) ?_
  refine Exists.elim (pk_loop (σ := Unit) (fun m k _ => wL_digit_7 post (nI i) m (nI (mo_m x / 7 ^ (min k i))) (nI k)) (fun _ _ => True) 4 0 () (by omega) trivial ?_ ?_) (fun m hm => ?_)
  rotate_left 2
  · have hm' : wL_digit_7 post (nI i) m (nI (mo_m x / 7 ^ (min 0 i))) (nI 0) := hm
    rw [Nat.zero_min, Nat.pow_zero, Nat.div_one] at hm'
    exact ⟨m, hm'⟩
  · intro m _ _
    show wL_digit_7 post (nI i) (m + 1) (nI (mo_m x / 7 ^ (min 4 i))) (nI 4)
    rw [show min 4 i = i by omega]
    refine pk_le 4 4 (fun _ => ⟨by decide, ?_⟩) (fun z => absurd z (by omega))
    rw [mo_rem7 (mo_dl x i)]
    exact H
  · intro m k _ hk _ hs
    have hs' : wL_digit_7 post (nI i) m (nI (mo_m x / 7 ^ (min (k + 1) i))) (nI (k + 1)) := hs () trivial
    show wL_digit_7 post (nI i) (m + 1) (nI (mo_m x / 7 ^ (min k i))) (nI k)
    refine pk_le 4 k (fun z => absurd z (by omega)) (fun _ => pk_le i k (fun z => ?_) (fun z => ?_))
    · rw [show min (k + 1) i = min k i by omega] at hs'
      exact nm_r (nI_1 k) hs'
    · rw [show min (k + 1) i = k + 1 by omega, ← mo_dv] at hs'
      rw [show min k i = k by omega]
      exact ⟨by decide, nm_r (mo_div7 (mo_dl x k)) (nm_r (nI_1 k) hs')⟩
theorem mo_hold_sum (a b c d e a' b' c' d' : Fin 7) (h : a * a' + b * b' + c * c' + d * d' = e) : (mo_n a * mo_n a' + mo_n b * mo_n b' + mo_n c * mo_n c' + mo_n d * mo_n d') - (mo_n a * mo_n a' + mo_n b * mo_n b' + mo_n c * mo_n c' + mo_n d * mo_n d') / 7 * 7 = mo_n e := by
  have ep : ∀ p q : Fin 7, mo_n p * mo_n q = nI (p.val * q.val) := fun p q => pk_mul _ _
  have h1 := mo_v36 a a'
  have h2 := mo_v36 b b'
  have h3 := mo_v36 c c'
  have h4 := mo_v36 d d'
  rw [ep, ep, ep, ep, nI_add, nI_add, nI_add, mo_rem7 (by omega), mo_ofadd, mo_ofadd, mo_ofadd, ← h]
  congr 4
theorem mo_holds {post : Int32 → Prop} {z : Int32} {x : Nat → Fin 7} (h : mo_ho (mo_dd z) x) (H : post 1) : wpL_holds post () z (mo_n (x 0)) (mo_n (x 1)) (mo_n (x 2)) (mo_n (x 3)) :=
  mo_digit 0 (by omega) (mo_digit 1 (by omega) (mo_digit 2 (by omega) (mo_digit 3 (by omega) (nm_e ⟨by decide, mo_digit 4 (by omega) (br_t (mo_hold_sum _ _ _ _ _ _ _ _ _ h) H)⟩))))
def mo_bs (x : Int32) : Nat → Int32
  | 0 => 0
  | k + 1 => mo_bs x k + ((x >>> (nI k &&& 31)) &&& 1)
theorem mo_bits {post : Int32 → Prop} {x : Int32} (H : post (mo_bs x 7)) : wpL_bits post () x :=
  pk_loop (σ := Unit) (fun m k _ => wL_bits_4 post x m (mo_bs x k) (nI k)) (fun _ _ => True) 7 0 () (by omega) trivial
    (fun m _ _ => pk_le 7 7 (fun _ => H) (fun z => absurd z (by omega)))
    (fun m k _ hk _ hs => pk_le 7 k (fun z => absurd z (by omega)) (fun _ => nm_e (nm_r (nI_1 k) (hs () trivial))))
theorem mo_bs0 : mo_bs 0 7 = 0 := by decide +kernel
theorem mo_bs127 : mo_bs 127 7 = 7 := by decide +kernel
theorem mo_bs1 : ∀ a : Fin 7, mo_bs ((1 : Int32) <<< (mo_n a &&& 31)) 7 = 1 := by decide +kernel
theorem mo_add {post : Int32 → St1 → Prop} {c x : Int32} {a1 a2 a3 a4 a5 : Nat → Int32} {n : Nat} {E : Nat → Nat → Fin 7} {O : Nat → Bool} (hn : n < 6) (hI : mo_In n E O a1 a2) (hE : ∀ i, i < 5 → E n i = mo_dd x i)
    (H : ∀ r b1 b2, mo_In (n + 1) E (mo_ub O n true) b1 b2 → post r (nI (n + 1), c, b1, b2, a3, a4, a5)) : wpX_add post (nI n, c, a1, a2, a3, a4, a5) x := by
  refine br_t (nI_lt (b := 6) hn (by decide)) (nm_r (mo_m_e x) ?_)
  refine Exists.elim (pk_loop (fun m i s => wX_add_19 post (nI n) c m (nI (mo_m x / 7 ^ i)) (nI i) s a2 a3 a4 a5) (fun i s => (∀ j, j < 5 → s (n * 5 + j) = if j < i then mo_n (mo_dd x j) else a1 (n * 5 + j)) ∧ (∀ v, v ≠ n → ∀ j, j < 5 → s (v * 5 + j) = a1 (v * 5 + j))) 5 0 a1 (by omega) ⟨fun j hj => by rw [if_neg (by omega)], fun v _ j _ => rfl⟩ ?_ ?_) (fun m hm => ?_)
  rotate_left 2
  · have hm' : wX_add_19 post (nI n) c m (nI (mo_m x / 7 ^ 0)) (nI 0) a1 a2 a3 a4 a5 := hm
    rw [Nat.pow_zero, Nat.div_one] at hm'
    exact ⟨m, hm'⟩
  · intro m s h
    refine pk_le 5 5 (fun _ => ⟨pk_in n 6 hn, nm_e (nm_r (nI_1 n) (H _ _ _ ⟨by omega, fun e he i hi => ?_, fun j hj => ?_⟩))⟩) (fun z => absurd z (by omega))
    · by_cases g : e = n
      · rw [g, h.1 i hi, if_pos hi, hE i hi]
      · rw [h.2 e g i hi]
        exact hI.2.1 e (by omega) i hi
    · rw [nI_clamp (by omega)]
      unfold mo_ub
      by_cases g : j = n
      · rw [g, pk_us, if_pos rfl]
        rfl
      · rw [pk_un g, if_neg g]
        exact hI.2.2 j (by omega)
  · intro m i s hi h hs
    have hs' : ∀ t, (∀ j, j < 5 → t (n * 5 + j) = if j < i + 1 then mo_n (mo_dd x j) else a1 (n * 5 + j)) ∧ (∀ v, v ≠ n → ∀ j, j < 5 → t (v * 5 + j) = a1 (v * 5 + j)) → wX_add_19 post (nI n) c m (nI (mo_m x / 7 ^ (i + 1))) (nI (i + 1)) t a2 a3 a4 a5 := hs
    refine pk_le 5 i (fun z => absurd z (by omega)) (fun _ => ⟨by decide, pk_in (n * 5 + i) 30 (by omega) (mo_ix n i), nm_e ⟨by decide, nm_r (e' := nI (mo_m x / 7 ^ (i + 1))) (by rw [mo_div7 (mo_dl x i), mo_dv]) (nm_r (nI_1 i) (hs' _ ⟨mo_fillR (f := fun j => mo_n (mo_dd x j)) (g := fun j => a1 (n * 5 + j)) (mo_cx (by omega) hi) h.1 (mo_rem7 (mo_dl x i)), mo_offR (mo_cx (by omega) hi) hi h.2⟩))⟩⟩)
end
section
/-! ===== the law's loops ===== -/
abbrev mo_A : Type := Nat → Int32
abbrev mo_J8 : Type := Int32 → Int32 → Int32 → mo_A → mo_A → mo_A → mo_A → mo_A → Prop
theorem mo_an_le (E : Nat → Nat → Fin 7) (O : Nat → Bool) (n : Nat) : mo_an E O n ≤ 2401 := by
  have l2 := mo_wy_le (mo_sv E O n).1 4 0
  have l4 : (7 : Nat) ^ 4 = 2401 := by decide
  show (if (mo_sv E O n).2.2 = true then 0 else mo_wy (mo_sv E O n).1 4 0) ≤ 2401
  by_cases h : (mo_sv E O n).2.2 = true
  · rw [if_pos h]
    omega
  · rw [if_neg h]
    omega
theorem mo_ub2 (O : Nat → Bool) (q : Nat) (b : Bool) : mo_ub (mo_ub O q b) q (O q) = O := by
  funext j
  unfold mo_ub
  by_cases e : j = q
  · rw [if_pos e, e]
  · rw [if_neg e, if_neg e]
/-! the last loop: turn off, follows, solutions, turn back -/
theorem mo_l504 {post : Int32 → Prop} {L : Nat} {xs : mo_A} {J : mo_J8} {x2 c : Int32} {kc ks n i : Nat} {a1 a2 a3 a4 a5 : mo_A} {E : Nat → Nat → Fin 7} {O : Nat → Bool} (hI : mo_In n E O a1 a2) (HJ : ∀ c' b3 b4 b5, J (nI (i + 1)) (nI n) c' a1 a2 b3 b4 b5) : wL_law_504 post L xs J x2 (nI (mo_an E O n)) (nI i) kc ks (nI n) c a1 a2 a3 a4 a5 := by
  unfold wL_law_504
  exact mo_solutions hI (fun c' b3 b4 b5 => br_t rfl (nm_r (nI_1 i) (HJ c' b3 b4 b5)))
theorem mo_l470 {post : Int32 → Prop} {L : Nat} {xs : mo_A} {J : mo_J8} {x2 c : Int32} {kc ks n i : Nat} {a1 a2 a3 a4 a5 : mo_A} {E : Nat → Nat → Fin 7} {O : Nat → Bool} (hi : i < n) (hI : mo_In n E (mo_ub O i false) a1 a2) (HJ : ∀ b2, mo_In n E O a1 b2 → ∀ c' b3 b4 b5, J (nI (i + 1)) (nI n) c' a1 b2 b3 b4 b5) :
    wL_law_470 post L xs J x2 (nI (mo_an E O n)) (nI i) (mo_b (O i)) (mo_b (mo_fl E (mo_ub O i false) n i)) (nI (mo_an E (mo_ub O i false) n)) (mo_b (O i)) (nI i) kc ks (nI n) c a1 a2 a3 a4 a5 := by
  unfold wL_law_470
  refine mo_turn (b := O i) hI hi (fun b2 hI2 => ?_)
  rw [mo_ub2] at hI2
  dsimp only
  have h504 : ∀ c' b3 b4 b5, wL_law_504 post L xs J x2 (nI (mo_an E O n)) (nI i) kc ks (nI n) c' a1 b2 b3 b4 b5 := fun c' b3 b4 b5 => mo_l504 hI2 (HJ b2 hI2)
  have l1 := mo_an_le E O n
  have l2 := mo_an_le E (mo_ub O i false) n
  cases hf : mo_fl E (mo_ub O i false) n i
  · refine br_t rfl ?_
    unfold wL_law_486
    cases hO : O i
    · exact br_f (by decide) (h504 _ _ _ _)
    · have ne := mo_fl_f hi hO hf
      exact br_t rfl (br_t rfl (br_f (fun z => ne ((nI_eq (by omega) (by omega)).mp z)) (h504 _ _ _ _)))
  · refine br_f (by decide) (br_t (congrArg nI (mo_fl_t hi hf)) ?_)
    unfold wL_law_486
    exact br_c (fun _ => br_f (by decide) (h504 _ _ _ _)) (fun _ => h504 _ _ _ _)
theorem mo_l427 {post : Int32 → Prop} {L : Nat} {xs : mo_A} {c : Int32} {kc ks n : Nat} {a1 a2 a3 a4 a5 : mo_A} {E : Nat → Nat → Fin 7} {O : Nat → Bool} (hp : post 1) (hI : mo_In n E O a1 a2) : ∃ m, wL_law_427 post L xs (nI n) (nI (mo_an E O n)) kc ks m 0 (nI n) c a1 a2 a3 a4 a5 :=
  pk_loop (σ := Int32 × mo_A × mo_A × mo_A × mo_A) (fun m i s => wL_law_427 post L xs (nI n) (nI (mo_an E O n)) kc ks m (nI i) (nI n) s.1 a1 s.2.1 s.2.2.1 s.2.2.2.1 s.2.2.2.2) (fun _ s => mo_In n E O a1 s.2.1) n 0 (c, a2, a3, a4, a5) (by omega) hI
    (fun m s h => br_t (nI_le (Nat.le_refl n) (by have := hI.1; omega)) hp)
    (fun m i s hi h hs => br_f (nI_ge hi (by have := hI.1; omega)) (mo_turn (b := false) h hi (fun b2 h2 => mo_follows h2 hi (fun c' b3 b4 b5 => mo_solutions h2 (fun c'' d3 d4 d5 => by
      have key := mo_l470 (post := post) (L := L) (xs := xs) (J := wL_law_427 post L xs (nI n) (nI (mo_an E O n)) kc ks m) (x2 := nI n) (c := c'') (kc := kc) (ks := ks) (a3 := d3) (a4 := d4) (a5 := d5) hi h2 (fun e2 he c' e3 e4 e5 => hs (c', e2, e3, e4, e5) he)
      dsimp only
      cases hO : O i
      · rw [hO] at key
        exact br_f (by decide) key
      · rw [hO] at key
        exact br_t rfl key)))))
/-! the loop over the script: value, rank, holds -/
def mo_dg (L : Nat) (xs : mo_A) (q : Nat) : Int32 := if mo_ce L xs 1 &&& 3 = 3 ∧ q = 2 then mo_ce L xs 2 else mo_ce L xs (2 + q)
theorem mo_dg_t {L : Nat} {xs : mo_A} {q : Nat} (h : mo_ce L xs 1 &&& 3 = 3) (hq : q = 2) : mo_dg L xs q = mo_ce L xs 2 := if_pos ⟨h, hq⟩
theorem mo_dg_f {L : Nat} {xs : mo_A} {q : Nat} (h : ¬ (mo_ce L xs 1 &&& 3 = 3 ∧ q = 2)) : mo_dg L xs q = mo_ce L xs (2 + q) := if_neg h
theorem mo_l382 {post : Int32 → Prop} {L : Nat} {xs : mo_A} {J : mo_J8} {J3 : Int32 → Prop} {x2 x3 x4 x5 f c z : Int32} {kc ks q : Nat} {a1 a2 a3 a4 a5 : mo_A} {x : Nat → Fin 7} (h : ((x3 >>> (nI q &&& 31)) &&& 1) = 1 → mo_ho (mo_dd z) x) (HJ : J3 (nI (q + 1))) :
    wL_law_382 post L xs J J3 x2 x3 x4 x5 (mo_n (x 0)) (mo_n (x 1)) (mo_n (x 2)) (mo_n (x 3)) (nI q) z kc ks f c a1 a2 a3 a4 a5 := by
  unfold wL_law_382
  exact br_c (fun hb => mo_holds (h hb) (br_f (by decide) (nm_r (nI_1 q) HJ))) (fun _ => nm_r (nI_1 q) HJ)
theorem mo_l374 {post : Int32 → Prop} {L : Nat} {xs : mo_A} {J : mo_J8} {J3 : Int32 → Prop} {x2 x3 x4 x5 f c : Int32} {kc ks q : Nat} {a1 a2 a3 a4 a5 : mo_A} {x : Nat → Fin 7} (hL : L ≤ 260) (hq : q ≤ 6) (h : ((x3 >>> (nI q &&& 31)) &&& 1) = 1 → mo_ho (mo_dd (mo_ce L xs (2 + q))) x) (HJ : J3 (nI (q + 1))) :
    wL_law_374 post L xs J J3 x2 x3 x4 x5 (mo_n (x 0)) (mo_n (x 1)) (mo_n (x 2)) (mo_n (x 3)) (nI q) kc ks f c a1 a2 a3 a4 a5 := by
  unfold wL_law_374
  exact mo_cell (k := 2 + q) hL (by omega) (nI_add 2 q) (mo_l382 h HJ)
theorem mo_l343 {post : Int32 → Prop} {L : Nat} {xs : mo_A} {J : mo_J8} {x3 x4 f c : Int32} {kc ks n k : Nat} {a1 a2 a3 a4 a5 : mo_A} {x : Nat → Fin 7} (hL : L ≤ 260) (hn : n ≤ 6) (h : ∀ q, q < n → ((x3 >>> (nI q &&& 31)) &&& 1) = 1 → mo_ho (mo_dd (mo_dg L xs q)) x) (HJ : J (nI (k + 1)) f c a1 a2 a3 a4 a5) :
    ∃ m, wL_law_343 post L xs J (nI n) x3 x4 (nI k) (mo_n (x 0)) (mo_n (x 1)) (mo_n (x 2)) (mo_n (x 3)) kc ks f c a1 a2 a3 a4 a5 m 0 :=
  pk_loop (σ := Unit) (fun m q _ => wL_law_343 post L xs J (nI n) x3 x4 (nI k) (mo_n (x 0)) (mo_n (x 1)) (mo_n (x 2)) (mo_n (x 3)) kc ks f c a1 a2 a3 a4 a5 m (nI q)) (fun _ _ => True) n 0 () (by omega) trivial
    (fun m _ _ => pk_le n n (fun _ => nm_r (nI_1 k) HJ) (fun z => absurd z (by omega)))
    (fun m q _ hq _ hs => pk_le n q (fun z => absurd z (by omega)) (fun _ => mo_cell (k := 1) hL (by omega) rfl
      (br_c (fun h3 => pk_eq q 2 (fun e => mo_cell (k := 2) hL (by omega) rfl (mo_l382 (fun hb => by have := h q hq hb; rw [mo_dg_t h3 e] at this; exact this) (hs () trivial)))
          (fun ne => mo_l374 hL (by omega) (fun hb => by have := h q hq hb; rw [mo_dg_f (fun z => ne z.2)] at this; exact this) (hs () trivial)))
        (fun h3 => mo_l374 hL (by omega) (fun hb => by have := h q hq hb; rw [mo_dg_f (fun z => h3 z.1)] at this; exact this) (hs () trivial)))))
theorem mo_hp (d : Nat → Fin 7) : mo_n (d 0) + 7 * mo_n (d 1) + 49 * mo_n (d 2) + 343 * mo_n (d 3) = nI (mo_h d 0 4) := by
  show nI (d 0).val + nI 7 * nI (d 1).val + nI 49 * nI (d 2).val + nI 343 * nI (d 3).val = _
  rw [pk_mul, pk_mul, pk_mul, nI_add, nI_add, nI_add]
  congr 1
  show _ = (d 0).val + 7 * ((d 1).val + 7 * ((d 2).val + 7 * ((d 3).val + 7 * 0)))
  omega
theorem mo_l241 {post : Int32 → Prop} {L : Nat} {xs : mo_A} {x3 c : Int32} {kc ks n : Nat} {a1 a2 a3 a4 a5 : mo_A} {E : Nat → Nat → Fin 7} {O : Nat → Bool} (hL : L ≤ 260) (hp : post 1) (hI : mo_In n E O a1 a2) (hE : ∀ q, E q = mo_dd (mo_dg L xs q)) (hO : ∀ q, ((x3 >>> (nI q &&& 31)) &&& 1) = 1 → O q = true) :
    ∃ m, wL_law_241 post L xs (nI n) x3 (nI (mo_an E O n)) kc ks m 8 (nI n) c a1 a2 a3 a4 a5 := by
  have l1 := mo_an_le E O n
  have he : ∃ e, 8 ≤ e ∧ e ≤ 300 ∧ (L ≤ e ∨ 40 ≤ e ∨ mo_an E O n = 0) ∧ (∀ i, 8 ≤ i → i < e → i < L ∧ i < 40 ∧ 0 < mo_an E O n) := by
    by_cases h0 : mo_an E O n = 0
    · exact ⟨8, by omega, by omega, by omega, fun i h1 h2 => absurd h2 (by omega)⟩
    · by_cases h1 : L ≤ 8
      · exact ⟨8, by omega, by omega, by omega, fun i h1 h2 => absurd h2 (by omega)⟩
      · exact ⟨min L 40, by omega, by omega, by omega, fun i h1 h2 => ⟨by omega, by omega, by omega⟩⟩
  obtain ⟨e, e1, e2, e3, e4⟩ := he
  have l427 : ∀ s : Int32 × mo_A × mo_A × mo_A, ∃ m, wL_law_427 post L xs (nI n) (nI (mo_an E O n)) kc ks m 0 (nI n) s.1 a1 a2 s.2.1 s.2.2.1 s.2.2.2 := fun s => mo_l427 hp hI
  refine pk_loop (σ := Int32 × mo_A × mo_A × mo_A) (fun m i s => wL_law_241 post L xs (nI n) x3 (nI (mo_an E O n)) kc ks m (nI i) (nI n) s.1 a1 a2 s.2.1 s.2.2.1 s.2.2.2) (fun i _ => 8 ≤ i) e 8 (c, a3, a4, a5) e1 (Nat.le_refl 8)
    (fun m s h => pk_le L e (fun _ => l427 s) (fun z1 => pk_le 40 e (fun _ => l427 s) (fun z2 => pk_le (mo_an E O n) 0 (fun _ => l427 s) (fun z3 => absurd e3 (by omega))))) ?_
  intro m i s hi h8 hs
  obtain ⟨g1, g2, g3⟩ := e4 i h8 hi
  obtain ⟨hb, ha⟩ := mo_an_pos g3
  have hj : mo_m (xs i) % mo_an E O n < mo_an E O n := Nat.mod_lt _ g3
  have em : (xs (nI i).toNatClampNeg &&& 2147483647) - (xs (nI i).toNatClampNeg &&& 2147483647) / nI (mo_an E O n) * nI (mo_an E O n) = nI (mo_m (xs i) % mo_an E O n) := by
    rw [nI_clamp (by omega), mo_m_e, pk_rem (mo_m_lt _) g3 (by omega)]
  refine pk_le L i (fun z => absurd z (by omega)) (fun _ => pk_le 40 i (fun z => absurd z (by omega)) (fun _ => pk_le (mo_an E O n) 0 (fun z => absurd z (by omega)) (fun _ => ⟨pk_in i L g1, nI_ne0 g3 (by omega), nm_r em ?_⟩)))
  generalize hjj : mo_m (xs i) % mo_an E O n = j at hj
  have hj' : j < mo_wy (mo_sv E O n).1 4 0 := by omega
  refine mo_value (v := 0) hI (by omega) hj (fun c0 b3 b4 b5 => mo_value (v := 1) hI (by omega) hj (fun c1 d3 d4 d5 => mo_value (v := 2) hI (by omega) hj (fun c2 f3 f4 f5 => mo_value (v := 3) hI (by omega) hj (fun c3 k3 k4 k5 => mo_rank hI hb (fun u hu hD => mo_so_at hu hD) (mo_hp (mo_so (mo_sv E O n).2.1 (mo_sv E O n).1 j)) (fun c4 m3 m4 m5 => br_t (congrArg nI (mo_so_rk hj')) ?_)))))
  refine mo_l343 (x := mo_so (mo_sv E O n).2.1 (mo_sv E O n).1 j) hL hI.1 (fun q hq hbit => ?_) (hs (c4, m3, m4, m5) (by omega))
  rw [← hE q]
  exact mo_so_Sol hb q hq (hO q hbit)
/-! the loop over the unknowns: possible -/
theorem mo_l206z {post : Int32 → Prop} {L : Nat} {xs : mo_A} {J : mo_J8} {x2 x3 x4 f c : Int32} {kc ks u : Nat} {a1 a2 a3 a4 a5 : mo_A} (h : x4 = 0) (HJ : J (nI (u + 1)) f c a1 a2 a3 a4 a5) : wL_law_206 post L xs J x2 x3 x4 (nI u) 0 kc ks f c a1 a2 a3 a4 a5 := by
  unfold wL_law_206 wL_law_216 wL_law_226
  exact br_t rfl (br_t h (br_t rfl (nm_r (nI_1 u) HJ)))
theorem mo_l206n {post : Int32 → Prop} {L : Nat} {xs : mo_A} {J : mo_J8} {x2 x3 x4 x7 f c : Int32} {kc ks u : Nat} {a1 a2 a3 a4 a5 : mo_A} (h : ¬ x4 = 0) (h7 : ¬ x7 = 0) (HJ : J (nI (u + 1)) f c a1 a2 a3 a4 a5) : wL_law_206 post L xs J x2 x3 x4 (nI u) x7 kc ks f c a1 a2 a3 a4 a5 := by
  unfold wL_law_206 wL_law_216 wL_law_226
  exact br_f h7 (br_f h (br_t rfl (nm_r (nI_1 u) HJ)))
theorem mo_bitsE {post : Int32 → Prop} {x y : Int32} (e : mo_bs x 7 = y) (H : post y) : wpL_bits post () x := mo_bits (by rw [e]; exact H)
theorem mo_l167 {post : Int32 → Prop} {L : Nat} {xs : mo_A} {x3 c : Int32} {kc ks n : Nat} {a1 a2 a3 a4 a5 : mo_A} {E : Nat → Nat → Fin 7} {O : Nat → Bool} (hL : L ≤ 260) (hp : post 1) (hI : mo_In n E O a1 a2) (hE : ∀ q, E q = mo_dd (mo_dg L xs q)) (hO : ∀ q, ((x3 >>> (nI q &&& 31)) &&& 1) = 1 → O q = true) :
    ∃ m, wL_law_167 post L xs (nI n) x3 (nI (mo_an E O n)) kc ks m 0 (nI n) c a1 a2 a3 a4 a5 := by
  have l1 := mo_an_le E O n
  exact pk_loop (σ := Int32 × mo_A × mo_A × mo_A) (fun m u s => wL_law_167 post L xs (nI n) x3 (nI (mo_an E O n)) kc ks m (nI u) (nI n) s.1 a1 a2 s.2.1 s.2.2.1 s.2.2.2) (fun _ _ => True) 4 0 (c, a3, a4, a5) (by omega) trivial
    (fun m s _ => pk_le 4 4 (fun _ => mo_l241 hL hp hI hE hO) (fun z => absurd z (by omega)))
    (fun m u s hu _ hs => pk_le 4 u (fun z => absurd z (by omega)) (fun _ => mo_possible hI hu
      (fun h0 c' b3 b4 b5 => mo_bitsE mo_bs0 (br_t rfl (mo_l206z (by rw [h0]; rfl) (hs (c', b3, b4, b5) trivial))))
      (fun h0 c' b3 b4 b5 => mo_bitsE mo_bs127 (br_f (by decide) (br_f (by decide) (br_t rfl (mo_l206n (nI_ne0 h0 (by omega)) (by decide) (hs (c', b3, b4, b5) trivial))))))
      (fun h0 a c' b3 b4 b5 => mo_bitsE (mo_bs1 a) (br_f (by decide) (br_t rfl (mo_l206n (nI_ne0 h0 (by omega)) (by decide) (hs (c', b3, b4, b5) trivial)))))))
/-! the first loop: add and turn -/
theorem mo_an_six (E : Nat → Nat → Fin 7) (O : Nat → Bool) (n : Nat) : mo_an E O n = 0 ∨ mo_an E O n = 1 ∨ mo_an E O n = 7 ∨ mo_an E O n = 49 ∨ mo_an E O n = 343 ∨ mo_an E O n = 2401 := by
  have h4 : ∀ b0 b1 b2 b3 : Bool, (if b0 = true then 1 else 7) * ((if b1 = true then 1 else 7) * ((if b2 = true then 1 else 7) * ((if b3 = true then 1 else 7) * 1))) ∈ [1, 7, 49, 343, 2401] := by decide +kernel
  have e : mo_an E O n = if (mo_sv E O n).2.2 = true then 0 else mo_wy (mo_sv E O n).1 4 0 := rfl
  cases hb : (mo_sv E O n).2.2
  · rw [hb, if_neg (by decide)] at e
    have h5 : mo_wy (mo_sv E O n).1 4 0 ∈ [1, 7, 49, 343, 2401] := h4 ((mo_sv E O n).1 0) ((mo_sv E O n).1 1) ((mo_sv E O n).1 2) ((mo_sv E O n).1 3)
    rw [← e] at h5
    simp only [List.mem_cons, List.not_mem_nil, or_false] at h5
    exact Or.inr h5
  · rw [hb, if_pos rfl] at e
    exact Or.inl e
theorem mo_l105 {post : Int32 → Prop} {L : Nat} {xs : mo_A} {J : mo_J8} {x2 x3 c : Int32} {kc ks q : Nat} {a1 a2 a3 a4 a5 : mo_A} {E : Nat → Nat → Fin 7} {O : Nat → Bool} (hI : mo_In (q + 1) E (mo_ub O q true) a1 a2) (HJ : ∀ b2, mo_In (q + 1) E O a1 b2 → J (nI (q + 1)) (nI (q + 1)) c a1 b2 a3 a4 a5) : wL_law_105 post L xs J x2 x3 (nI q) (mo_b (O q)) (nI q) kc ks (nI (q + 1)) c a1 a2 a3 a4 a5 := by
  unfold wL_law_105
  refine mo_turn (b := O q) hI (by omega) (fun b2 hI2 => ?_)
  rw [mo_ub2] at hI2
  exact nm_r (nI_1 q) (HJ b2 hI2)
theorem mo_l80 {post : Int32 → Prop} {L : Nat} {xs : mo_A} {J : mo_J8} {x2 x3 c z : Int32} {kc ks q : Nat} {a1 a2 a3 a4 a5 : mo_A} {E : Nat → Nat → Fin 7} {O : Nat → Bool} (hq : q < 6) (hI : mo_In q E O a1 a2) (hE : E q = mo_dd z) (hO : ((x3 >>> (nI q &&& 31)) &&& 1) = 1 ↔ O q = true) (HJ : ∀ b1 b2, mo_In (q + 1) E O b1 b2 → J (nI (q + 1)) (nI (q + 1)) c b1 b2 a3 a4 a5) : wL_law_80 post L xs J x2 x3 (nI q) z kc ks (nI q) c a1 a2 a3 a4 a5 := by
  unfold wL_law_80
  refine mo_add hq hI (fun i _ => by rw [hE]) (fun r b1 b2 hI2 => ?_)
  dsimp only
  have key := mo_l105 (post := post) (L := L) (xs := xs) (J := J) (x2 := x2) (x3 := x3) (c := c) (kc := kc) (ks := ks) (a3 := a3) (a4 := a4) (a5 := a5) hI2 (fun e2 he => HJ b1 e2 he)
  cases hOq : O q
  · rw [hOq] at key
    exact br_f (fun z => by rw [hOq] at hO; exact absurd (hO.mp z) (by decide)) key
  · rw [hOq] at key
    exact br_t (hO.mpr hOq) key
theorem mo_l40 {post : Int32 → Prop} {L : Nat} {xs : mo_A} {x3 c : Int32} {kc ks n : Nat} {a1 a2 a3 a4 a5 : mo_A} {E : Nat → Nat → Fin 7} {O : Nat → Bool} (hL : L ≤ 260) (hn : n ≤ 6) (hp : post 1) (hE : ∀ q, E q = mo_dd (mo_dg L xs q)) (hO : ∀ q, ((x3 >>> (nI q &&& 31)) &&& 1) = 1 ↔ O q = true) :
    ∃ m, wL_law_40 post L xs (nI n) x3 kc ks m 0 0 c a1 a2 a3 a4 a5 := by
  refine pk_loop (σ := Int32 × mo_A × mo_A × mo_A × mo_A × mo_A) (fun m q s => wL_law_40 post L xs (nI n) x3 kc ks m (nI q) (nI q) s.1 s.2.1 s.2.2.1 s.2.2.2.1 s.2.2.2.2.1 s.2.2.2.2.2) (fun q s => mo_In q E O s.2.1 s.2.2.1) n 0 (c, a1, a2, a3, a4, a5) (by omega) ⟨by omega, fun e he => absurd he (by omega), fun e he => absurd he (by omega)⟩
    (fun m s h => pk_le n n (fun _ => mo_solutions h (fun c' b3 b4 b5 => ?_)) (fun z => absurd z (by omega)))
    (fun m q s hq h hs => pk_le n q (fun z => absurd z (by omega)) (fun _ => mo_cell (k := 2 + q) hL (by omega) (nI_add 2 q) (mo_cell (k := 1) hL (by omega) rfl
      (br_c (fun h3 => pk_eq q 2 (fun e => mo_cell (k := 2) hL (by omega) rfl (mo_l80 (by omega) h (by rw [hE, mo_dg_t h3 e]) (hO q) (fun b1 b2 hI => hs (_, b1, b2, _, _, _) hI)))
          (fun ne => mo_l80 (by omega) h (by rw [hE, mo_dg_f (fun z => ne z.2)]) (hO q) (fun b1 b2 hI => hs (_, b1, b2, _, _, _) hI)))
        (fun h3 => mo_l80 (by omega) h (by rw [hE, mo_dg_f (fun z => h3 z.1)]) (hO q) (fun b1 b2 hI => hs (_, b1, b2, _, _, _) hI))))))
  have A : ∃ m, wL_law_167 post L xs (nI n) x3 (nI (mo_an E O n)) kc ks m 0 (nI n) c' s.2.1 s.2.2.1 b3 b4 b5 := mo_l167 hL hp h hE (fun q => (hO q).mp)
  have l1 := mo_an_le E O n
  have h6 := mo_an_six E O n
  exact pk_eq (mo_an E O n) 0 (fun _ => A) (fun n0 => pk_eq (mo_an E O n) 1 (fun _ => A) (fun n1 => pk_eq (mo_an E O n) 7 (fun _ => A) (fun n2 => pk_eq (mo_an E O n) 49 (fun _ => A) (fun n3 => pk_eq (mo_an E O n) 343 (fun _ => A) (fun n4 => pk_eq (mo_an E O n) 2401 (fun _ => A) (fun n5 => absurd h6 (by omega)))))))
theorem i_vc (xs : Nat → Int32) (L : Nat) (hL : L ≤ 260) : wpL_law (fun r => r = 1) L xs := by
  refine ⟨5, 65, by omega, by omega, ?_⟩
  refine ⟨by omega, by omega, by omega, by omega, by omega, by omega, by omega, by omega, by omega, by omega, ?_⟩
  refine mo_cell (k := 0) hL (by omega) rfl ⟨by decide, nm_r (e' := nI (mo_m (mo_ce L xs 0) % 7)) ?_ (mo_cell (k := 1) hL (by omega) rfl (mo_cell (k := 1) hL (by omega) rfl (nm_e ?_)))⟩
  · rw [mo_m_e]
    exact mo_rem7 (mo_m_lt _)
  · have h7 : mo_m (mo_ce L xs 0) % 7 < 7 := Nat.mod_lt _ (by decide)
    exact mo_l40 (E := fun q => mo_dd (mo_dg L xs q)) (O := fun q => decide (((((mo_ce L xs 1) >>> ((3 : Int32) &&& 31)) ||| ((mo_ce L xs 1) &&& 7)) >>> (nI q &&& 31)) &&& 1 = 1)) hL (by omega) rfl (fun q => rfl) (fun q => decide_eq_true_iff.symm)
end
