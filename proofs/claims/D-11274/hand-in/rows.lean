section
/-! the transform as a list function; every step is linear modulo 7681 -/
def wm_g (l : List Nat) (i : Nat) : Nat := l.getD i 0
theorem wm_g_set {l : List Nat} {i : Nat} (hi : i < l.length) (v j : Nat) : wm_g (l.set i v) j = if j = i then v else wm_g l j := by
  unfold wm_g
  rw [List.getD_eq_getElem?_getD, List.getD_eq_getElem?_getD, List.getElem?_set]
  by_cases e : i = j
  · rw [if_pos e, if_pos hi, if_pos e.symm]
    rfl
  · rw [if_neg e, if_neg (fun z => e z.symm)]
/-- the six bits of k, turned -/
def wm_rb (k : Nat) : Nat := (k % 2) * 32 + (k / 2 % 2) * 16 + (k / 4 % 2) * 8 + (k / 8 % 2) * 4 + (k / 16 % 2) * 2 + k / 32 % 2
theorem wm_rb_lt (k : Nat) : wm_rb k < 64 := by
  unfold wm_rb
  omega
def wm_sw (k : Nat) (l : List Nat) : List Nat := if k < wm_rb k then (l.set k (wm_g l (wm_rb k))).set (wm_rb k) (wm_g l k) else l
def wm_bv : Nat → List Nat → List Nat
  | 0, l => l
  | k + 1, l => wm_sw k (wm_bv k l)
/-- the powers of the root -/
def wm_rt : Nat → Nat
  | 0 => 1
  | k + 1 => wm_rt k * 5413 % 7681
theorem wm_rt_lt (k : Nat) : wm_rt k < 7681 := by
  cases k with
  | zero => decide
  | succ k => exact Nat.mod_lt _ (by decide)
def wm_lo (s k : Nat) : Nat := k / 2 ^ s * 2 * 2 ^ s + k % 2 ^ s
def wm_pw (b s k : Nat) : Nat := if b = 0 then k % 2 ^ s * (32 / 2 ^ s) else if k % 2 ^ s * (32 / 2 ^ s) = 0 then k % 2 ^ s * (32 / 2 ^ s) else 64 - k % 2 ^ s * (32 / 2 ^ s)
theorem wm_ix : ∀ s, s < 6 → ∀ k, k < 32 → wm_lo s k + 2 ^ s < 64 ∧ k % 2 ^ s * (32 / 2 ^ s) < 64 := by decide +kernel
def wm_bf (lo hi r : Nat) (l : List Nat) : List Nat := (l.set lo ((wm_g l lo + wm_g l hi * r % 7681) % 7681)).set hi ((wm_g l lo + 7681 - wm_g l hi * r % 7681) % 7681)
def wm_st (b s : Nat) : Nat → List Nat → List Nat
  | 0, l => l
  | k + 1, l => wm_bf (wm_lo s k) (wm_lo s k + 2 ^ s) (wm_rt (wm_pw b s k)) (wm_st b s k l)
def wm_al (b : Nat) : Nat → List Nat → List Nat
  | 0, l => l
  | s + 1, l => wm_st b s 32 (wm_al b s l)
def wm_dv : Nat → List Nat → List Nat
  | 0, l => l
  | k + 1, l => (wm_dv k l).set k (wm_g (wm_dv k l) k * 7561 % 7681)
def wm_fin (b : Nat) (l : List Nat) : List Nat := if b = 0 then l else wm_dv 64 l
def wm_tf (b : Nat) (l : List Nat) : List Nat := wm_fin b (wm_al b 6 (wm_bv 64 l))
/-- l is the combination of four sequences, modulo 7681 -/
def wm_LC (s0 s1 s2 s3 : Int) (A B C D l : List Nat) : Prop := A.length = 64 ∧ B.length = 64 ∧ C.length = 64 ∧ D.length = 64 ∧ l.length = 64 ∧ ∀ i, i < 64 → ∃ q : Int, (wm_g l i : Int) = s0 * wm_g A i + s1 * wm_g B i + s2 * wm_g C i + s3 * wm_g D i + 7681 * q
def wm_LIN (f : List Nat → List Nat) : Prop := ∀ (s0 s1 s2 s3 : Int) (A B C D l : List Nat), wm_LC s0 s1 s2 s3 A B C D l → wm_LC s0 s1 s2 s3 (f A) (f B) (f C) (f D) (f l)
theorem wm_ring (s0 s1 s2 s3 a b x0 x1 x2 x3 y0 y1 y2 y3 x y q q0 q1 q2 q3 : Int) :
    a * (s0 * x0 + s1 * x1 + s2 * x2 + s3 * x3 + 7681 * x) + b * (s0 * y0 + s1 * y1 + s2 * y2 + s3 * y3 + 7681 * y) + 7681 * q
      = s0 * (a * x0 + b * y0 + 7681 * q0) + s1 * (a * x1 + b * y1 + 7681 * q1) + s2 * (a * x2 + b * y2 + 7681 * q2) + s3 * (a * x3 + b * y3 + 7681 * q3) + 7681 * (q + a * x + b * y - s0 * q0 - s1 * q1 - s2 * q2 - s3 * q3) := by
  grind
theorem wm_lin_of {f : List Nat → List Nat} (α β : Nat → Int) (j k : Nat → Nat) (hj : ∀ i, i < 64 → j i < 64) (hk : ∀ i, i < 64 → k i < 64)
    (h : ∀ l : List Nat, l.length = 64 → (f l).length = 64 ∧ ∀ i, i < 64 → ∃ q : Int, (wm_g (f l) i : Int) = α i * wm_g l (j i) + β i * wm_g l (k i) + 7681 * q) : wm_LIN f := by
  intro s0 s1 s2 s3 A B C D l hh
  obtain ⟨hA, hB, hC, hD, hl, H⟩ := hh
  obtain ⟨A1, A2⟩ := h A hA
  obtain ⟨B1, B2⟩ := h B hB
  obtain ⟨C1, C2⟩ := h C hC
  obtain ⟨D1, D2⟩ := h D hD
  obtain ⟨l1, l2⟩ := h l hl
  refine ⟨A1, B1, C1, D1, l1, fun i hi => ?_⟩
  obtain ⟨q0, e0⟩ := A2 i hi
  obtain ⟨q1, e1⟩ := B2 i hi
  obtain ⟨q2, e2⟩ := C2 i hi
  obtain ⟨q3, e3⟩ := D2 i hi
  obtain ⟨q, e⟩ := l2 i hi
  obtain ⟨x, ex⟩ := H (j i) (hj i hi)
  obtain ⟨y, ey⟩ := H (k i) (hk i hi)
  refine ⟨q + α i * x + β i * y - s0 * q0 - s1 * q1 - s2 * q2 - s3 * q3, ?_⟩
  rw [e, e0, e1, e2, e3, ex, ey]
  exact wm_ring ..
theorem wm_lin_id : wm_LIN (fun l => l) := fun _ _ _ _ _ _ _ _ _ h => h
theorem wm_lin_comp {f g : List Nat → List Nat} (hf : wm_LIN f) (hg : wm_LIN g) : wm_LIN (fun l => g (f l)) := fun _ _ _ _ _ _ _ _ _ h => hg _ _ _ _ _ _ _ _ _ (hf _ _ _ _ _ _ _ _ _ h)
theorem wm_lin_sw {k : Nat} (hk : k < 64) : wm_LIN (wm_sw k) := by
  by_cases c : k < wm_rb k
  · have hr := wm_rb_lt k
    refine wm_lin_of (fun _ => 1) (fun _ => 0) (fun i => if i = wm_rb k then k else if i = k then wm_rb k else i) (fun i => i) (fun i hi => ?_) (fun i hi => hi) (fun l hl => ?_)
    · split
      · exact hk
      · split
        · exact hr
        · exact hi
    · unfold wm_sw
      rw [if_pos c]
      refine ⟨by rw [List.length_set, List.length_set, hl], fun i hi => ⟨0, ?_⟩⟩
      rw [wm_g_set (by rw [List.length_set, hl]; exact hr), wm_g_set (by rw [hl]; exact hk)]
      split
      · omega
      · split
        · omega
        · omega
  · have e : wm_sw k = fun l => l := by
      funext l
      unfold wm_sw
      rw [if_neg c]
    rw [e]
    exact wm_lin_id
theorem wm_lin_bv : ∀ k, k ≤ 64 → wm_LIN (wm_bv k)
  | 0, _ => wm_lin_id
  | k + 1, h => wm_lin_comp (f := wm_bv k) (g := wm_sw k) (wm_lin_bv k (by omega)) (wm_lin_sw (by omega))
theorem wm_num1 (a b r : Nat) : ∃ q : Int, (((a + b * r % 7681) % 7681 : Nat) : Int) = 1 * a + (r : Int) * b + 7681 * q := by
  refine ⟨-((b * r / 7681 : Nat) : Int) - (((a + b * r % 7681) / 7681 : Nat) : Int), ?_⟩
  have e : (r : Int) * b = ((b * r : Nat) : Int) := by rw [Int.natCast_mul, Int.mul_comm]
  rw [e]
  generalize b * r = z
  omega
theorem wm_num2 (a b r : Nat) : ∃ q : Int, (((a + 7681 - b * r % 7681) % 7681 : Nat) : Int) = 1 * a + (-(r : Int)) * b + 7681 * q := by
  refine ⟨((b * r / 7681 : Nat) : Int) + 1 - (((a + 7681 - b * r % 7681) / 7681 : Nat) : Int), ?_⟩
  have e : (-(r : Int)) * b = -((b * r : Nat) : Int) := by rw [Int.natCast_mul, Int.mul_comm (b : Int), Int.neg_mul]
  rw [e]
  generalize b * r = z
  omega
theorem wm_num3 (b : Nat) : ∃ q : Int, ((b * 7561 % 7681 : Nat) : Int) = 7561 * b + 0 * b + 7681 * q := ⟨-((b * 7561 / 7681 : Nat) : Int), by omega⟩
theorem wm_lin_bf {lo hi : Nat} (r : Nat) (h1 : lo < 64) (h2 : hi < 64) : wm_LIN (wm_bf lo hi r) := by
  refine wm_lin_of (fun _ => 1) (fun i => if i = hi then -(r : Int) else if i = lo then (r : Int) else 0) (fun i => if i = hi then lo else if i = lo then lo else i) (fun _ => hi) (fun i hi => ?_) (fun i _ => h2) (fun l hl => ?_)
  · split
    · exact h1
    · split
      · exact h1
      · exact hi
  · unfold wm_bf
    refine ⟨by rw [List.length_set, List.length_set, hl], fun i _ => ?_⟩
    rw [wm_g_set (by rw [List.length_set, hl]; exact h2), wm_g_set (by rw [hl]; exact h1)]
    by_cases c : i = hi
    · rw [if_pos c, if_pos c, if_pos c]
      exact wm_num2 _ _ _
    · rw [if_neg c, if_neg c, if_neg c]
      by_cases d : i = lo
      · rw [if_pos d, if_pos d, if_pos d]
        exact wm_num1 _ _ _
      · rw [if_neg d, if_neg d, if_neg d]
        exact ⟨0, by omega⟩
theorem wm_lin_st {b s : Nat} (hs : s < 6) : ∀ k, k ≤ 32 → wm_LIN (wm_st b s k)
  | 0, _ => wm_lin_id
  | k + 1, h => wm_lin_comp (f := wm_st b s k) (g := wm_bf (wm_lo s k) (wm_lo s k + 2 ^ s) (wm_rt (wm_pw b s k))) (wm_lin_st hs k (by omega)) (wm_lin_bf _ (Nat.lt_of_le_of_lt (Nat.le_add_right _ _) (wm_ix s hs k (by omega)).1) (wm_ix s hs k (by omega)).1)
theorem wm_lin_al {b : Nat} : ∀ s, s ≤ 6 → wm_LIN (wm_al b s)
  | 0, _ => wm_lin_id
  | s + 1, h => wm_lin_comp (f := wm_al b s) (g := wm_st b s 32) (wm_lin_al s (by omega)) (wm_lin_st (by omega) 32 (by omega))
theorem wm_lin_d1 {k : Nat} (hk : k < 64) : wm_LIN (fun l => l.set k (wm_g l k * 7561 % 7681)) := by
  refine wm_lin_of (fun i => if i = k then 7561 else 1) (fun _ => 0) (fun i => i) (fun i => i) (fun i hi => hi) (fun i hi => hi) (fun l hl => ?_)
  refine ⟨by rw [List.length_set, hl], fun i _ => ?_⟩
  rw [wm_g_set (by rw [hl]; exact hk)]
  by_cases c : i = k
  · rw [if_pos c, if_pos c, c]
    exact wm_num3 _
  · rw [if_neg c, if_neg c]
    exact ⟨0, by omega⟩
theorem wm_lin_dv : ∀ k, k ≤ 64 → wm_LIN (wm_dv k)
  | 0, _ => wm_lin_id
  | k + 1, h => wm_lin_comp (f := wm_dv k) (g := fun l => l.set k (wm_g l k * 7561 % 7681)) (wm_lin_dv k (by omega)) (wm_lin_d1 (k := k) (by omega))
theorem wm_lin_tf (b : Nat) : wm_LIN (wm_tf b) := by
  have h := wm_lin_comp (wm_lin_bv 64 (by omega)) (wm_lin_al (b := b) 6 (by omega))
  by_cases c : b = 0
  · have e : wm_tf b = fun l => wm_al b 6 (wm_bv 64 l) := by
      funext l
      unfold wm_tf wm_fin
      rw [if_pos c]
    rw [e]
    exact h
  · have e : wm_tf b = fun l => wm_dv 64 (wm_al b 6 (wm_bv 64 l)) := by
      funext l
      unfold wm_tf wm_fin
      rw [if_neg c]
    rw [e]
    exact wm_lin_comp h (wm_lin_dv 64 (by omega))
/-! the same function, made so that a kernel evaluates each list before it goes on -/
def wm_fr {α : Type} : List Nat → (List Nat → α) → α
  | [], k => k []
  | a :: l, k => match a with
    | 0 => wm_fr l (fun t => k (0 :: t))
    | n + 1 => wm_fr l (fun t => k ((n + 1) :: t))
theorem wm_fr_eq {α : Type} (l : List Nat) : ∀ k : List Nat → α, wm_fr l k = k l := by
  induction l with
  | nil => exact fun k => rfl
  | cons a l ih =>
    intro k
    cases a with
    | zero => exact ih _
    | succ n => exact ih _
def wm_bvE : Nat → List Nat → List Nat
  | 0, l => l
  | k + 1, l => wm_fr (wm_bvE k l) (wm_sw k)
def wm_stE (b s : Nat) : Nat → List Nat → List Nat
  | 0, l => l
  | k + 1, l => wm_fr (wm_stE b s k l) (wm_bf (wm_lo s k) (wm_lo s k + 2 ^ s) (wm_rt (wm_pw b s k)))
def wm_alE (b : Nat) : Nat → List Nat → List Nat
  | 0, l => l
  | s + 1, l => wm_fr (wm_alE b s l) (wm_stE b s 32)
def wm_dvE : Nat → List Nat → List Nat
  | 0, l => l
  | k + 1, l => wm_fr (wm_dvE k l) (fun t => t.set k (wm_g t k * 7561 % 7681))
theorem wm_bvE_eq : ∀ k l, wm_bvE k l = wm_bv k l
  | 0, _ => rfl
  | k + 1, l => by
    show wm_fr (wm_bvE k l) (wm_sw k) = wm_sw k (wm_bv k l)
    rw [wm_fr_eq, wm_bvE_eq k l]
theorem wm_stE_eq (b s : Nat) : ∀ k l, wm_stE b s k l = wm_st b s k l
  | 0, _ => rfl
  | k + 1, l => by
    show wm_fr (wm_stE b s k l) (wm_bf (wm_lo s k) (wm_lo s k + 2 ^ s) (wm_rt (wm_pw b s k))) = wm_bf (wm_lo s k) (wm_lo s k + 2 ^ s) (wm_rt (wm_pw b s k)) (wm_st b s k l)
    rw [wm_fr_eq, wm_stE_eq b s k l]
theorem wm_alE_eq (b : Nat) : ∀ s l, wm_alE b s l = wm_al b s l
  | 0, _ => rfl
  | s + 1, l => by
    show wm_fr (wm_alE b s l) (wm_stE b s 32) = wm_st b s 32 (wm_al b s l)
    rw [wm_fr_eq, wm_stE_eq, wm_alE_eq b s l]
theorem wm_dvE_eq : ∀ k l, wm_dvE k l = wm_dv k l
  | 0, _ => rfl
  | k + 1, l => by
    show wm_fr (wm_dvE k l) (fun t => t.set k (wm_g t k * 7561 % 7681)) = (wm_dv k l).set k (wm_g (wm_dv k l) k * 7561 % 7681)
    rw [wm_fr_eq, wm_dvE_eq k l]
def wm_FE (l : List Nat) : List Nat := wm_fr (wm_bvE 64 l) (wm_alE 0 6)
def wm_BE (l : List Nat) : List Nat := wm_fr (wm_bvE 64 l) (fun t => wm_fr (wm_alE 1 6 t) (wm_dvE 64))
theorem wm_FE_eq (l : List Nat) : wm_FE l = wm_tf 0 l := by
  show wm_FE l = wm_al 0 6 (wm_bv 64 l)
  unfold wm_FE
  rw [wm_fr_eq, wm_alE_eq, wm_bvE_eq]
theorem wm_BE_eq (l : List Nat) : wm_BE l = wm_tf 1 l := by
  show wm_BE l = wm_dv 64 (wm_al 1 6 (wm_bv 64 l))
  unfold wm_BE
  rw [wm_fr_eq, wm_fr_eq, wm_dvE_eq, wm_alE_eq, wm_bvE_eq]
def wm_e0 : List Nat := [1, 0, 0, 0, 0, 0, 0, 0, 0, 0, 0, 0, 0, 0, 0, 0, 0, 0, 0, 0, 0, 0, 0, 0, 0, 0, 0, 0, 0, 0, 0, 0, 0, 0, 0, 0, 0, 0, 0, 0, 0, 0, 0, 0, 0, 0, 0, 0, 0, 0, 0, 0, 0, 0, 0, 0, 0, 0, 0, 0, 0, 0, 0, 0]
def wm_E0 : List Nat := [1, 1, 1, 1, 1, 1, 1, 1, 1, 1, 1, 1, 1, 1, 1, 1, 1, 1, 1, 1, 1, 1, 1, 1, 1, 1, 1, 1, 1, 1, 1, 1, 1, 1, 1, 1, 1, 1, 1, 1, 1, 1, 1, 1, 1, 1, 1, 1, 1, 1, 1, 1, 1, 1, 1, 1, 1, 1, 1, 1, 1, 1, 1, 1]
def wm_e1 : List Nat := [0, 1, 0, 0, 0, 0, 0, 0, 0, 0, 0, 0, 0, 0, 0, 0, 0, 0, 0, 0, 0, 0, 0, 0, 0, 0, 0, 0, 0, 0, 0, 0, 0, 0, 0, 0, 0, 0, 0, 0, 0, 0, 0, 0, 0, 0, 0, 0, 0, 0, 0, 0, 0, 0, 0, 0, 0, 0, 0, 0, 0, 0, 0, 0]
def wm_E1 : List Nat := [1, 5413, 5235, 1846, 7098, 1112, 5033, 6803, 1925, 4589, 7584, 4928, 6832, 5282, 2784, 7351, 3383, 675, 5300, 365, 1728, 5887, 5543, 2273, 6468, 1286, 2132, 3654, 527, 3000, 1366, 5036, 7680, 2268, 2446, 5835, 583, 6569, 2648, 878, 5756, 3092, 97, 2753, 849, 2399, 4897, 330, 4298, 7006, 2381, 7316, 5953, 1794, 2138, 5408, 1213, 6395, 5549, 4027, 7154, 4681, 6315, 2645]
def wm_e2 : List Nat := [0, 0, 1, 0, 0, 0, 0, 0, 0, 0, 0, 0, 0, 0, 0, 0, 0, 0, 0, 0, 0, 0, 0, 0, 0, 0, 0, 0, 0, 0, 0, 0, 0, 0, 0, 0, 0, 0, 0, 0, 0, 0, 0, 0, 0, 0, 0, 0, 0, 0, 0, 0, 0, 0, 0, 0, 0, 0, 0, 0, 0, 0, 0, 0]
def wm_E2 : List Nat := [1, 5235, 7098, 5033, 1925, 7584, 6832, 2784, 3383, 5300, 1728, 5543, 6468, 2132, 527, 1366, 7680, 2446, 583, 2648, 5756, 97, 849, 4897, 4298, 2381, 5953, 2138, 1213, 5549, 7154, 6315, 1, 5235, 7098, 5033, 1925, 7584, 6832, 2784, 3383, 5300, 1728, 5543, 6468, 2132, 527, 1366, 7680, 2446, 583, 2648, 5756, 97, 849, 4897, 4298, 2381, 5953, 2138, 1213, 5549, 7154, 6315]
def wm_e3 : List Nat := [0, 0, 0, 1, 0, 0, 0, 0, 0, 0, 0, 0, 0, 0, 0, 0, 0, 0, 0, 0, 0, 0, 0, 0, 0, 0, 0, 0, 0, 0, 0, 0, 0, 0, 0, 0, 0, 0, 0, 0, 0, 0, 0, 0, 0, 0, 0, 0, 0, 0, 0, 0, 0, 0, 0, 0, 0, 0, 0, 0, 0, 0, 0, 0]
def wm_E3 : List Nat := [1, 1846, 5033, 4589, 6832, 7351, 5300, 5887, 6468, 3654, 1366, 2268, 583, 878, 97, 2399, 4298, 7316, 2138, 6395, 7154, 2645, 5235, 1112, 1925, 4928, 2784, 675, 1728, 2273, 2132, 3000, 7680, 5835, 2648, 3092, 849, 330, 2381, 1794, 1213, 4027, 6315, 5413, 7098, 6803, 7584, 5282, 3383, 365, 5543, 1286, 527, 5036, 2446, 6569, 5756, 2753, 4897, 7006, 5953, 5408, 5549, 4681]
theorem wm_fE0 : wm_FE wm_e0 = wm_E0 := by decide +kernel
theorem wm_fE1 : wm_FE wm_e1 = wm_E1 := by decide +kernel
theorem wm_fE2 : wm_FE wm_e2 = wm_E2 := by decide +kernel
theorem wm_fE3 : wm_FE wm_e3 = wm_E3 := by decide +kernel
theorem wm_bE0 : wm_BE wm_E0 = wm_e0 := by decide +kernel
theorem wm_bE1 : wm_BE wm_E1 = wm_e1 := by decide +kernel
theorem wm_bE2 : wm_BE wm_E2 = wm_e2 := by decide +kernel
theorem wm_bE3 : wm_BE wm_E3 = wm_e3 := by decide +kernel
theorem wm_len : wm_e0.length = 64 ∧ wm_e1.length = 64 ∧ wm_e2.length = 64 ∧ wm_e3.length = 64 ∧ wm_E0.length = 64 ∧ wm_E1.length = 64 ∧ wm_E2.length = 64 ∧ wm_E3.length = 64 := by decide +kernel
theorem wm_ge0 : ∀ i, i < 64 → wm_g wm_e0 i = if i = 0 then 1 else 0 := by decide +kernel
theorem wm_ge1 : ∀ i, i < 64 → wm_g wm_e1 i = if i = 1 then 1 else 0 := by decide +kernel
theorem wm_ge2 : ∀ i, i < 64 → wm_g wm_e2 i = if i = 2 then 1 else 0 := by decide +kernel
theorem wm_ge3 : ∀ i, i < 64 → wm_g wm_e3 i = if i = 3 then 1 else 0 := by decide +kernel
theorem wm_gE : ∀ i, i < 64 → wm_g wm_E0 i = 1 ∧ wm_g wm_E1 i * wm_g wm_E1 i = wm_g wm_E2 i + 7681 * (wm_g wm_E1 i * wm_g wm_E1 i / 7681) ∧ wm_g wm_E1 i * wm_g wm_E2 i = wm_g wm_E3 i + 7681 * (wm_g wm_E1 i * wm_g wm_E2 i / 7681) := by decide +kernel
/-- forward: a sequence of three places -/
theorem wm_fwd {l : List Nat} (a b c : Nat) (hl : l.length = 64) (h : ∀ i, i < 64 → wm_g l i = if i = 0 then a else if i = 1 then b else if i = 2 then c else 0) :
    ∀ i, i < 64 → ∃ q : Int, (wm_g (wm_tf 0 l) i : Int) = a + b * wm_g wm_E1 i + c * wm_g wm_E2 i + 7681 * q := by
  have L : wm_LC a b c 0 wm_e0 wm_e1 wm_e2 wm_e3 l := by
    refine ⟨wm_len.1, wm_len.2.1, wm_len.2.2.1, wm_len.2.2.2.1, hl, fun i hi => ⟨0, ?_⟩⟩
    rw [h i hi, wm_ge0 i hi, wm_ge1 i hi, wm_ge2 i hi]
    by_cases c0 : i = 0
    · subst c0
      simp
    · by_cases c1 : i = 1
      · subst c1
        simp
      · by_cases c2 : i = 2
        · subst c2
          simp
        · simp [c0, c1, c2]
  have M := wm_lin_tf 0 _ _ _ _ _ _ _ _ _ L
  rw [← wm_FE_eq wm_e0, ← wm_FE_eq wm_e1, ← wm_FE_eq wm_e2, ← wm_FE_eq wm_e3, wm_fE0, wm_fE1, wm_fE2, wm_fE3] at M
  intro i hi
  obtain ⟨q, e⟩ := M.2.2.2.2.2 i hi
  refine ⟨q, ?_⟩
  rw [e, (wm_gE i hi).1]
  simp
/-- back: the coefficients -/
theorem wm_bwd {l : List Nat} (s0 s1 s2 s3 : Nat) (h : wm_LC s0 s1 s2 s3 wm_E0 wm_E1 wm_E2 wm_E3 l) :
    (∃ q : Int, (wm_g (wm_tf 1 l) 0 : Int) = s0 + 7681 * q) ∧ (∃ q : Int, (wm_g (wm_tf 1 l) 1 : Int) = s1 + 7681 * q) ∧ (∃ q : Int, (wm_g (wm_tf 1 l) 2 : Int) = s2 + 7681 * q) ∧ (∃ q : Int, (wm_g (wm_tf 1 l) 3 : Int) = s3 + 7681 * q) := by
  have M := wm_lin_tf 1 _ _ _ _ _ _ _ _ _ h
  rw [← wm_BE_eq wm_E0, ← wm_BE_eq wm_E1, ← wm_BE_eq wm_E2, ← wm_BE_eq wm_E3, wm_bE0, wm_bE1, wm_bE2, wm_bE3] at M
  have N := M.2.2.2.2.2
  refine ⟨?_, ?_, ?_, ?_⟩
  · obtain ⟨q, e⟩ := N 0 (by decide)
    rw [wm_ge0 0 (by decide), wm_ge1 0 (by decide), wm_ge2 0 (by decide), wm_ge3 0 (by decide)] at e
    exact ⟨q, by simpa using e⟩
  · obtain ⟨q, e⟩ := N 1 (by decide)
    rw [wm_ge0 1 (by decide), wm_ge1 1 (by decide), wm_ge2 1 (by decide), wm_ge3 1 (by decide)] at e
    exact ⟨q, by simpa using e⟩
  · obtain ⟨q, e⟩ := N 2 (by decide)
    rw [wm_ge0 2 (by decide), wm_ge1 2 (by decide), wm_ge2 2 (by decide), wm_ge3 2 (by decide)] at e
    exact ⟨q, by simpa using e⟩
  · obtain ⟨q, e⟩ := N 3 (by decide)
    rw [wm_ge0 3 (by decide), wm_ge1 3 (by decide), wm_ge2 3 (by decide), wm_ge3 3 (by decide)] at e
    exact ⟨q, by simpa using e⟩
theorem wm_ringP (P0 P1 T0 T1 T2 f E1 E2 E3 q1 q2 q3 u v s0 s1 s2 s3 k1 k2 k3 x y z m n w : Int)
    (hx : x = P0 + P1 * E1 + 7681 * q1) (hy : y = T0 + T1 * E1 + T2 * E2 + 7681 * q2) (hz : z = s0 + s1 * E1 + s2 * E2 + s3 * E3 + 7681 * q3)
    (h2 : E2 = E1 * E1 - 7681 * u) (h3 : E3 = E1 * E2 - 7681 * v) (hm : m = x * y - 7681 * k1) (hn : n = m * f - 7681 * k2) (hw : w = z + n - 7681 * k3) :
    w = (s0 + f * (P0 * T0)) + (s1 + f * (P0 * T1 + P1 * T0)) * E1 + (s2 + f * (P0 * T2 + P1 * T1)) * E2 + (s3 + f * (P1 * T2)) * E3
      + 7681 * (q3 + f * ((P0 + P1 * E1) * q2 + q1 * (T0 + T1 * E1 + T2 * E2) + 7681 * (q1 * q2) + P1 * T1 * u + P1 * T2 * v - k1) - k2 - k3) := by
  subst hw hn hm hx hy hz h3 h2
  grind
/-- one product more in the sum -/
theorem wm_prod (P0 P1 T0 T1 T2 f s0 s1 s2 s3 x y z i : Nat) (hi : i < 64)
    (hx : ∃ q : Int, (x : Int) = P0 + P1 * wm_g wm_E1 i + (0 : Nat) * wm_g wm_E2 i + 7681 * q) (hy : ∃ q : Int, (y : Int) = T0 + T1 * wm_g wm_E1 i + T2 * wm_g wm_E2 i + 7681 * q)
    (hz : ∃ q : Int, (z : Int) = s0 + s1 * wm_g wm_E1 i + s2 * wm_g wm_E2 i + s3 * wm_g wm_E3 i + 7681 * q) :
    ∃ q : Int, (((z + x * y % 7681 * f % 7681) % 7681 : Nat) : Int) = (s0 + f * (P0 * T0) : Nat) + (s1 + f * (P0 * T1 + P1 * T0) : Nat) * wm_g wm_E1 i + (s2 + f * (P0 * T2 + P1 * T1) : Nat) * wm_g wm_E2 i + (s3 + f * (P1 * T2) : Nat) * wm_g wm_E3 i + 7681 * q := by
  obtain ⟨q1, hx⟩ := hx
  obtain ⟨q2, hy⟩ := hy
  obtain ⟨q3, hz⟩ := hz
  obtain ⟨_, h2, h3⟩ := wm_gE i hi
  have e2 : (wm_g wm_E2 i : Int) = wm_g wm_E1 i * wm_g wm_E1 i - 7681 * ((wm_g wm_E1 i * wm_g wm_E1 i / 7681 : Nat) : Int) := by
    rw [← Int.natCast_mul]
    omega
  have e3 : (wm_g wm_E3 i : Int) = wm_g wm_E1 i * wm_g wm_E2 i - 7681 * ((wm_g wm_E1 i * wm_g wm_E2 i / 7681 : Nat) : Int) := by
    rw [← Int.natCast_mul]
    omega
  have em : ((x * y % 7681 : Nat) : Int) = (x : Int) * y - 7681 * ((x * y / 7681 : Nat) : Int) := by
    rw [← Int.natCast_mul]
    omega
  have en : ((x * y % 7681 * f % 7681 : Nat) : Int) = ((x * y % 7681 : Nat) : Int) * f - 7681 * ((x * y % 7681 * f / 7681 : Nat) : Int) := by
    rw [← Int.natCast_mul]
    omega
  have ew : (((z + x * y % 7681 * f % 7681) % 7681 : Nat) : Int) = (z : Int) + ((x * y % 7681 * f % 7681 : Nat) : Int) - 7681 * (((z + x * y % 7681 * f % 7681) / 7681 : Nat) : Int) := by
    omega
  have hx' : (x : Int) = P0 + P1 * wm_g wm_E1 i + 7681 * q1 := by
    rw [hx]
    simp
  have K := wm_ringP P0 P1 T0 T1 T2 f _ _ _ q1 q2 q3 _ _ s0 s1 s2 s3 _ _ _ _ _ _ _ _ _ hx' hy hz e2 e3 em en ew
  simp only [Int.natCast_add, Int.natCast_mul]
  exact ⟨_, K⟩
end
section
/-! the walk of the transform -/
def wm_R (o : Nat) (a : Nat → Int32) (l : List Nat) : Prop := l.length = 64 ∧ ∀ i, i < 64 → wm_g l i < 7681 ∧ a (o + i) = nI (wm_g l i)
def wm_Fr (o : Nat) (a a' : Nat → Int32) : Prop := ∀ j, (j < o ∨ o + 64 ≤ j) → a' j = a j
def wm_Rt (a : Nat → Int32) : Prop := ∀ i, i < 64 → a i = nI (wm_rt i)
theorem wm_R_set {o : Nat} {a : Nat → Int32} {l : List Nat} (h : wm_R o a l) {i v : Nat} (hi : i < 64) (hv : v < 7681) : wm_R o (upd a (o + i) (nI v)) (l.set i v) := by
  refine ⟨by rw [List.length_set]; exact h.1, fun j hj => ?_⟩
  rw [wm_g_set (by rw [h.1]; exact hi)]
  by_cases e : j = i
  · rw [if_pos e, e, pk_us]
    exact ⟨hv, rfl⟩
  · rw [if_neg e, pk_un (by omega)]
    exact h.2 j hj
theorem wm_Fr_0 {o : Nat} {a : Nat → Int32} : wm_Fr o a a := fun _ _ => rfl
theorem wm_Fr_set {o : Nat} {a a' : Nat → Int32} (h : wm_Fr o a a') {i : Nat} (hi : i < 64) (x : Int32) : wm_Fr o a (upd a' (o + i) x) := by
  intro j hj
  rw [pk_un (by omega)]
  exact h j hj
theorem wm_Fr_tr {o : Nat} {a b c : Nat → Int32} (h : wm_Fr o a b) (h' : wm_Fr o b c) : wm_Fr o a c := fun j hj => (h' j hj).trans (h j hj)
theorem wm_R_fr {o o' : Nat} {a a' : Nat → Int32} {l : List Nat} (h : wm_R o a l) (hf : wm_Fr o' a a') (hd : o + 64 ≤ o' ∨ o' + 64 ≤ o) : wm_R o a' l :=
  ⟨h.1, fun i hi => ⟨(h.2 i hi).1, (hf _ (by omega)).trans (h.2 i hi).2⟩⟩
theorem wm_md {x : Nat} (hx : x < 2 ^ 31) : nI x - nI x / 7681 * 7681 = nI (x % 7681) := pk_rem (d := 7681) hx (by decide) (by decide)
theorem wm_mulb {x y : Nat} (hx : x < 7681) (hy : y < 7681) : x * y < 2 ^ 31 := Nat.lt_of_le_of_lt (Nat.mul_le_mul (Nat.le_of_lt_succ hx) (Nat.le_of_lt_succ hy)) (by decide)
theorem wm_butterfly {post : St2 → Prop} {f0 f1 f2 : Int32} {a1 a2 a3 a4 a5 a6 : Nat → Int32} {o lo hi q : Nat} {l : List Nat} (ho : o + 64 ≤ 192) (h1 : lo < 64) (h2 : hi < 64) (hq : q < 64) (h3 : wm_Rt a3) (h : wm_R o a4 l)
    (H : ∀ a, wm_R o a (wm_bf lo hi (wm_rt q) l) → wm_Fr o a4 a → post (f0, f1, f2, a1, a2, a3, a, a5, a6)) : wpX_butterfly post (f0, f1, f2, a1, a2, a3, a4, a5, a6) (nI (o + lo)) (nI (o + hi)) (nI q) := by
  have c1 : (nI (o + lo)).toNatClampNeg = o + lo := nI_clamp (by omega)
  have c2 : (nI (o + hi)).toNatClampNeg = o + hi := nI_clamp (by omega)
  have c3 : (nI q).toNatClampNeg = q := nI_clamp (by omega)
  have b1 := (h.2 lo h1).1
  have b2 := (h.2 hi h2).1
  have b3 := wm_rt_lt q
  have e1 : a4 (nI (o + lo)).toNatClampNeg = nI (wm_g l lo) := by rw [c1]; exact (h.2 lo h1).2
  have e2 : a4 (nI (o + hi)).toNatClampNeg = nI (wm_g l hi) := by rw [c2]; exact (h.2 hi h2).2
  have e3 : a3 (nI q).toNatClampNeg = nI (wm_rt q) := by rw [c3]; exact h3 q hq
  have b4 := wm_mulb b2 b3
  have b5 : wm_g l hi * wm_rt q % 7681 < 7681 := Nat.mod_lt _ (by decide)
  have e4 : (a4 (nI (o + hi)).toNatClampNeg * a3 (nI q).toNatClampNeg) - (a4 (nI (o + hi)).toNatClampNeg * a3 (nI q).toNatClampNeg) / 7681 * 7681 = nI (wm_g l hi * wm_rt q % 7681) := by
    rw [e2, e3, pk_mul]
    exact wm_md b4
  have e5 : (nI (wm_g l lo) + nI (wm_g l hi * wm_rt q % 7681)) - (nI (wm_g l lo) + nI (wm_g l hi * wm_rt q % 7681)) / 7681 * 7681 = nI ((wm_g l lo + wm_g l hi * wm_rt q % 7681) % 7681) := by
    rw [nI_add]
    exact wm_md (by omega)
  have e6 : ((nI (wm_g l lo) + 7681) - nI (wm_g l hi * wm_rt q % 7681)) - ((nI (wm_g l lo) + 7681) - nI (wm_g l hi * wm_rt q % 7681)) / 7681 * 7681 = nI ((wm_g l lo + 7681 - wm_g l hi * wm_rt q % 7681) % 7681) := by
    have t : (nI (wm_g l lo) + 7681) - nI (wm_g l hi * wm_rt q % 7681) = nI (wm_g l lo + 7681 - wm_g l hi * wm_rt q % 7681) := by
      rw [show nI (wm_g l lo) + 7681 = nI (wm_g l lo + 7681) from nI_add _ 7681, pk_sub (by omega)]
    rw [t]
    exact wm_md (by omega)
  have u1 : upd a4 (nI (o + lo)).toNatClampNeg ((nI (wm_g l lo) + nI (wm_g l hi * wm_rt q % 7681)) - (nI (wm_g l lo) + nI (wm_g l hi * wm_rt q % 7681)) / 7681 * 7681) = upd a4 (o + lo) (nI ((wm_g l lo + wm_g l hi * wm_rt q % 7681) % 7681)) := by rw [c1, e5]
  have u2 : ∀ a, upd a (nI (o + hi)).toNatClampNeg (((nI (wm_g l lo) + 7681) - nI (wm_g l hi * wm_rt q % 7681)) - ((nI (wm_g l lo) + 7681) - nI (wm_g l hi * wm_rt q % 7681)) / 7681 * 7681) = upd a (o + hi) (nI ((wm_g l lo + 7681 - wm_g l hi * wm_rt q % 7681) % 7681)) := fun a => by rw [c2, e6]
  have K := H (upd (upd a4 (o + lo) (nI ((wm_g l lo + wm_g l hi * wm_rt q % 7681) % 7681))) (o + hi) (nI ((wm_g l lo + 7681 - wm_g l hi * wm_rt q % 7681) % 7681))) (wm_R_set (wm_R_set h h1 (Nat.mod_lt _ (by decide))) h2 (Nat.mod_lt _ (by decide))) (wm_Fr_set (wm_Fr_set wm_Fr_0 h1 _) h2 _)
  have d : ¬ (7681 : Int32) = 0 := by decide
  exact And.intro (pk_in (o + lo) 192 (by omega)) (nm_r e1 (And.intro (pk_in (o + hi) 192 (by omega)) (And.intro (pk_in q 64 hq) (And.intro d (nm_r e4 (And.intro d (And.intro (pk_in (o + lo) 192 (by omega)) (nm_r u1 (And.intro d (And.intro (pk_in (o + hi) 192 (by omega)) (nm_r (u2 _) K)))))))))))
theorem wm_tb : ∀ k, k < 64 → (((((((0 : Int32) ||| (((nI k >>> ((0 : Int32) &&& 31)) &&& 1) <<< (((5 : Int32) - 0) &&& 31))) ||| (((nI k >>> ((1 : Int32) &&& 31)) &&& 1) <<< (((5 : Int32) - 1) &&& 31))) ||| (((nI k >>> ((2 : Int32) &&& 31)) &&& 1) <<< (((5 : Int32) - 2) &&& 31))) ||| (((nI k >>> ((3 : Int32) &&& 31)) &&& 1) <<< (((5 : Int32) - 3) &&& 31))) ||| (((nI k >>> ((4 : Int32) &&& 31)) &&& 1) <<< (((5 : Int32) - 4) &&& 31))) ||| (((nI k >>> ((5 : Int32) &&& 31)) &&& 1) <<< (((5 : Int32) - 5) &&& 31))) = nI (wm_rb k) := by decide +kernel
theorem wm_turned {post : Int32 → Prop} {f0 f1 f2 : Int32} {a1 a2 a3 a4 a5 a6 : Nat → Int32} {k : Nat} (hk : k < 64) (H : post (nI (wm_rb k))) : wpX_turnedBits post (f0, f1, f2, a1, a2, a3, a4, a5, a6) (nI k) := by
  rw [← wm_tb k hk] at H
  exact ⟨7, br_f (by decide) (nm_e (nm_r (e' := 1) (by decide) (br_f (by decide) (nm_e (nm_r (e' := 2) (by decide) (br_f (by decide) (nm_e (nm_r (e' := 3) (by decide) (br_f (by decide) (nm_e (nm_r (e' := 4) (by decide) (br_f (by decide) (nm_e (nm_r (e' := 5) (by decide) (br_f (by decide) (nm_e (nm_r (e' := 6) (by decide) (br_t (by decide) H))))))))))))))))))⟩
theorem wm_pow {s : Nat} (hs : s < 6) : 1 ≤ 2 ^ s ∧ 2 ^ s ≤ 32 := ⟨Nat.pos_of_ne_zero (by have := Nat.pow_pos (n := s) (show 0 < 2 by decide); omega), Nat.pow_le_pow_right (n := 2) (by decide) (show s ≤ 5 by omega)⟩
theorem wm_t79 {post : St2 → Prop} {J : Int32 → Int32 → Int32 → Int32 → (Nat → Int32) → (Nat → Int32) → (Nat → Int32) → (Nat → Int32) → (Nat → Int32) → (Nat → Int32) → Prop} {f0 f1 f2 : Int32} {a1 a2 a3 a4 a5 a6 : Nat → Int32} {o b s : Nat} {l : List Nat} (ho : o + 64 ≤ 192) (hb : b < 2) (hs : s < 6) (h3 : wm_Rt a3) (h : wm_R o a4 l)
    (H : ∀ a, wm_R o a (wm_st b s 32 l) → wm_Fr o a4 a → J (nI (2 ^ (s + 1))) f0 f1 f2 a1 a2 a3 a a5 a6) : ∃ n, wX_transform_79 post J (nI o) (nI b) (nI (2 ^ s)) n 0 f0 f1 f2 a1 a2 a3 a4 a5 a6 := by
  obtain ⟨p1, p2⟩ := wm_pow hs
  refine pk_loop (fun n i a => wX_transform_79 post J (nI o) (nI b) (nI (2 ^ s)) n (nI i) f0 f1 f2 a1 a2 a3 a a5 a6) (fun i a => wm_R o a (wm_st b s i l) ∧ wm_Fr o a4 a) 32 0 a4 (by omega) ⟨h, wm_Fr_0⟩ (fun n a ha => ?_) (fun n i a hi ha hw => ?_)
  · exact pk_le 32 32 (fun _ => nm_r (e' := nI (2 ^ (s + 1))) ((pk_mul (2 ^ s) 2).trans (congrArg nI (Nat.pow_succ (m := s) (n := 2)).symm)) (H a ha.1 ha.2)) (fun z => absurd z (by omega))
  · obtain ⟨i1, i2⟩ := wm_ix s hs i hi
    have n0 : ¬ nI (2 ^ s) = 0 := nI_ne0 (by omega) (by omega)
    have ed : nI i / nI (2 ^ s) = nI (i / 2 ^ s) := pk_div (by omega) (by omega) (by omega)
    have er : nI i - nI i / nI (2 ^ s) * nI (2 ^ s) = nI (i % 2 ^ s) := pk_rem (by omega) (by omega) (by omega)
    have el : (nI o + ((nI i / nI (2 ^ s)) * 2) * nI (2 ^ s)) + nI (i % 2 ^ s) = nI (o + wm_lo s i) := by
      rw [ed, show nI (i / 2 ^ s) * 2 = nI (i / 2 ^ s * 2) from pk_mul _ 2, pk_mul, nI_add, nI_add]
      exact congrArg nI (Nat.add_assoc _ _ _)
    have ep : nI (i % 2 ^ s) * (32 / nI (2 ^ s)) = nI (i % 2 ^ s * (32 / 2 ^ s)) := by
      rw [show (32 : Int32) / nI (2 ^ s) = nI (32 / 2 ^ s) from pk_div (a := 32) (by omega) (by omega) (by omega), pk_mul]
    have eh : nI (o + wm_lo s i) + nI (2 ^ s) = nI (o + (wm_lo s i + 2 ^ s)) := by
      rw [nI_add, Nat.add_assoc]
    have key : ∀ q, q < 64 → q = wm_pw b s i → wX_transform_142 post J (wX_transform_79 post J (nI o) (nI b) (nI (2 ^ s)) n) (nI o) (nI b) (nI (2 ^ s)) (nI i) (nI q) (nI (o + wm_lo s i) + nI (2 ^ s)) (nI (o + wm_lo s i)) f0 f1 f2 a1 a2 a3 a a5 a6 := by
      intro q hq eq
      rw [eh]
      refine wm_butterfly ho (by omega) i1 hq h3 ha.1 (fun a' g1 g2 => nm_r (nI_1 i) (hw a' ⟨?_, wm_Fr_tr ha.2 g2⟩))
      rw [eq] at g1
      exact g1
    refine pk_le 32 i (fun z => absurd z (by omega)) (fun _ => And.intro n0 (nm_r er (And.intro n0 (nm_r el (And.intro n0 (nm_r ep ?_))))))
    refine pk_eq b 0 (fun z => key _ i2 ?_) (fun z => pk_le (i % 2 ^ s * (32 / 2 ^ s)) 0 (fun z2 => key _ i2 ?_) (fun z2 => ?_))
    · unfold wm_pw
      rw [if_pos z]
    · unfold wm_pw
      rw [if_neg z, if_pos (by omega)]
    · rw [show (64 : Int32) - nI (i % 2 ^ s * (32 / 2 ^ s)) = nI (64 - i % 2 ^ s * (32 / 2 ^ s)) from pk_sub (a := 64) (by omega)]
      refine key _ (by omega) ?_
      unfold wm_pw
      rw [if_neg z, if_neg (by omega)]
theorem wm_divide {post : St2 → Prop} {f0 f1 f2 : Int32} {a1 a2 a3 a4 a5 a6 : Nat → Int32} {o : Nat} {l : List Nat} (ho : o + 64 ≤ 192) (h : wm_R o a4 l)
    (H : ∀ a, wm_R o a (wm_dv 64 l) → wm_Fr o a4 a → post (f0, f1, f2, a1, a2, a3, a, a5, a6)) : wpX_divideBySize post (f0, f1, f2, a1, a2, a3, a4, a5, a6) (nI o) := by
  refine pk_loop (fun n i a => wX_divideBySize_2 post (nI o) f0 f1 f2 n (nI i) a1 a2 a3 a a5 a6) (fun i a => wm_R o a (wm_dv i l) ∧ wm_Fr o a4 a) 64 0 a4 (by omega) ⟨h, wm_Fr_0⟩ (fun n a ha => ?_) (fun n i a hi ha hw => ?_)
  · exact pk_le 64 64 (fun _ => H a ha.1 ha.2) (fun z => absurd z (by omega))
  · have d : ¬ (7681 : Int32) = 0 := by decide
    obtain ⟨b1, e1⟩ := ha.1.2 i hi
    have eo : nI o + nI i = nI (o + i) := nI_add o i
    have u : upd a (nI o + nI i).toNatClampNeg ((a (nI o + nI i).toNatClampNeg * 7561) - (a (nI o + nI i).toNatClampNeg * 7561) / 7681 * 7681) = upd a (o + i) (nI (wm_g (wm_dv i l) i * 7561 % 7681)) := by
      rw [eo, nI_clamp (by omega), e1, show nI (wm_g (wm_dv i l) i) * 7561 = nI (wm_g (wm_dv i l) i * 7561) from pk_mul _ 7561, wm_md (by omega)]
    exact pk_le 64 i (fun z => absurd z (by omega)) (fun _ => And.intro (pk_in (o + i) 192 (by omega) eo) (And.intro d (And.intro (pk_in (o + i) 192 (by omega) eo) (nm_r u (nm_r (nI_1 i) (hw _ ⟨wm_R_set ha.1 hi (Nat.mod_lt _ (by decide)), wm_Fr_set ha.2 hi _⟩))))))
theorem wm_t70 {post : St2 → Prop} {f0 f1 f2 : Int32} {a1 a2 a3 a4 a5 a6 : Nat → Int32} {o b : Nat} {l : List Nat} (ho : o + 64 ≤ 192) (hb : b < 2) (h3 : wm_Rt a3) (h : wm_R o a4 l)
    (H : ∀ a, wm_R o a (wm_fin b (wm_al b 6 l)) → wm_Fr o a4 a → post (f0, f1, f2, a1, a2, a3, a, a5, a6)) : ∃ n, wX_transform_70 post (nI o) (nI b) n 1 f0 f1 f2 a1 a2 a3 a4 a5 a6 := by
  refine pk_loop (fun n s a => wX_transform_70 post (nI o) (nI b) n (nI (2 ^ s)) f0 f1 f2 a1 a2 a3 a a5 a6) (fun s a => wm_R o a (wm_al b s l) ∧ wm_Fr o a4 a) 6 0 a4 (by omega) ⟨h, wm_Fr_0⟩ (fun n a ha => ?_) (fun n s a hs ha hw => ?_)
  · refine pk_le 64 64 (fun _ => pk_eq b 0 (fun z => ?_) (fun z => ?_)) (fun z => absurd z (by omega))
    · refine H a ?_ ha.2
      unfold wm_fin
      rw [if_pos z]
      exact ha.1
    · refine wm_divide ho ha.1 (fun a' g1 g2 => H a' ?_ (wm_Fr_tr ha.2 g2))
      unfold wm_fin
      rw [if_neg z]
      exact g1
  · obtain ⟨p1, p2⟩ := wm_pow hs
    exact pk_le 64 (2 ^ s) (fun z => absurd z (by omega)) (fun _ => wm_t79 ho hb hs h3 ha.1 (fun a' g1 g2 => hw a' ⟨g1, wm_Fr_tr ha.2 g2⟩)) rfl rfl (by omega) (by omega)
theorem wm_transform {post : St2 → Prop} {f0 f1 f2 : Int32} {a1 a2 a3 a4 a5 a6 : Nat → Int32} {o b : Nat} {l : List Nat} (ho : o + 64 ≤ 192) (hb : b < 2) (h3 : wm_Rt a3) (h : wm_R o a4 l)
    (H : ∀ a, wm_R o a (wm_tf b l) → wm_Fr o a4 a → post (f0, f1, f2, a1, a2, a3, a, a5, a6)) : wpX_transform post (f0, f1, f2, a1, a2, a3, a4, a5, a6) (nI o) (nI b) := by
  refine pk_loop (fun n i a => wX_transform_2 post (nI o) (nI b) f0 f1 f2 n (nI i) a1 a2 a3 a a5 a6) (fun i a => wm_R o a (wm_bv i l) ∧ wm_Fr o a4 a) 64 0 a4 (by omega) ⟨h, wm_Fr_0⟩ (fun n a ha => ?_) (fun n i a hi ha hw => ?_)
  · exact pk_le 64 64 (fun _ => wm_t70 ho hb h3 ha.1 (fun a' g1 g2 => H a' g1 (wm_Fr_tr ha.2 g2))) (fun z => absurd z (by omega))
  · have hr := wm_rb_lt i
    refine pk_le 64 i (fun z => absurd z (by omega)) (fun _ => wm_turned hi (pk_lt i (wm_rb i) (fun z => ?_) (fun z => nm_r (nI_1 i) (hw a ⟨?_, ha.2⟩))))
    · have e1 : nI o + nI i = nI (o + i) := nI_add o i
      have e2 : nI o + nI (wm_rb i) = nI (o + wm_rb i) := nI_add o (wm_rb i)
      obtain ⟨b1, g1⟩ := ha.1.2 i hi
      obtain ⟨b2, g2⟩ := ha.1.2 (wm_rb i) hr
      have v1 : a (nI o + nI i).toNatClampNeg = nI (wm_g (wm_bv i l) i) := by rw [e1, nI_clamp (by omega), g1]
      have u1 : upd a (nI o + nI i).toNatClampNeg (a (nI o + nI (wm_rb i)).toNatClampNeg) = upd a (o + i) (nI (wm_g (wm_bv i l) (wm_rb i))) := by rw [e1, e2, nI_clamp (by omega), nI_clamp (by omega), g2]
      have u2 : ∀ a' x, upd a' (nI o + nI (wm_rb i)).toNatClampNeg x = upd a' (o + wm_rb i) x := fun a' x => by rw [e2, nI_clamp (by omega)]
      refine And.intro (pk_in (o + i) 192 (by omega) e1) (nm_r v1 (And.intro (pk_in (o + wm_rb i) 192 (by omega) e2) (And.intro (pk_in (o + i) 192 (by omega) e1) (nm_r u1 (And.intro (pk_in (o + wm_rb i) 192 (by omega) e2) (nm_r (u2 _ _) (nm_r (nI_1 i) (hw _ ⟨?_, wm_Fr_set (wm_Fr_set ha.2 hi _) hr _⟩))))))))
      show wm_R o _ (wm_sw i (wm_bv i l))
      unfold wm_sw
      rw [if_pos z]
      exact wm_R_set (wm_R_set ha.1 hi b2) hr b1
    · show wm_R o _ (wm_sw i (wm_bv i l))
      unfold wm_sw
      rw [if_neg (by omega)]
      exact ha.1
end
section
/-! measures, products, the sum -/
/-- 'how' measures a letter by f -/
def wm_ms (how : Int32) (f : Nat → Nat) : Prop := (∀ x, x < 5 → f x < 7681) ∧ ∀ (post : Int32 → Prop) (f0 f1 f2 : Int32) (a1 a2 a3 a4 a5 a6 : Nat → Int32) (x : Nat), x < 5 → post (nI (f x)) → wpX_measure post (f0, f1, f2, a1, a2, a3, a4, a5, a6) (nI x) how
def wm_mp (h x : Nat) : Nat := if x = 0 then 0 else x ^ h
def wm_me (c x : Nat) : Nat := if x = c then 1 else 0
theorem wm_mp_lt : ∀ h, h < 4 → ∀ x, x < 5 → wm_mp h x < 7681 := by decide +kernel
theorem wm_ms_p {h : Nat} (hh : h < 4) : wm_ms (nI h) (wm_mp h) := by
  refine ⟨wm_mp_lt h hh, fun post f0 f1 f2 a1 a2 a3 a4 a5 a6 x hx H => ?_⟩
  refine br_t (nI_pos' (by omega)) (pk_eq x 0 (fun z => ?_) (fun z => ?_))
  · rw [show wm_mp h x = 0 by unfold wm_mp; rw [if_pos z]] at H
    exact H
  · rw [show wm_mp h x = x ^ h by unfold wm_mp; rw [if_neg z]] at H
    refine pk_loop (σ := Int32) (fun n i s => wX_measure_27 post (nI x) (nI h) f0 f1 f2 a1 a2 a3 a4 a5 a6 n s (nI i)) (fun i s => s = nI (x ^ i)) h 0 1 (by omega) rfl (fun n s hs => ?_) (fun n i s hi hs hw => ?_)
    · refine pk_le h h (fun _ => ?_) (fun z => absurd z (by omega))
      rw [hs]
      exact H
    · refine pk_le h i (fun z => absurd z (by omega)) (fun _ => nm_r (e' := nI (x ^ (i + 1))) ?_ (nm_r (nI_1 i) (hw _ rfl)))
      rw [hs, pk_mul, Nat.pow_succ]
theorem wm_me_c : ∀ c, c < 5 → 1 ≤ c → (¬ (0 : Int32) ≤ -nI c) ∧ ∀ x, x < 5 → (nI x = - -nI c ↔ x = c) := by decide +kernel
theorem wm_ms_e {c : Nat} (hc : c < 5) (h1 : 1 ≤ c) : wm_ms (-nI c) (wm_me c) := by
  obtain ⟨g1, g2⟩ := wm_me_c c hc h1
  refine ⟨fun x _ => ?_, fun post f0 f1 f2 a1 a2 a3 a4 a5 a6 x hx H => ?_⟩
  · unfold wm_me
    split
    · decide
    · decide
  · refine br_f g1 (ek_if (g2 x hx) (fun z => ?_) (fun z => ?_))
    · rw [show wm_me c x = 1 by unfold wm_me; rw [if_pos z]] at H
      exact H
    · rw [show wm_me c x = 0 by unfold wm_me; rw [if_neg z]] at H
      exact H
/-- a part of the array holds v -/
def wm_Q (o : Nat) (a : Nat → Int32) (v : Nat → Nat) : Prop := ∀ i, i < 64 → v i < 7681 ∧ a (o + i) = nI (v i)
theorem wm_g_map (v : Nat → Nat) {i : Nat} (hi : i < 64) : wm_g ((List.range 64).map v) i = v i := by
  unfold wm_g
  rw [List.getD_eq_getElem?_getD, List.getElem?_map, List.getElem?_range hi]
  rfl
theorem wm_Q_R {o : Nat} {a : Nat → Int32} {v : Nat → Nat} (h : wm_Q o a v) : wm_R o a ((List.range 64).map v) :=
  ⟨by rw [List.length_map, List.length_range], fun i hi => by rw [wm_g_map v hi]; exact h i hi⟩
def wm_Z : List Nat := List.replicate 64 0
theorem wm_gZ : ∀ i, i < 64 → wm_g wm_Z i = 0 := by decide +kernel
theorem wm_lenZ : wm_Z.length = 64 := by decide +kernel
/-- the reversed pattern, the text, measured -/
def wm_pl (m : Nat) (p f : Nat → Nat) : Nat → List Nat
  | 0 => wm_Z
  | i + 1 => (wm_pl m p f i).set (m - 1 - i) (f (p i))
def wm_tl (n : Nat) (t f : Nat → Nat) : Nat → List Nat
  | 0 => wm_Z
  | i + 1 => (wm_tl n t f i).set i (f (t (i % n)))
/-- the letters -/
def wm_L (n : Nat) (t : Nat → Nat) (a : Nat → Int32) : Prop := ∀ j, j < n → t j < 5 ∧ a j = nI (t j)
theorem wm_clear {post : St2 → Prop} {f0 f1 f2 : Int32} {a1 a2 a3 a4 a5 a6 : Nat → Int32} (H : ∀ a, wm_Q 128 a (fun _ => 0) → post (f0, f1, f2, a1, a2, a3, a, a5, a6)) : wpX_clearSum post (f0, f1, f2, a1, a2, a3, a4, a5, a6) := by
  refine pk_loop (fun n i a => wX_clearSum_2 post f0 f1 f2 n (nI i) a1 a2 a3 a a5 a6) (fun i a => ∀ j, j < i → a (128 + j) = 0) 64 0 a4 (by omega) (fun j hj => absurd hj (by omega)) (fun n a ha => ?_) (fun n i a hi ha hw => ?_)
  · exact pk_le 64 64 (fun _ => H a (fun i hi => ⟨show 0 < 7681 by decide, ha i hi⟩)) (fun z => absurd z (by omega))
  · have eo : (128 : Int32) + nI i = nI (128 + i) := nI_add 128 i
    have u : upd a ((128 : Int32) + nI i).toNatClampNeg 0 = upd a (128 + i) 0 := by rw [eo, nI_clamp (by omega)]
    refine pk_le 64 i (fun z => absurd z (by omega)) (fun _ => And.intro (pk_in (128 + i) 192 (by omega) eo) (nm_r u (nm_r (nI_1 i) (hw _ (fun j hj => ?_)))))
    by_cases e : j = i
    · rw [e, pk_us]
    · rw [pk_un (by omega)]
      exact ha j (by omega)
/-- what a product adds -/
def wm_nw (P T : List Nat) (f : Nat) (v : Nat → Nat) (i : Nat) : Nat := (v i + wm_g P i * wm_g T i % 7681 * f % 7681) % 7681
theorem wm_p151 {post : St2 → Prop} {f0 f1 f2 : Int32} {a1 a2 a3 a4 a5 a6 : Nat → Int32} {P T : List Nat} {f : Nat} {v : Nat → Nat} (hf : f < 7681) (hP : wm_R 64 a4 P) (hT : wm_R 0 a4 T) (hv : wm_Q 128 a4 v)
    (H : ∀ a, wm_Q 128 a (wm_nw P T f v) → post (f0, f1, f2, a1, a2, a3, a, a5, a6)) : ∃ n, wX_addProduct_151 post (nI f) f0 f1 f2 n 0 a1 a2 a3 a4 a5 a6 := by
  refine pk_loop (fun n i a => wX_addProduct_151 post (nI f) f0 f1 f2 n (nI i) a1 a2 a3 a a5 a6) (fun i a => (∀ j, j < 128 → a j = a4 j) ∧ (∀ j, j < i → a (128 + j) = nI (wm_nw P T f v j)) ∧ ∀ j, i ≤ j → a (128 + j) = a4 (128 + j)) 64 0 a4 (by omega) ⟨fun _ _ => rfl, fun j hj => absurd hj (by omega), fun _ _ => rfl⟩ (fun n a ha => ?_) (fun n i a hi ha hw => ?_)
  · exact pk_le 64 64 (fun _ => H a (fun i hi => ⟨Nat.mod_lt _ (by decide), ha.2.1 i hi⟩)) (fun z => absurd z (by omega))
  · obtain ⟨g1, g2, g3⟩ := ha
    have e1 : (64 : Int32) + nI i = nI (64 + i) := nI_add 64 i
    have e2 : (0 : Int32) + nI i = nI i := Int32.zero_add _
    have e3 : (128 : Int32) + nI i = nI (128 + i) := nI_add 128 i
    obtain ⟨b1, v1⟩ := hP.2 i hi
    obtain ⟨b2, v2⟩ := hT.2 i hi
    obtain ⟨b3, v3⟩ := hv i hi
    have w1 : a ((64 : Int32) + nI i).toNatClampNeg = nI (wm_g P i) := by rw [e1, nI_clamp (by omega), g1 _ (by omega), v1]
    have w2 : a ((0 : Int32) + nI i).toNatClampNeg = nI (wm_g T i) := by
      rw [e2, nI_clamp (by omega), g1 _ (by omega)]
      rw [Nat.zero_add] at v2
      exact v2
    have w3 : a ((128 : Int32) + nI i).toNatClampNeg = nI (v i) := by rw [e3, nI_clamp (by omega), g3 _ (Nat.le_refl i), v3]
    have c1 := wm_mulb b1 b2
    have c2 : wm_g P i * wm_g T i % 7681 < 7681 := Nat.mod_lt _ (by decide)
    have c3 := wm_mulb c2 hf
    have c4 : wm_g P i * wm_g T i % 7681 * f % 7681 < 7681 := Nat.mod_lt _ (by decide)
    have m1 : (a ((64 : Int32) + nI i).toNatClampNeg * a ((0 : Int32) + nI i).toNatClampNeg) - (a ((64 : Int32) + nI i).toNatClampNeg * a ((0 : Int32) + nI i).toNatClampNeg) / 7681 * 7681 = nI (wm_g P i * wm_g T i % 7681) := by
      rw [w1, w2, pk_mul]
      exact wm_md c1
    have m2 : (((a ((64 : Int32) + nI i).toNatClampNeg * a ((0 : Int32) + nI i).toNatClampNeg) - (a ((64 : Int32) + nI i).toNatClampNeg * a ((0 : Int32) + nI i).toNatClampNeg) / 7681 * 7681) * nI f) - (((a ((64 : Int32) + nI i).toNatClampNeg * a ((0 : Int32) + nI i).toNatClampNeg) - (a ((64 : Int32) + nI i).toNatClampNeg * a ((0 : Int32) + nI i).toNatClampNeg) / 7681 * 7681) * nI f) / 7681 * 7681 = nI (wm_g P i * wm_g T i % 7681 * f % 7681) := by
      rw [m1, pk_mul]
      exact wm_md c3
    have m3 : upd a ((128 : Int32) + nI i).toNatClampNeg ((a ((128 : Int32) + nI i).toNatClampNeg + nI (wm_g P i * wm_g T i % 7681 * f % 7681)) - (a ((128 : Int32) + nI i).toNatClampNeg + nI (wm_g P i * wm_g T i % 7681 * f % 7681)) / 7681 * 7681) = upd a (128 + i) (nI (wm_nw P T f v i)) := by
      rw [w3, nI_add, wm_md (by omega), e3, nI_clamp (by omega)]
      rfl
    have d : ¬ (7681 : Int32) = 0 := by decide
    refine pk_le 64 i (fun z => absurd z (by omega)) (fun _ => And.intro (pk_in (64 + i) 192 (by omega) e1) (And.intro (pk_in i 192 (by omega) e2) (And.intro d (And.intro d (nm_r m2 (And.intro (pk_in (128 + i) 192 (by omega) e3) (And.intro d (And.intro (pk_in (128 + i) 192 (by omega) e3) (nm_r m3 (nm_r (nI_1 i) (hw _ ⟨fun j hj => ?_, fun j hj => ?_, fun j hj => ?_⟩)))))))))))
    · rw [pk_un (by omega)]
      exact g1 j hj
    · by_cases e : j = i
      · rw [e, pk_us]
      · rw [pk_un (by omega)]
        exact g2 j (by omega)
    · rw [pk_un (by omega)]
      exact g3 j (by omega)
theorem wm_p87 {post : St2 → Prop} {n m : Nat} {f2 th : Int32} {a1 a2 a3 a4 a5 a6 : Nat → Int32} {t ft : Nat → Nat} {P : List Nat} {f : Nat} {v : Nat → Nat} (hn : 1 ≤ n) (hn' : n ≤ 40) (hm : 1 ≤ m) (hm' : m ≤ 12) (ht : wm_L n t a1) (h3 : wm_Rt a3) (hth : wm_ms th ft) (hf : f < 7681)
    (hP : wm_R 64 a4 P) (hT : wm_R 0 a4 wm_Z) (hv : wm_Q 128 a4 v) (H : ∀ a, wm_Q 128 a (wm_nw (wm_tf 0 P) (wm_tf 0 (wm_tl n t ft (n + m - 1))) f v) → post (nI n, nI m, f2, a1, a2, a3, a, a5, a6)) :
    ∃ k, wX_addProduct_87 post th (nI f) (nI n) (nI m) f2 k 0 a1 a2 a3 a4 a5 a6 := by
  have el : nI n + nI m - 1 = nI (n + m - 1) := by
    rw [nI_add]
    exact pk_sub (b := 1) (by omega)
  refine pk_loop (fun k i a => wX_addProduct_87 post th (nI f) (nI n) (nI m) f2 k (nI i) a1 a2 a3 a a5 a6) (fun i a => wm_R 0 a (wm_tl n t ft i) ∧ wm_Fr 0 a4 a) (n + m - 1) 0 a4 (by omega) ⟨hT, wm_Fr_0⟩ (fun k a ha => ?_) (fun k i a hi ha hw => ?_)
  · refine pk_le (n + m - 1) (n + m - 1) (fun _ => ?_) (fun z => absurd z (by omega)) el
    obtain ⟨g1, g2⟩ := ha
    have gP : wm_R 64 a P := wm_R_fr hP g2 (by omega)
    refine wm_transform (o := 64) (b := 0) (by omega) (by omega) h3 gP (fun a' r1 r2 => wm_transform (o := 0) (b := 0) (by omega) (by omega) h3 (wm_R_fr g1 r2 (by omega)) (fun a'' r3 r4 => wm_p151 hf (wm_R_fr r1 r4 (by omega)) r3 (fun j hj => ⟨(hv j hj).1, ?_⟩) H))
    rw [r4 _ (by omega), r2 _ (by omega), g2 _ (by omega)]
    exact (hv j hj).2
  · have hj : i % n < n := Nat.mod_lt _ (by omega)
    obtain ⟨b1, v1⟩ := ht (i % n) hj
    have er : nI i - nI i / nI n * nI n = nI (i % n) := pk_rem (by omega) (by omega) (by omega)
    have e0 : (0 : Int32) + nI i = nI i := Int32.zero_add _
    have u : ∀ x, upd a ((0 : Int32) + nI i).toNatClampNeg x = upd a (0 + i) x := fun x => by rw [e0, nI_clamp (by omega), Nat.zero_add]
    refine pk_le (n + m - 1) i (fun z => absurd z (by omega)) (fun _ => And.intro (nI_ne0 (by omega) (by omega)) (And.intro (pk_in (i % n) 40 (by omega) er) ?_)) el
    rw [er, nI_clamp (by omega), v1]
    exact hth.2 _ _ _ _ _ _ _ _ _ _ _ b1 (And.intro (pk_in i 192 (by omega) e0) (nm_r (u _) (nm_r (nI_1 i) (hw _ ⟨wm_R_set ha.1 (by omega) (hth.1 _ b1), wm_Fr_set ha.2 (by omega) _⟩))))
theorem wm_p40 {post : St2 → Prop} {n m : Nat} {f2 ph th : Int32} {a1 a2 a3 a4 a5 a6 : Nat → Int32} {t p fp ft : Nat → Nat} {f : Nat} {v : Nat → Nat} (hn : 1 ≤ n) (hn' : n ≤ 40) (hm : 1 ≤ m) (hm' : m ≤ 12) (ht : wm_L n t a1) (hp : wm_L m p a2) (h3 : wm_Rt a3) (hph : wm_ms ph fp) (hth : wm_ms th ft) (hf : f < 7681)
    (hP : wm_R 64 a4 wm_Z) (hT : wm_R 0 a4 wm_Z) (hv : wm_Q 128 a4 v) (H : ∀ a, wm_Q 128 a (wm_nw (wm_tf 0 (wm_pl m p fp m)) (wm_tf 0 (wm_tl n t ft (n + m - 1))) f v) → post (nI n, nI m, f2, a1, a2, a3, a, a5, a6)) :
    ∃ k, wX_addProduct_40 post ph th (nI f) (nI n) (nI m) f2 k 0 a1 a2 a3 a4 a5 a6 := by
  refine pk_loop (fun k i a => wX_addProduct_40 post ph th (nI f) (nI n) (nI m) f2 k (nI i) a1 a2 a3 a a5 a6) (fun i a => wm_R 64 a (wm_pl m p fp i) ∧ wm_Fr 64 a4 a) m 0 a4 (by omega) ⟨hP, wm_Fr_0⟩ (fun k a ha => ?_) (fun k i a hi ha hw => ?_)
  · refine pk_le m m (fun _ => wm_p87 hn hn' hm hm' ht h3 hth hf ha.1 (wm_R_fr hT ha.2 (by omega)) (fun j hj => ⟨(hv j hj).1, ?_⟩) H) (fun z => absurd z (by omega))
    rw [ha.2 _ (by omega)]
    exact (hv j hj).2
  · obtain ⟨b1, v1⟩ := hp i hi
    have eo : (((64 : Int32) + nI m) - 1) - nI i = nI (64 + (m - 1 - i)) := by
      rw [show (64 : Int32) + nI m = nI (64 + m) from nI_add 64 m, show nI (64 + m) - 1 = nI (64 + m - 1) from pk_sub (b := 1) (by omega), pk_sub (by omega)]
      exact congrArg nI (by omega)
    have u : ∀ x, upd a ((((64 : Int32) + nI m) - 1) - nI i).toNatClampNeg x = upd a (64 + (m - 1 - i)) x := fun x => by rw [eo, nI_clamp (by omega)]
    refine pk_le m i (fun z => absurd z (by omega)) (fun _ => And.intro (pk_in i 12 (by omega)) ?_)
    rw [nI_clamp (by omega), v1]
    exact hph.2 _ _ _ _ _ _ _ _ _ _ _ b1 (And.intro (pk_in (64 + (m - 1 - i)) 192 (by omega) eo) (nm_r (u _) (nm_r (nI_1 i) (hw _ ⟨wm_R_set ha.1 (by omega) (hph.1 _ b1), wm_Fr_set ha.2 (by omega) _⟩))))
theorem wm_addProduct {post : St2 → Prop} {n m : Nat} {f2 ph th : Int32} {a1 a2 a3 a4 a5 a6 : Nat → Int32} {t p fp ft : Nat → Nat} {f : Nat} {v : Nat → Nat} (hn : 1 ≤ n) (hn' : n ≤ 40) (hm : 1 ≤ m) (hm' : m ≤ 12) (ht : wm_L n t a1) (hp : wm_L m p a2) (h3 : wm_Rt a3) (hph : wm_ms ph fp) (hth : wm_ms th ft) (hf : f < 7681)
    (hv : wm_Q 128 a4 v) (H : ∀ a, wm_Q 128 a (wm_nw (wm_tf 0 (wm_pl m p fp m)) (wm_tf 0 (wm_tl n t ft (n + m - 1))) f v) → post (nI n, nI m, f2, a1, a2, a3, a, a5, a6)) :
    wpX_addProduct post (nI n, nI m, f2, a1, a2, a3, a4, a5, a6) ph th (nI f) := by
  refine pk_loop (fun k i a => wX_addProduct_3 post ph th (nI f) (nI n) (nI m) f2 k (nI i) a1 a2 a3 a a5 a6) (fun i a => (∀ j, j < i → a (64 + j) = 0 ∧ a (0 + j) = 0) ∧ ∀ j, 128 ≤ j → a j = a4 j) 64 0 a4 (by omega) ⟨fun j hj => absurd hj (by omega), fun _ _ => rfl⟩ (fun k a ha => ?_) (fun k i a hi ha hw => ?_)
  · refine pk_le 64 64 (fun _ => wm_p40 hn hn' hm hm' ht hp h3 hph hth hf ⟨wm_lenZ, fun j hj => ?_⟩ ⟨wm_lenZ, fun j hj => ?_⟩ (fun j hj => ⟨(hv j hj).1, ?_⟩) H) (fun z => absurd z (by omega))
    · rw [wm_gZ j hj]
      exact ⟨by decide, (ha.1 j hj).1⟩
    · rw [wm_gZ j hj]
      exact ⟨by decide, (ha.1 j hj).2⟩
    · rw [ha.2 _ (by omega)]
      exact (hv j hj).2
  · have e1 : (64 : Int32) + nI i = nI (64 + i) := nI_add 64 i
    have e2 : (0 : Int32) + nI i = nI i := Int32.zero_add _
    have u1 : upd a ((64 : Int32) + nI i).toNatClampNeg 0 = upd a (64 + i) 0 := by rw [e1, nI_clamp (by omega)]
    have u2 : ∀ a', upd a' ((0 : Int32) + nI i).toNatClampNeg 0 = upd a' i 0 := fun a' => by rw [e2, nI_clamp (by omega)]
    refine pk_le 64 i (fun z => absurd z (by omega)) (fun _ => And.intro (pk_in (64 + i) 192 (by omega) e1) (nm_r u1 (And.intro (pk_in i 192 (by omega) e2) (nm_r (u2 _) (nm_r (nI_1 i) (hw _ ⟨fun j hj => ?_, fun j hj => ?_⟩))))))
    · by_cases e : j = i
      · refine ⟨?_, ?_⟩
        · rw [e, pk_un (by omega), pk_us]
        · rw [e, Nat.zero_add, pk_us]
      · obtain ⟨q1, q2⟩ := ha.1 j (by omega)
        refine ⟨?_, ?_⟩
        · rw [pk_un (by omega), pk_un (by omega)]
          exact q1
        · rw [pk_un (by omega), pk_un (by omega)]
          exact q2
    · rw [pk_un (by omega), pk_un (by omega)]
      exact ha.2 j hj
end
section
/-! the sums over all shifts -/
def wm_P0 (m p0 p1 : Nat) (f : Nat → Nat) : Nat := if m = 2 then f p1 else f p0
def wm_P1 (m p0 : Nat) (f : Nat → Nat) : Nat := if m = 2 then f p0 else 0
def wm_T2 (m t0 : Nat) (f : Nat → Nat) : Nat := if m = 2 then f t0 else 0
/-- the product's places 0 to 3, text of 2, pattern of m letters -/
def wm_K (m t0 t1 p0 p1 : Nat) (fp ft : Nat → Nat) (c : Nat) : Nat :=
  if c = 0 then wm_P0 m p0 p1 fp * ft t0 else if c = 1 then wm_P0 m p0 p1 fp * ft t1 + wm_P1 m p0 fp * ft t0 else if c = 2 then wm_P0 m p0 p1 fp * wm_T2 m t0 ft + wm_P1 m p0 fp * ft t1 else wm_P1 m p0 fp * wm_T2 m t0 ft
/-- the sum, transformed, of coefficients s -/
def wm_S (s : Nat → Nat) (a : Nat → Int32) : Prop := ∃ v, wm_Q 128 a v ∧ ∀ i, i < 64 → ∃ q : Int, (v i : Int) = s 0 + s 1 * wm_g wm_E1 i + s 2 * wm_g wm_E2 i + s 3 * wm_g wm_E3 i + 7681 * q
theorem wm_S0 {a : Nat → Int32} (h : wm_Q 128 a (fun _ => 0)) : wm_S (fun _ => 0) a := ⟨_, h, fun i _ => ⟨0, by simp⟩⟩
theorem wm_g_pl {m : Nat} (hm : m = 1 ∨ m = 2) (p f : Nat → Nat) : (wm_pl m p f m).length = 64 ∧ ∀ i, i < 64 → wm_g (wm_pl m p f m) i = if i = 0 then wm_P0 m (p 0) (p 1) f else if i = 1 then wm_P1 m (p 0) f else if i = 2 then 0 else 0 := by
  rcases hm with rfl | rfl
  · have e : wm_pl 1 p f 1 = wm_Z.set 0 (f (p 0)) := rfl
    rw [e]
    refine ⟨by rw [List.length_set, wm_lenZ], fun i hi => ?_⟩
    rw [wm_g_set (by rw [wm_lenZ]; decide), wm_gZ i hi]
    unfold wm_P0 wm_P1
    by_cases c : i = 0
    · rw [if_pos c, if_pos c, if_neg (by decide)]
    · rw [if_neg c, if_neg c, if_neg (by decide : ¬ 1 = 2), ite_self, ite_self]
  · have e : wm_pl 2 p f 2 = (wm_Z.set 1 (f (p 0))).set 0 (f (p 1)) := rfl
    rw [e]
    refine ⟨by rw [List.length_set, List.length_set, wm_lenZ], fun i hi => ?_⟩
    rw [wm_g_set (by rw [List.length_set, wm_lenZ]; decide), wm_g_set (by rw [wm_lenZ]; decide), wm_gZ i hi]
    unfold wm_P0 wm_P1
    rw [if_pos rfl, if_pos rfl, ite_self]
theorem wm_g_tl {m : Nat} (hm : m = 1 ∨ m = 2) (t f : Nat → Nat) : (wm_tl 2 t f (2 + m - 1)).length = 64 ∧ ∀ i, i < 64 → wm_g (wm_tl 2 t f (2 + m - 1)) i = if i = 0 then f (t 0) else if i = 1 then f (t 1) else if i = 2 then wm_T2 m (t 0) f else 0 := by
  rcases hm with rfl | rfl
  · have e : wm_tl 2 t f (2 + 1 - 1) = (wm_Z.set 0 (f (t 0))).set 1 (f (t 1)) := rfl
    rw [e]
    refine ⟨by rw [List.length_set, List.length_set, wm_lenZ], fun i hi => ?_⟩
    rw [wm_g_set (by rw [List.length_set, wm_lenZ]; decide), wm_g_set (by rw [wm_lenZ]; decide), wm_gZ i hi]
    unfold wm_T2
    rw [if_neg (by decide : ¬ 1 = 2), ite_self]
    by_cases c : i = 0
    · rw [if_pos c, if_neg (by omega), if_pos c]
    · rw [if_neg c, if_neg c]
  · have e : wm_tl 2 t f (2 + 2 - 1) = ((wm_Z.set 0 (f (t 0))).set 1 (f (t 1))).set 2 (f (t 0)) := rfl
    rw [e]
    refine ⟨by rw [List.length_set, List.length_set, List.length_set, wm_lenZ], fun i hi => ?_⟩
    rw [wm_g_set (by rw [List.length_set, List.length_set, wm_lenZ]; decide), wm_g_set (by rw [List.length_set, wm_lenZ]; decide), wm_g_set (by rw [wm_lenZ]; decide), wm_gZ i hi]
    unfold wm_T2
    rw [if_pos (rfl : 2 = 2)]
    by_cases c : i = 0
    · rw [if_neg (by omega), if_neg (by omega), if_pos c, if_pos c]
    · by_cases d : i = 1
      · rw [if_neg (by omega), if_pos d, if_neg c, if_pos d]
      · rw [if_neg c, if_neg d, if_neg c, if_neg d]
theorem wm_addS {post : St2 → Prop} {m : Nat} {f2 ph th : Int32} {a1 a2 a3 a4 a5 a6 : Nat → Int32} {t p fp ft : Nat → Nat} {s : Nat → Nat} (f : Nat) (hm : m = 1 ∨ m = 2) (ht : wm_L 2 t a1) (hp : wm_L m p a2) (h3 : wm_Rt a3) (hf : f < 7681) (hph : wm_ms ph fp) (hth : wm_ms th ft) (hs : wm_S s a4)
    (H : ∀ a, wm_S (fun c => s c + f * wm_K m (t 0) (t 1) (p 0) (p 1) fp ft c) a → post (nI 2, nI m, f2, a1, a2, a3, a, a5, a6)) : wpX_addProduct post (nI 2, nI m, f2, a1, a2, a3, a4, a5, a6) ph th (nI f) := by
  obtain ⟨v, hv, hq⟩ := hs
  refine wm_addProduct (by omega) (by omega) (by omega) (by omega) ht hp h3 hph hth hf hv (fun a ha => H a ⟨_, ha, fun i hi => ?_⟩)
  exact wm_prod (wm_P0 m (p 0) (p 1) fp) (wm_P1 m (p 0) fp) (ft (t 0)) (ft (t 1)) (wm_T2 m (t 0) ft) f (s 0) (s 1) (s 2) (s 3) _ _ _ i hi
    (wm_fwd (wm_P0 m (p 0) (p 1) fp) (wm_P1 m (p 0) fp) 0 (wm_g_pl hm p fp).1 (wm_g_pl hm p fp).2 i hi) (wm_fwd (ft (t 0)) (ft (t 1)) (wm_T2 m (t 0) ft) (wm_g_tl hm t ft).1 (wm_g_tl hm t ft).2 i hi) (hq i hi)
theorem wm_fit {g s : Nat} {x : Int32} (hg : g < 7681 ∧ x = nI g) (h : ∃ q : Int, (g : Int) = s + 7681 * q) : x = nI (s % 7681) := by
  obtain ⟨q, e⟩ := h
  rw [hg.2]
  exact congrArg nI (by have := hg.1; omega)
theorem wm_back {post : St2 → Prop} {f0 f1 f2 : Int32} {a1 a2 a3 a4 a5 a6 : Nat → Int32} {s : Nat → Nat} (h3 : wm_Rt a3) (hs : wm_S s a4)
    (H : ∀ a, (∀ c, c < 4 → a (128 + c) = nI (s c % 7681)) → post (f0, f1, f2, a1, a2, a3, a, a5, a6)) : wpX_transform post (f0, f1, f2, a1, a2, a3, a4, a5, a6) 128 1 := by
  obtain ⟨v, hv, hq⟩ := hs
  have L : wm_LC (s 0) (s 1) (s 2) (s 3) wm_E0 wm_E1 wm_E2 wm_E3 ((List.range 64).map v) := by
    refine ⟨wm_len.2.2.2.2.1, wm_len.2.2.2.2.2.1, wm_len.2.2.2.2.2.2.1, wm_len.2.2.2.2.2.2.2, by rw [List.length_map, List.length_range], fun i hi => ?_⟩
    obtain ⟨q, e⟩ := hq i hi
    refine ⟨q, ?_⟩
    rw [wm_g_map v hi, e, (wm_gE i hi).1]
    simp
  obtain ⟨r0, r1, r2, r3⟩ := wm_bwd _ _ _ _ L
  refine wm_transform (o := 128) (b := 1) (by omega) (by omega) h3 (wm_Q_R hv) (fun a g1 g2 => H a (fun c hc => ?_))
  exact co_4 (P := fun c => a (128 + c) = nI (s c % 7681)) (wm_fit (g1.2 0 (by omega)) r0) (wm_fit (g1.2 1 (by omega)) r1) (wm_fit (g1.2 2 (by omega)) r2) (wm_fit (g1.2 3 (by omega)) r3) hc
def wm_D (m t0 t1 p0 p1 c : Nat) : Nat := ((0 + 1 * wm_K m t0 t1 p0 p1 (wm_mp 3) (wm_mp 1) c) + 7679 * wm_K m t0 t1 p0 p1 (wm_mp 2) (wm_mp 2) c) + 1 * wm_K m t0 t1 p0 p1 (wm_mp 1) (wm_mp 3) c
def wm_W (m t0 t1 p0 p1 c : Nat) : Nat := ((((0 + 1 * wm_K m t0 t1 p0 p1 (wm_mp 0) (wm_mp 0) c) + 7680 * wm_K m t0 t1 p0 p1 (wm_me 1) (wm_me 1) c) + 7680 * wm_K m t0 t1 p0 p1 (wm_me 2) (wm_me 2) c) + 7680 * wm_K m t0 t1 p0 p1 (wm_me 3) (wm_me 3) c) + 7680 * wm_K m t0 t1 p0 p1 (wm_me 4) (wm_me 4) c
theorem wm_ixp {m i : Nat} (hm : m = 1 ∨ m = 2) (hi : i < 2) : (((128 : Int32) + nI i) + nI m) - 1 = nI (128 + (i + m - 1)) := by
  rw [show (128 : Int32) + nI i = nI (128 + i) from nI_add 128 i, nI_add, show nI (128 + i + m) - 1 = nI (128 + i + m - 1) from pk_sub (b := 1) (by omega)]
  exact congrArg nI (by omega)
theorem wm_fill2 {F : Nat → Int32} {a : Nat → Int32} {i k : Nat} {x : Int32} (hk : k = i) (h : ∀ j, j < i → a j = F j) (hx : x = F i) : ∀ j, j < i + 1 → upd a k x j = F j := by
  intro j hj
  rw [hk]
  by_cases e : j = i
  · rw [e, pk_us, hx]
  · rw [pk_un e]
    exact h j (by omega)
theorem wm_p151b {post : St2 → Prop} {m : Nat} {f2 : Int32} {a1 a2 a3 a4 a5 a6 : Nat → Int32} {s : Nat → Nat} (hm : m = 1 ∨ m = 2) (hs : ∀ c, c < 4 → a4 (128 + c) = nI (s c % 7681))
    (H : ∀ a, (∀ j, j < 2 → a j = nI (s (j + m - 1) % 7681)) → post (nI 2, nI m, f2, a1, a2, a3, a4, a5, a)) : ∃ k, wX_prepare_151 post (nI 2) (nI m) f2 k 0 a1 a2 a3 a4 a5 a6 := by
  refine pk_loop (fun k i a => wX_prepare_151 post (nI 2) (nI m) f2 k (nI i) a1 a2 a3 a4 a5 a) (fun i a => ∀ j, j < i → a j = nI (s (j + m - 1) % 7681)) 2 0 a6 (by omega) (fun j hj => absurd hj (by omega)) (fun k a ha => ?_) (fun k i a hi ha hw => ?_)
  · exact pk_le 2 2 (fun _ => H a ha) (fun z => absurd z (by omega))
  · have ex := wm_ixp hm hi
    refine pk_le 2 i (fun z => absurd z (by omega)) (fun _ => And.intro (pk_in (128 + (i + m - 1)) 192 (by omega) ex) (And.intro (pk_in i 40 (by omega)) (nm_e (nm_r (nI_1 i) (hw _ (wm_fill2 (F := fun j => nI (s (j + m - 1) % 7681)) (nI_clamp (by omega)) ha ?_))))))
    rw [ex, nI_clamp (by omega)]
    exact hs _ (by omega)
theorem wm_prepare {post : St2 → Prop} {m : Nat} {a1 a2 a3 a4 a5 a6 : Nat → Int32} {t p : Nat → Nat} (hm : m = 1 ∨ m = 2) (ht : wm_L 2 t a1) (hp : wm_L m p a2) (h3 : wm_Rt a3)
    (H : ∀ b4 b5 b6, (∀ j, j < 2 → b5 j = nI (wm_D m (t 0) (t 1) (p 0) (p 1) (j + m - 1) % 7681)) → (∀ j, j < 2 → b6 j = nI (wm_W m (t 0) (t 1) (p 0) (p 1) (j + m - 1) % 7681)) → post (nI 2, nI m, 1, a1, a2, a3, b4, b5, b6)) :
    wpX_prepare post (nI 2, nI m, 0, a1, a2, a3, a4, a5, a6) := by
  refine br_t rfl (br_f (nI_ne0 (by omega) (by omega)) (br_t (nI_le (by omega) (by omega)) ?_))
  refine wm_clear (fun c0 s0 => ?_)
  refine wm_addS 1 hm ht hp h3 (by omega) (wm_ms_p (h := 3) (by omega)) (wm_ms_p (h := 1) (by omega)) (wm_S0 s0) (fun c1 s1 => ?_)
  refine wm_addS 7679 hm ht hp h3 (by omega) (wm_ms_p (h := 2) (by omega)) (wm_ms_p (h := 2) (by omega)) s1 (fun c2 s2 => ?_)
  refine wm_addS 1 hm ht hp h3 (by omega) (wm_ms_p (h := 1) (by omega)) (wm_ms_p (h := 3) (by omega)) s2 (fun c3 s3 => ?_)
  refine wm_back h3 s3 (fun c4 s4 => ?_)
  refine pk_loop (fun k i a => wX_prepare_69 post (nI 2) (nI m) 1 k (nI i) a1 a2 a3 c4 a a6) (fun i a => ∀ j, j < i → a j = nI (wm_D m (t 0) (t 1) (p 0) (p 1) (j + m - 1) % 7681)) 2 0 a5 (by omega) (fun j hj => absurd hj (by omega)) (fun k b5 hb => ?_) (fun k i a hi ha hw => ?_)
  · refine pk_le 2 2 (fun _ => ?_) (fun z => absurd z (by omega))
    refine wm_clear (fun d0 r0 => ?_)
    refine wm_addS 1 hm ht hp h3 (by omega) (wm_ms_p (h := 0) (by omega)) (wm_ms_p (h := 0) (by omega)) (wm_S0 r0) (fun d1 r1 => ⟨5, ?_⟩)
    refine pk_lt 4 1 (fun z => absurd z (by omega)) (fun _ => ?_)
    refine wm_addS 7680 hm ht hp h3 (by omega) (wm_ms_e (c := 1) (by omega) (by omega)) (wm_ms_e (c := 1) (by omega) (by omega)) r1 (fun d2 r2 => nm_r (e' := nI 2) rfl ?_)
    refine pk_lt 4 2 (fun z => absurd z (by omega)) (fun _ => ?_)
    refine wm_addS 7680 hm ht hp h3 (by omega) (wm_ms_e (c := 2) (by omega) (by omega)) (wm_ms_e (c := 2) (by omega) (by omega)) r2 (fun d3 r3 => nm_r (e' := nI 3) rfl ?_)
    refine pk_lt 4 3 (fun z => absurd z (by omega)) (fun _ => ?_)
    refine wm_addS 7680 hm ht hp h3 (by omega) (wm_ms_e (c := 3) (by omega) (by omega)) (wm_ms_e (c := 3) (by omega) (by omega)) r3 (fun d4 r4 => nm_r (e' := nI 4) rfl ?_)
    refine pk_lt 4 4 (fun z => absurd z (by omega)) (fun _ => ?_)
    refine wm_addS 7680 hm ht hp h3 (by omega) (wm_ms_e (c := 4) (by omega) (by omega)) (wm_ms_e (c := 4) (by omega) (by omega)) r4 (fun d5 r5 => nm_r (e' := nI 5) rfl ?_)
    refine pk_lt 4 5 (fun _ => ?_) (fun z => absurd z (by omega))
    refine wm_back h3 r5 (fun d6 r6 => wm_p151b hm r6 (fun b6 hb6 => H d6 b5 b6 hb hb6))
  · have ex := wm_ixp hm hi
    refine pk_le 2 i (fun z => absurd z (by omega)) (fun _ => And.intro (pk_in (128 + (i + m - 1)) 192 (by omega) ex) (And.intro (pk_in i 40 (by omega)) (nm_e (nm_r (nI_1 i) (hw _ (wm_fill2 (F := fun j => nI (wm_D m (t 0) (t 1) (p 0) (p 1) (j + m - 1) % 7681)) (nI_clamp (by omega)) ha ?_))))))
    rw [ex, nI_clamp (by omega)]
    exact s4 _ (by omega)
/-! the constructor -/
def wm_bs : Nat → Nat
  | 0 => 1
  | k + 1 => wm_bs k * 17 % 7681
theorem wm_bs_lt (k : Nat) : wm_bs k < 7681 := by
  cases k with
  | zero => decide
  | succ k => exact Nat.mod_lt _ (by decide)
theorem wm_bs_120 : wm_bs 120 = 5413 := by decide +kernel
theorem wm_init {post : St2 → Prop} {f0 f1 f2 : Int32} {mc ms : Nat} (hc : 6 ≤ mc) (hs : 388 ≤ ms) (H : ∀ a, wm_Rt a → post (f0, f1, f2, fun _ => 0, fun _ => 0, a, fun _ => 0, fun _ => 0, fun _ => 0)) : wpX_init post mc ms (f0, f1, f2) := by
  have d : ¬ (7681 : Int32) = 0 := by decide
  refine And.intro (by omega) (And.intro (by omega) (And.intro (by omega) (And.intro (by omega) (And.intro (by omega) (And.intro (by omega) (And.intro (by omega) (And.intro (by omega) (And.intro (by omega) (And.intro (by omega) (And.intro (by omega) (And.intro (by omega) ?_)))))))))))
  refine pk_loop (σ := Int32) (fun n i s => wX_init_57 post mc ms 6 388 f0 f1 f2 (fun _ => 0) (fun _ => 0) (fun _ => 0) (fun _ => 0) (fun _ => 0) (fun _ => 0) n s (nI i)) (fun i s => s = nI (wm_bs i)) 120 0 1 (by omega) rfl (fun n s hs => ?_) (fun n i s hi hs hw => ?_)
  · rw [wm_bs_120] at hs
    rw [hs]
    refine pk_le 120 120 (fun _ => nm_e ?_) (fun z => absurd z (by omega))
    refine pk_loop (fun n i a => wX_init_87 post mc ms (nI 5413) 6 388 f0 f1 f2 n (nI i) (fun _ => 0) (fun _ => 0) a (fun _ => 0) (fun _ => 0) (fun _ => 0)) (fun i a => 1 ≤ i ∧ ∀ j, j < i → a j = nI (wm_rt j)) 64 1 _ (by omega) ⟨by omega, fun j hj => ?_⟩ (fun n a ha => ?_) (fun n i a hi ha hw => ?_)
    · rw [show j = 0 by omega, pk_us]
      rfl
    · exact pk_le 64 64 (fun _ => H a ha.2) (fun z => absurd z (by omega))
    · obtain ⟨k, rfl⟩ : ∃ k, i = k + 1 := ⟨i - 1, by omega⟩
      have e1 : nI (k + 1) - 1 = nI k := nI_pred k
      have b := wm_rt_lt k
      refine pk_le 64 (k + 1) (fun z => absurd z (by omega)) (fun _ => And.intro (pk_in k 64 (by omega) e1) (And.intro d (And.intro (pk_in (k + 1) 64 (by omega)) (nm_e (nm_r (nI_1 (k + 1)) (hw _ ⟨by omega, wm_fill2 (F := fun j => nI (wm_rt j)) (nI_clamp (by omega)) ha.2 ?_⟩))))))
      rw [e1, nI_clamp (by omega), ha.2 k (by omega), pk_mul]
      exact wm_md (by omega)
  · have b := wm_bs_lt i
    refine pk_le 120 i (fun z => absurd z (by omega)) (fun _ => And.intro d (nm_r (e' := nI (wm_bs (i + 1))) ?_ (nm_r (nI_1 i) (hw _ rfl))))
    rw [hs, show nI (wm_bs i) * 17 = nI (wm_bs i * 17) from pk_mul _ 17]
    exact wm_md (by omega)
end
section
/-! the other methods, and the law -/
theorem wm_nar : ∀ x, x < 5 → (nI x).toInt8.toInt32 = nI x := by decide +kernel
theorem wm_type27 {post : Int32 → St2 → Prop} {n m b x : Nat} {f2 : Int32} {a1 a2 a3 a4 a5 a6 : Nat → Int32} (hb : b < 2) (hx : x < 5) (hn : n < 40) (hm : m < 12)
    (H0 : b = 0 → post (nI (n + 1)) (nI (n + 1), nI m, 0, upd a1 n (nI x), a2, a3, a4, a5, a6)) (H1 : b ≠ 0 → post (nI (m + 1)) (nI n, nI (m + 1), 0, a1, upd a2 m (nI x), a3, a4, a5, a6)) :
    wX_type_27 post (nI b) (nI x) (nI n) (nI m) f2 a1 a2 a3 a4 a5 a6 := by
  refine br_f (nI_pos (by omega)) (br_t (nI_le (b := 4) (by omega) (by omega)) (pk_eq b 0 (fun z => ?_) (fun z => ?_)))
  · refine And.intro (pk_in n 40 hn) (nm_r (e' := upd a1 n (nI x)) ?_ (nm_r (nI_1 n) (H0 z)))
    rw [nI_clamp (by omega), wm_nar x hx]
  · refine And.intro (pk_in m 12 hm) (nm_r (e' := upd a2 m (nI x)) ?_ (nm_r (nI_1 m) (H1 z)))
    rw [nI_clamp (by omega), wm_nar x hx]
theorem wm_type {post : Int32 → St2 → Prop} {n m b x : Nat} {f2 : Int32} {a1 a2 a3 a4 a5 a6 : Nat → Int32} (hb : b < 2) (hx : x < 5) (hn : n < 40) (hm : m < 12)
    (H0 : b = 0 → post (nI (n + 1)) (nI (n + 1), nI m, 0, upd a1 n (nI x), a2, a3, a4, a5, a6)) (H1 : b ≠ 0 → post (nI (m + 1)) (nI n, nI (m + 1), 0, a1, upd a2 m (nI x), a3, a4, a5, a6)) :
    wpX_type post (nI n, nI m, f2, a1, a2, a3, a4, a5, a6) (nI b) (nI x) :=
  pk_eq b 0 (fun _ => pk_lt n 40 (fun _ => wm_type27 hb hx hn hm H0 H1) (fun z => absurd z (by omega))) (fun _ => pk_lt m 12 (fun _ => wm_type27 hb hx hn hm H0 H1) (fun z => absurd z (by omega)))
theorem wm_length {post : Int32 → Prop} {n m b : Nat} {f2 : Int32} {a1 a2 a3 a4 a5 a6 : Nat → Int32} (hb : b < 2) (H : post (nI (if b = 0 then n else m))) : wpX_length post (nI n, nI m, f2, a1, a2, a3, a4, a5, a6) (nI b) := by
  refine pk_eq b 0 (fun z => ?_) (fun z => ?_)
  · rw [if_pos z] at H
    exact H
  · rw [if_neg z] at H
    exact H
theorem wm_len2 {post : Int32 → Prop} {b : Nat} {f2 : Int32} {a1 a2 a3 a4 a5 a6 : Nat → Int32} (hb : b < 2) (H : post (nI 2)) : wpX_length post (nI 2, nI 2, f2, a1, a2, a3, a4, a5, a6) (nI b) :=
  wm_length hb (by rw [ite_self]; exact H)
/-- replace: no letter -/
theorem wm_replN {post : Int32 → St2 → Prop} {b : Nat} {e f2 : Int32} {a1 a2 a3 a4 a5 a6 : Nat → Int32} (hb : b < 2) (he : e < 0 ∨ ¬ e ≤ 4) (H : post 0 (nI 2, nI 2, f2, a1, a2, a3, a4, a5, a6)) : wpX_replace post (nI 2, nI 2, f2, a1, a2, a3, a4, a5, a6) (nI b) 1 e := by
  refine br_f (by decide) (wm_len2 hb (br_f (by decide) (br_c (fun _ => H) (fun z => br_f ?_ H))))
  rcases he with h | h
  · exact absurd h z
  · exact h
/-- replace: a letter -/
theorem wm_replL {post : Int32 → St2 → Prop} {b x : Nat} {f2 : Int32} {a1 a2 a3 a4 a5 a6 : Nat → Int32} (hb : b < 2) (hx : x < 5)
    (H0 : b = 0 → post 1 (nI 2, nI 2, 0, upd a1 1 (nI x), a2, a3, a4, a5, a6)) (H1 : b ≠ 0 → post 1 (nI 2, nI 2, 0, a1, upd a2 1 (nI x), a3, a4, a5, a6)) : wpX_replace post (nI 2, nI 2, f2, a1, a2, a3, a4, a5, a6) (nI b) 1 (nI x) := by
  refine br_f (by decide) (wm_len2 hb (br_f (by decide) (br_f (nI_pos (by omega)) (br_t (nI_le (b := 4) (by omega) (by omega)) (pk_eq b 0 (fun z => ?_) (fun z => ?_))))))
  · refine And.intro (pk_in 1 40 (by omega)) (nm_r (e' := upd a1 1 (nI x)) ?_ (H0 z))
    rw [pk_cl 1, wm_nar x hx]
  · refine And.intro (pk_in 1 12 (by omega)) (nm_r (e' := upd a2 1 (nI x)) ?_ (H1 z))
    rw [pk_cl 1, wm_nar x hx]
def wm_df (x y : Nat) : Nat := if x = y then 0 else if x = 0 then 0 else if y = 0 then 0 else 1
theorem wm_differ {post : Int32 → Prop} {x y : Nat} (hx : x < 5) (hy : y < 5) (H : post (nI (wm_df x y))) : wpL_differ post () (nI x) (nI y) := by
  unfold wm_df at H
  refine pk_eq x y (fun z => ?_) (fun z => pk_eq x 0 (fun w => ?_) (fun w => pk_eq y 0 (fun u => ?_) (fun u => ?_)))
  · rw [if_pos z] at H
    exact H
  · rw [if_neg z, if_pos w] at H
    exact H
  · rw [if_neg z, if_neg w, if_pos u] at H
    exact H
  · rw [if_neg z, if_neg w, if_neg u] at H
    exact H
theorem wm_df_lt (x y : Nat) : wm_df x y < 2 := by
  unfold wm_df
  split
  · decide
  · split
    · decide
    · split
      · decide
      · decide
/-- the numbers: mismatches at the shifts 0 and 1, matches of one letter -/
theorem wm_W1 : ∀ t0, t0 < 5 → ∀ t1, t1 < 5 → ∀ p0, p0 < 5 → ∀ p1, p1 < 5 → wm_W 2 t0 t1 p0 p1 1 % 7681 = wm_df t0 p0 + wm_df t1 p1 ∧ wm_W 2 t0 t1 p0 p1 2 % 7681 = wm_df t1 p0 + wm_df t0 p1 := by decide +kernel
theorem wm_D0' : ∀ t0, t0 < 5 → ∀ p0, p0 < 5 → (wm_D 1 t0 0 p0 0 0 % 7681 = 0 ↔ wm_df t0 p0 = 0) := by decide +kernel
theorem wm_D0 {t0 p0 : Nat} (t1 p1 : Nat) (h : t0 < 5) (h' : p0 < 5) : wm_D 1 t0 t1 p0 p1 0 % 7681 = 0 ↔ wm_df t0 p0 = 0 := wm_D0' t0 h p0 h'
theorem wm_mis {post : Int32 → St2 → Prop} {a1 a2 a3 a4 a5 a6 : Nat → Int32} {t p : Nat → Nat} (ht : wm_L 2 t a1) (hp : wm_L 2 p a2) (h3 : wm_Rt a3)
    (H : ∀ b4 b5 b6, b6 0 = nI (wm_df (t 0) (p 0) + wm_df (t 1) (p 1)) → b6 1 = nI (wm_df (t 1) (p 0) + wm_df (t 0) (p 1)) → post (nI (wm_df (t 0) (p 0) + wm_df (t 1) (p 1))) (nI 2, nI 2, 1, a1, a2, a3, b4, b5, b6)) :
    wpX_mismatches post (nI 2, nI 2, 0, a1, a2, a3, a4, a5, a6) 0 := by
  refine br_f (by decide) (br_f (by decide) (br_f (by decide) ?_))
  unfold wpX_wrongAt
  refine wm_prepare (Or.inr rfl) ht hp h3 (fun b4 b5 b6 _ h6 => ?_)
  obtain ⟨w1, w2⟩ := wm_W1 (t 0) (ht 0 (by omega)).1 (t 1) (ht 1 (by omega)).1 (p 0) (hp 0 (by omega)).1 (p 1) (hp 1 (by omega)).1
  have g0 : b6 0 = nI (wm_df (t 0) (p 0) + wm_df (t 1) (p 1)) := (h6 0 (by omega)).trans (congrArg nI w1)
  have g1 : b6 1 = nI (wm_df (t 1) (p 0) + wm_df (t 0) (p 1)) := (h6 1 (by omega)).trans (congrArg nI w2)
  have K := H b4 b5 b6 g0 g1
  rw [← g0] at K
  exact br_f (by decide) (And.intro (pk_in 0 40 (by omega)) K)
theorem wm_turn {post : Int32 → St2 → Prop} {a1 a2 a3 a4 a5 a6 : Nat → Int32} (H : post (a6 1) (nI 2, nI 2, 1, a1, a2, a3, a4, a5, a6)) : wpX_turnedMismatches post (nI 2, nI 2, 1, a1, a2, a3, a4, a5, a6) 1 :=
  br_f (by decide) (br_f (by decide) (br_t (by decide) (br_f (by decide) (br_f (by decide) (And.intro (pk_in 1 40 (by omega)) H)))))
theorem wm_short {post : Int32 → St2 → Prop} {b x : Nat} {f2 : Int32} {a1 a2 a3 a4 a5 a6 : Nat → Int32} (hb : b < 2) (hx : x < 5) (h0 : b = 0 → a1 1 = nI x) (h1 : b ≠ 0 → a2 1 = nI x)
    (H0 : b = 0 → post 1 (nI 1, nI 2, 0, upd a1 0 (nI x), a2, a3, a4, a5, a6)) (H1 : b ≠ 0 → post 1 (nI 2, nI 1, 0, a1, upd a2 0 (nI x), a3, a4, a5, a6)) : wpX_shorten post (nI 2, nI 2, f2, a1, a2, a3, a4, a5, a6) (nI b) := by
  have hn : vp_nar .byte (nI x) = nI x := by rw [vp_nar_byte, wm_nar x hx]
  unfold wpX_shorten
  refine wm_len2 hb (nm_r (e' := nI 1) rfl (br_t (by decide) ⟨2, br_f (by decide) (pk_eq b 0 (fun z => ?_) (fun z => ?_))⟩))
  · refine And.intro (pk_in 1 40 (by omega)) (And.intro (pk_in 0 40 (by omega)) (nm_r (e' := upd a1 0 (nI x)) ?_ (nm_r (e' := nI 1) rfl (br_t (by decide) (br_t (by rw [z]; rfl) (H0 z))))))
    rw [pk_cl (x := (0 : Int32) + 1) 1, pk_cl (x := (0 : Int32)) 0, h0 z, hn]
  · refine And.intro (pk_in 1 12 (by omega)) (And.intro (pk_in 0 12 (by omega)) (nm_r (e' := upd a2 0 (nI x)) ?_ (nm_r (e' := nI 1) rfl (br_t (by decide) (br_f (nI_ne0 (by omega) (by omega)) (H1 z))))))
    rw [pk_cl (x := (0 : Int32) + 1) 1, pk_cl (x := (0 : Int32)) 0, h1 z, hn]
theorem wm_match1 {post : Int32 → St2 → Prop} {a1 a2 a3 a4 a5 a6 : Nat → Int32} {t p : Nat → Nat} (ht : wm_L 2 t a1) (hp : wm_L 1 p a2) (h3 : wm_Rt a3)
    (H0 : wm_df (t 0) (p 0) = 0 → ∀ b4 b5 b6, post 1 (nI 2, nI 1, 1, a1, a2, a3, b4, b5, b6)) (H1 : wm_df (t 0) (p 0) ≠ 0 → ∀ b4 b5 b6, post 0 (nI 2, nI 1, 1, a1, a2, a3, b4, b5, b6)) : wpX_matches post (nI 2, nI 1, 0, a1, a2, a3, a4, a5, a6) 0 := by
  refine br_f (by decide) (br_f (by decide) (br_f (by decide) ?_))
  refine wm_prepare (Or.inl rfl) ht hp h3 (fun b4 b5 b6 h5 _ => ?_)
  have w := wm_D0 (t 1) (p 1) (ht 0 (by omega)).1 (hp 0 (by omega)).1
  have g : b5 0 = nI (wm_D 1 (t 0) (t 1) (p 0) (p 1) 0 % 7681) := h5 0 (by omega)
  refine br_f (by decide) (And.intro (pk_in 0 40 (by omega)) ?_)
  exact pk_eq (wm_D 1 (t 0) (t 1) (p 0) (p 1) 0 % 7681) 0 (fun z => H0 (w.mp z) b4 b5 b6) (fun z => H1 (fun y => z (w.mpr y)) b4 b5 b6) g
theorem wm_match0 {post : Int32 → St2 → Prop} {a1 a2 a3 a4 a5 a6 : Nat → Int32} (H : post 0 (nI 1, nI 2, 0, a1, a2, a3, a4, a5, a6)) : wpX_matches post (nI 1, nI 2, 0, a1, a2, a3, a4, a5, a6) 0 :=
  br_f (by decide) (br_t (by decide) (br_t rfl H))
theorem wm_273 {b : Nat} {kc ks mc ms : Nat} {x13 x14 z f0 f1 f2 : Int32} {a1 a2 a3 a4 a5 a6 : Nat → Int32} (h0 : b = 0 → f0 = 1 ∧ a1 0 = x13) (h1 : b ≠ 0 → f1 = 1 ∧ a2 0 = x14) (hb : b < 2) :
    wL_lawOf_273 (fun r _ => r = 1) mc ms (nI b) x13 x14 z z kc ks f0 f1 f2 a1 a2 a3 a4 a5 a6 := by
  refine br_t rfl (br_f (by decide) (pk_eq b 0 (fun z => ?_) (fun z => ?_)))
  · obtain ⟨g1, g2⟩ := h0 z
    rw [g1]
    exact br_t (by decide) (br_t (by rw [z]; rfl) (And.intro (pk_in 0 40 (by omega)) (br_t (by rw [z]; rfl) (br_t g2 rfl))))
  · obtain ⟨g1, g2⟩ := h1 z
    rw [g1]
    have n0 : ¬ nI b = 0 := nI_ne0 (by omega) (by omega)
    exact br_t (by decide) (br_f n0 (And.intro (pk_in 0 12 (by omega)) (br_f n0 (br_t g2 rfl))))
theorem wm_172 {b t0 t1 p0 p1 kc ks mc ms : Nat} {a1 a2 a3 a4 a5 a6 : Nat → Int32} (hb : b < 2) (h0 : t0 < 5) (h1 : t1 < 5) (g0 : p0 < 5) (g1 : p1 < 5) (e0 : a1 0 = nI t0) (e1 : a1 1 = nI t1) (d0 : a2 0 = nI p0) (d1 : a2 1 = nI p1) (h3 : wm_Rt a3) :
    wL_lawOf_172 (fun r _ => r = 1) mc ms (nI t0) (nI p0) (nI b) (nI t1) (nI p1) kc ks (nI 2) (nI 2) 0 a1 a2 a3 a4 a5 a6 := by
  have ht : wm_L 2 (fun j => if j = 0 then t0 else t1) a1 := fun j hj => co_2 (P := fun j => (if j = 0 then t0 else t1) < 5 ∧ a1 j = nI (if j = 0 then t0 else t1)) ⟨h0, e0⟩ ⟨h1, e1⟩ hj
  have hp : wm_L 2 (fun j => if j = 0 then p0 else p1) a2 := fun j hj => co_2 (P := fun j => (if j = 0 then p0 else p1) < 5 ∧ a2 j = nI (if j = 0 then p0 else p1)) ⟨g0, d0⟩ ⟨g1, d1⟩ hj
  refine wm_differ h0 g0 (wm_differ h1 g1 (nm_r (nI_add _ _) ?_))
  refine wm_mis ht hp h3 (fun b4 b5 b6 w0 w1 => br_t rfl ?_)
  refine wm_turn (wm_differ h1 g0 (wm_differ h0 g1 (br_t ?_ ?_)))
  · rw [nI_add]
    exact w1
  · refine wm_short (x := if b = 0 then t1 else p1) hb ?_ (fun z => ?_) (fun z => ?_) (fun z => br_t rfl ?_) (fun z => br_t rfl ?_)
    · split
      · exact h1
      · exact g1
    · rw [if_pos z]
      exact e1
    · rw [if_neg z]
      exact d1
    · refine wm_match0 (br_t (by rw [z]; rfl) (wm_273 (fun _ => ⟨rfl, ?_⟩) (fun y => absurd z y) hb))
      rw [pk_us, if_pos z]
    · have hp' : wm_L 1 (fun _ => p1) (upd a2 0 (nI (if b = 0 then t1 else p1))) := fun j hj => ⟨g1, by rw [show j = 0 by omega, pk_us, if_neg z]⟩
      have n0 : ¬ nI b = 0 := nI_ne0 (by omega) (by omega)
      have fin : ∀ w b4 b5 b6, wL_lawOf_273 (fun r _ => r = 1) mc ms (nI b) (nI t1) (nI p1) w w kc ks (nI 2) (nI 1) 1 a1 (upd a2 0 (nI (if b = 0 then t1 else p1))) a3 b4 b5 b6 := fun w b4 b5 b6 =>
        wm_273 (fun y => absurd y z) (fun _ => ⟨rfl, by rw [pk_us, if_neg z]⟩) hb
      refine wm_match1 ht hp' h3 (fun y b4 b5 b6 => br_f n0 (wm_differ h0 g1 (br_t ?_ (fin 1 b4 b5 b6)))) (fun y b4 b5 b6 => br_f n0 (wm_differ h0 g1 (br_f ?_ (fin 0 b4 b5 b6))))
      · have y' : wm_df t0 p1 = 0 := y
        rw [y']
        rfl
      · have y' : wm_df t0 p1 ≠ 0 := y
        exact nI_ne0 (by omega) (by have := wm_df_lt t0 p1; omega)
theorem wm_67 {b t0 t1 p0 p1 c : Nat} {e : Int32} (hb : b < 2) (h0 : t0 < 5) (h1 : t1 < 5) (g0 : p0 < 5) (g1 : p1 < 5) (hc : (c = 0 ∧ (e < 0 ∨ ¬ e ≤ 4)) ∨ (c = 1 ∧ ∃ v, v < 5 ∧ e = nI v)) :
    wL_lawOf_67 (fun r _ => r = 1) 194 3088 e (nI t0) (nI t1) (nI p0) (nI p1) (nI c) (nI b) 0 0 := by
  refine And.intro (by omega) (And.intro (by omega) ⟨6, 388, by omega, by omega, ?_⟩)
  refine wm_init (by omega) (by omega) (fun a3 h3 => ?_)
  refine wm_type (n := 0) (m := 0) (b := 0) (by omega) h0 (by omega) (by omega) (fun _ => ?_) (fun z => absurd rfl z)
  refine wm_type (n := 1) (m := 0) (b := 1) (by omega) g0 (by omega) (by omega) (fun z => absurd z (by omega)) (fun _ => ?_)
  refine wm_type (n := 1) (m := 1) (b := 0) (by omega) h1 (by omega) (by omega) (fun _ => ?_) (fun z => absurd rfl z)
  refine wm_type (n := 2) (m := 1) (b := 1) (by omega) g1 (by omega) (by omega) (fun z => absurd z (by omega)) (fun _ => br_t rfl ?_)
  rcases hc with ⟨rfl, he⟩ | ⟨rfl, v, hv, rfl⟩
  · refine wm_replN hb he (br_t rfl (br_t rfl (br_t rfl ?_)))
    exact wm_172 hb h0 h1 g0 g1 rfl rfl rfl rfl h3
  · refine wm_replL hb hv (fun z => br_t rfl (br_f (by decide) ?_)) (fun z => br_t rfl (br_f (by decide) ?_))
    · subst z
      refine br_t rfl (br_f (by decide) (br_t rfl ?_))
      exact wm_172 hb h0 hv g0 g1 rfl rfl rfl rfl h3
    · have n0 : ¬ nI b = 0 := nI_ne0 (by omega) (by omega)
      refine br_f n0 (br_f (by decide) (br_f n0 ?_))
      exact wm_172 hb h0 h1 g0 hv rfl rfl rfl rfl h3
theorem wm_52 {t0 t1 p0 p1 c : Nat} {e f : Int32} (h0 : t0 < 5) (h1 : t1 < 5) (g0 : p0 < 5) (g1 : p1 < 5) (hc : (c = 0 ∧ (e < 0 ∨ ¬ e ≤ 4)) ∨ (c = 1 ∧ ∃ v, v < 5 ∧ e = nI v)) :
    wL_lawOf_52 (fun r _ => r = 1) 194 3088 e f (nI t0) (nI t1) (nI p0) (nI p1) (nI c) 0 0 :=
  br_c (fun _ => wm_67 (b := 1) (by omega) h0 h1 g0 g1 hc) (fun _ => wm_67 (b := 0) (by omega) h0 h1 g0 g1 hc)
theorem wm_red (x : Int32) : ∃ j, j < 5 ∧ (x &&& 255) - (x &&& 255) / 5 * 5 = nI j := by
  obtain ⟨j, hj, e⟩ := pk_andE x (m := 255) 8 (by decide)
  refine ⟨j % 5, Nat.mod_lt _ (by decide), ?_⟩
  rw [e]
  exact pk_rem (d := 5) (by omega) (by decide) (by decide)
theorem wm_lawOf (p0 p1 p2 p3 p4 p5 : Int32) : wpL_lawOf (fun r _ => r = 1) 194 3088 () p0 p1 p2 p3 p4 p5 := by
  obtain ⟨t0, h0, e0⟩ := wm_red p0
  obtain ⟨t1, h1, e1⟩ := wm_red p1
  obtain ⟨q0, g0, d0⟩ := wm_red p2
  obtain ⟨q1, g1, d1⟩ := wm_red p3
  have d : ¬ (5 : Int32) = 0 := by decide
  refine And.intro d (nm_r e0 (And.intro d (nm_r e1 (And.intro d (nm_r d0 (And.intro d (nm_r d1 (br_c (fun z => ?_) (fun z => br_c (fun y => ?_) (fun y => ?_))))))))))
  · exact wm_52 (c := 0) h0 h1 g0 g1 (Or.inl ⟨rfl, Or.inl z⟩)
  · exact wm_52 (c := 0) h0 h1 g0 g1 (Or.inl ⟨rfl, Or.inr (fun w => absurd y (Int32.not_lt.mpr w))⟩)
  · obtain ⟨v, hv, e⟩ := nI_of2 (M := 4) (n := 4) (by decide) z (Int32.not_lt.mp y)
    exact wm_52 (c := 1) h0 h1 g0 g1 (Or.inr ⟨rfl, v, by omega, e⟩)
theorem wm_cell {post : Int32 → Prop} {L : Nat} {xs : Nat → Int32} (k : Nat) (hL : L ≤ 6) (hk : k < 6) (H : ∀ x, post x) : wpL_cellAt post L xs () (nI k) :=
  pk_le L k (fun _ => H 0) (fun z => And.intro (pk_in k L z) (H _))
theorem i_vc (xs : Nat → Int32) (L : Nat) (hL : L ≤ 6) : wpL_law (fun r => r = 1) L xs :=
  wm_cell 0 hL (by omega) (fun r1 => wm_cell 1 hL (by omega) (fun r2 => wm_cell 2 hL (by omega) (fun r3 => wm_cell 3 hL (by omega) (fun r4 => wm_cell 4 hL (by omega) (fun r5 => wm_cell 5 hL (by omega) (fun r6 => ⟨194, 3088, by omega, by omega, wm_lawOf r1 r2 r3 r4 r5 r6⟩))))))
end
