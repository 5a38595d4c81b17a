section
/-! the plain picture: one instruction (op, x, y, z); the sequential machine's state (vectors, scalars, cells, length) -/
abbrev cv_I : Type := Nat × Nat × Int32 × Int32
abbrev cv_A : Type := (Nat → Int32) × (Nat → Int32) × (Nat → Int32) × Nat
def cv_up (f : Nat → Nat) (k v : Nat) : Nat → Nat := fun j => if j = k then v else f j
theorem cv_us {f : Nat → Nat} {k v : Nat} : cv_up f k v k = v := by simp [cv_up]
theorem cv_un {f : Nat → Nat} {k v j : Nat} (h : j ≠ k) : cv_up f k v j = f j := by simp [cv_up, h]
def cv_wr (c : cv_I) (v : Nat) : Prop := c.1 ≤ 8 ∧ c.1 ≠ 7 ∧ c.2.1 = v
def cv_rd (c : cv_I) (v : Nat) : Prop := (c.1 ≤ 3 ∧ (c.2.2.1 = nI v ∨ c.2.2.2 = nI v)) ∨ (c.1 = 7 ∧ c.2.1 = v) ∨ ((c.1 = 4 ∨ c.1 = 5 ∨ c.1 = 8 ∨ c.1 = 9) ∧ c.2.2.1 = nI v)
def cv_unit (o : Nat) : Nat := if o = 2 ∨ o = 5 then 1 else if o ≤ 4 then 0 else if o ≤ 8 then 2 else 3
def cv_wf (c : cv_I) : Prop := c.1 ≤ 12 ∧ c.2.1 < 4 ∧ (c.1 ≠ 10 → c.1 ≠ 12 → ∃ y, y < 4 ∧ c.2.2.1 = nI y) ∧ (c.1 ≤ 5 ∨ c.1 = 11 → ∃ z, z < 4 ∧ c.2.2.2 = nI z)
def cv_addr (c : cv_I) (A : cv_A) (i : Nat) : Nat := ((A.2.1 c.2.2.1.toNatClampNeg + nI i * c.2.2.2) &&& 63).toNatClampNeg
def cv_res (c : cv_I) (A : cv_A) (i : Nat) : Int32 :=
  if c.1 = 7 then A.1 (16 * c.2.1 + i)
  else if c.1 = 6 then A.2.2.1 (cv_addr c A i)
  else if c.1 = 8 then A.2.2.1 (A.1 (16 * c.2.2.1.toNatClampNeg + i) &&& 63).toNatClampNeg
  else if c.1 = 4 then A.1 (16 * c.2.2.1.toNatClampNeg + i) + A.2.1 c.2.2.2.toNatClampNeg
  else if c.1 = 5 then A.1 (16 * c.2.2.1.toNatClampNeg + i) * A.2.1 c.2.2.2.toNatClampNeg
  else if c.1 = 9 then A.1 (16 * c.2.2.1.toNatClampNeg + i)
  else if c.1 = 0 then A.1 (16 * c.2.2.1.toNatClampNeg + i) + A.1 (16 * c.2.2.2.toNatClampNeg + i)
  else if c.1 = 1 then A.1 (16 * c.2.2.1.toNatClampNeg + i) - A.1 (16 * c.2.2.2.toNatClampNeg + i)
  else if c.1 = 2 then A.1 (16 * c.2.2.1.toNatClampNeg + i) * A.1 (16 * c.2.2.2.toNatClampNeg + i)
  else if A.1 (16 * c.2.2.1.toNatClampNeg + i) ≤ A.1 (16 * c.2.2.2.toNatClampNeg + i) then A.1 (16 * c.2.2.2.toNatClampNeg + i)
  else A.1 (16 * c.2.2.1.toNatClampNeg + i)
def cv_sto (c : cv_I) (A : cv_A) : Nat → (Nat → Int32)
  | 0 => A.2.2.1
  | i + 1 => upd (cv_sto c A i) (cv_addr c A i) (A.1 (16 * c.2.1 + i))
def cv_sum (c : cv_I) (A : cv_A) : Nat → Int32
  | 0 => 0
  | i + 1 => cv_sum c A i + A.1 (16 * c.2.2.1.toNatClampNeg + i)
def cv_clip (s : Int32) : Nat := if 0 ≤ s then (if s ≤ 16 then s.toNatClampNeg else 16) else 0
def cv_step (c : cv_I) (A : cv_A) : cv_A :=
  ((fun m => if (c.1 ≤ 8 ∧ c.1 ≠ 7) ∧ 16 * c.2.1 ≤ m ∧ m < 16 * c.2.1 + A.2.2.2 then cv_res c A (m - 16 * c.2.1) else A.1 m),
   (if c.1 = 9 then upd A.2.1 c.2.1 (cv_sum c A A.2.2.2) else if c.1 = 10 then upd A.2.1 c.2.1 c.2.2.1 else if c.1 = 11 then upd A.2.1 c.2.1 (A.2.1 c.2.2.1.toNatClampNeg + A.2.1 c.2.2.2.toNatClampNeg) else A.2.1),
   (if c.1 = 7 then cv_sto c A A.2.2.2 else A.2.2.1),
   (if c.1 = 12 then cv_clip (A.2.1 c.2.1) else A.2.2.2))
def cv_R (P : Nat → cv_I) (A : cv_A) : Nat → cv_A
  | 0 => A
  | k + 1 => cv_step (P k) (cv_R P A k)
theorem cv_clip_le (s : Int32) : cv_clip s ≤ 16 := by
  unfold cv_clip
  by_cases h : 0 ≤ s
  · rw [if_pos h]
    by_cases h2 : s ≤ 16
    · rw [if_pos h2]
      obtain ⟨j, hj, rfl⟩ := nI_of2 (x := s) (M := 16) (n := 16) (by decide) (by rw [Int32.lt_iff_toInt_lt]; rw [Int32.le_iff_toInt_le] at h; omega) h2
      rw [nI_clamp (by omega)]
      exact hj
    · rw [if_neg h2]; exact Nat.le_refl _
  · rw [if_neg h]; omega
theorem cv_step_len {c : cv_I} {A : cv_A} (h : A.2.2.2 ≤ 16) : (cv_step c A).2.2.2 ≤ 16 := by
  unfold cv_step
  dsimp only
  by_cases e : c.1 = 12
  · rw [if_pos e]; exact cv_clip_le _
  · rw [if_neg e]; exact h
theorem cv_R_len {P : Nat → cv_I} {A : cv_A} (h : A.2.2.2 ≤ 16) : ∀ k, (cv_R P A k).2.2.2 ≤ 16
  | 0 => h
  | k + 1 => cv_step_len (cv_R_len h k)
theorem cv_hit {c : cv_I} {A : cv_A} {v i : Nat} (hw : cv_wr c v) (hi : i < A.2.2.2) : (cv_step c A).1 (16 * v + i) = cv_res c A i := by
  obtain ⟨h1, h2, h3⟩ := hw
  unfold cv_step
  dsimp only
  rw [if_pos ⟨⟨h1, h2⟩, by omega, by omega⟩, h3, show 16 * v + i - 16 * v = i by omega]
theorem cv_miss {c : cv_I} {A : cv_A} {v i : Nat} (hA : A.2.2.2 ≤ 16) (hi : i < 16) (h : ¬ (cv_wr c v ∧ i < A.2.2.2)) : (cv_step c A).1 (16 * v + i) = A.1 (16 * v + i) := by
  unfold cv_step
  dsimp only
  rw [if_neg]
  rintro ⟨⟨h1, h2⟩, h3, h4⟩
  exact h ⟨⟨h1, h2, by omega⟩, by omega⟩
theorem cv_c7 {c : cv_I} {A : cv_A} (h : c.1 ≠ 7) : (cv_step c A).2.2.1 = A.2.2.1 := by
  unfold cv_step; dsimp only; rw [if_neg h]
theorem cv_c7' {c : cv_I} {A : cv_A} (h : c.1 = 7) : (cv_step c A).2.2.1 = cv_sto c A A.2.2.2 := by
  unfold cv_step; dsimp only; rw [if_pos h]
theorem cv_s9 {c : cv_I} {A : cv_A} (h : c.1 ≤ 8 ∨ c.1 = 12) : (cv_step c A).2.1 = A.2.1 := by
  unfold cv_step; dsimp only; rw [if_neg (by omega), if_neg (by omega), if_neg (by omega)]
theorem cv_s9' {c : cv_I} {A : cv_A} (h : c.1 = 9) : (cv_step c A).2.1 = upd A.2.1 c.2.1 (cv_sum c A A.2.2.2) := by
  unfold cv_step; dsimp only; rw [if_pos h]
theorem cv_s10 {c : cv_I} {A : cv_A} (h : c.1 = 10) : (cv_step c A).2.1 = upd A.2.1 c.2.1 c.2.2.1 := by
  unfold cv_step; dsimp only; rw [if_neg (by omega), if_pos h]
theorem cv_s11 {c : cv_I} {A : cv_A} (h : c.1 = 11) : (cv_step c A).2.1 = upd A.2.1 c.2.1 (A.2.1 c.2.2.1.toNatClampNeg + A.2.1 c.2.2.2.toNatClampNeg) := by
  unfold cv_step; dsimp only; rw [if_neg (by omega), if_neg (by omega), if_pos h]
theorem cv_l12 {c : cv_I} {A : cv_A} (h : c.1 ≠ 12) : (cv_step c A).2.2.2 = A.2.2.2 := by
  unfold cv_step; dsimp only; rw [if_neg h]
theorem cv_l12' {c : cv_I} {A : cv_A} (h : c.1 = 12) : (cv_step c A).2.2.2 = cv_clip (A.2.1 c.2.1) := by
  unfold cv_step; dsimp only; rw [if_pos h]
theorem cv_upd_ext {f : Nat → Int32} {k : Nat} {x : Int32} {g : Nat → Int32} (h1 : x = g k) (h2 : ∀ j, j ≠ k → f j = g j) : upd f k x = g := by
  funext j
  by_cases e : j = k
  · rw [e, pk_us, h1]
  · rw [pk_un e, h2 j e]
/-! the units: W working, H which instruction, C its length, B begun, F finished, Q a bound of what is still to wait -/
def cv_fin (W H F : Nat → Nat) (j i : Nat) : Prop := ∀ w, w < 4 → W w ≠ 0 → H w = j → i < F w
def cv_uni (P : Nat → cv_I) (R : Nat → cv_A) (k : Nat) (W H C B F : Nat → Nat) : Prop :=
  ∀ w, w < 4 → W w ≠ 0 → H w < k ∧ F w ≤ B w ∧ B w ≤ C w ∧ C w = (R (H w)).2.2.2 ∧ (P (H w)).1 ≤ 9 ∧ cv_unit (P (H w)).1 = w
def cv_haz (P : Nat → cv_I) (R : Nat → cv_A) (k : Nat) (W H B F : Nat → Nat) : Prop :=
  ∀ j l v i, j < l → l < k → i < (R j).2.2.2 → i < (R l).2.2.2 → cv_fin W H B l i → (cv_wr (P j) v → (cv_wr (P l) v ∨ cv_rd (P l) v) → cv_fin W H F j i) ∧ (cv_rd (P j) v → cv_wr (P l) v → cv_fin W H B j i)
def cv_vec (P : Nat → cv_I) (R : Nat → cv_A) (k : Nat) (W H F : Nat → Nat) (vec : Nat → Int32) : Prop :=
  ∀ v i m, i < 16 → m ≤ k → (∀ j, j < m → cv_wr (P j) v → i < (R j).2.2.2 → cv_fin W H F j i) → (∀ j, m ≤ j → j < k → cv_wr (P j) v → i < (R j).2.2.2 → ¬ cv_fin W H F j i) → vec (16 * v + i) = (R m).1 (16 * v + i)
def cv_val (P : Nat → cv_I) (R : Nat → cv_A) (W H B F : Nat → Nat) (val : Nat → Int32) (cel : Nat → Nat) : Prop :=
  ∀ w i, w < 4 → W w ≠ 0 → F w ≤ i → i < B w → val (16 * w + i) = cv_res (P (H w)) (R (H w)) i ∧ ((P (H w)).1 = 7 → cel (16 * w + i) = cv_addr (P (H w)) (R (H w)) i)
def cv_sin (P : Nat → cv_I) (R : Nat → cv_A) (W H : Nat → Nat) (sin : Nat → Int32) : Prop :=
  ∀ w, w < 4 → W w ≠ 0 → ((P (H w)).1 = 4 ∨ (P (H w)).1 = 5 → sin w = (R (H w)).2.1 (P (H w)).2.2.2.toNatClampNeg) ∧ ((P (H w)).1 = 6 ∨ (P (H w)).1 = 7 → sin w = (R (H w)).2.1 (P (H w)).2.2.1.toNatClampNeg)
def cv_rdy (D t : Nat) (W C B Q rdy : Nat → Nat) : Prop :=
  ∀ w, w < 4 → W w ≠ 0 → Q w ≤ D ∧ (B w < C w → Q w = D) ∧ ∀ i, i < B w → rdy (16 * w + i) ≤ t + Q w
def cv_mem (P : Nat → cv_I) (R : Nat → cv_A) (k : Nat) (W H F : Nat → Nat) (cells : Nat → Int32) : Prop :=
  (W 2 = 0 → cells = (R k).2.2.1) ∧ (W 2 ≠ 0 → cells = (if (P (H 2)).1 = 7 then cv_sto (P (H 2)) (R (H 2)) (F 2) else (R (H 2)).2.2.1) ∧ (R k).2.2.1 = (R (H 2 + 1)).2.2.1)
def cv_sca (P : Nat → cv_I) (R : Nat → cv_A) (k : Nat) (W H F : Nat → Nat) (scal : Nat → Int32) (sm : Int32) : Prop :=
  (∀ s, W 3 = 0 ∨ s ≠ (P (H 3)).2.1 → scal s = (R k).2.1 s) ∧ (W 3 ≠ 0 → (R k).2.1 (P (H 3)).2.1 = cv_sum (P (H 3)) (R (H 3)) (R (H 3)).2.2.2 ∧ sm = cv_sum (P (H 3)) (R (H 3)) (F 3))
def cv_J (P : Nat → cv_I) (R : Nat → cv_A) (D k t : Nat) (sm : Int32) (vec scal cells : Nat → Int32) (W H C B F Q : Nat → Nat) (sin val : Nat → Int32) (cel rdy : Nat → Nat) : Prop :=
  cv_uni P R k W H C B F ∧ cv_haz P R k W H B F ∧ cv_vec P R k W H F vec ∧ cv_val P R W H B F val cel ∧ cv_sin P R W H sin ∧ cv_rdy D t W C B Q rdy ∧ cv_mem P R k W H F cells ∧ cv_sca P R k W H F scal sm
section
variable {P : Nat → cv_I} {R : Nat → cv_A} {W H C B F Q : Nat → Nat} {k w : Nat}
theorem cv_R_same (hR : ∀ j, R (j + 1) = cv_step (P j) (R j)) (hl : ∀ j, (R j).2.2.2 ≤ 16) {v i : Nat} (hi : i < 16) : ∀ d a, (∀ j, a ≤ j → j < a + d → cv_wr (P j) v → i < (R j).2.2.2 → False) → (R (a + d)).1 (16 * v + i) = (R a).1 (16 * v + i)
  | 0, a, _ => rfl
  | d + 1, a, h => by
    have e : R (a + (d + 1)) = cv_step (P (a + d)) (R (a + d)) := hR (a + d)
    rw [e, cv_miss (hl _) hi (fun z => h (a + d) (by omega) (by omega) z.1 z.2)]
    exact cv_R_same hR hl hi d a (fun j h1 h2 => h j h1 (by omega))
theorem cv_inj (hu : cv_uni P R k W H C B F) {a b : Nat} (ha : a < 4) (hb : b < 4) (wa : W a ≠ 0) (wb : W b ≠ 0) (e : H a = H b) : a = b := by
  have h1 := (hu a ha wa).2.2.2.2.2
  have h2 := (hu b hb wb).2.2.2.2.2
  rw [← h1, ← h2, e]
theorem cv_fb (hu : cv_uni P R k W H C B F) {j i : Nat} (h : cv_fin W H F j i) : cv_fin W H B j i := fun w hw hW e => Nat.lt_of_lt_of_le (h w hw hW e) (hu w hw hW).2.1
theorem cv_f_ne {a j i : Nat} (h : H w ≠ j) : cv_fin W H (cv_up F w a) j i ↔ cv_fin W H F j i := by
  constructor
  · intro g x hx hW e
    have g2 := g x hx hW e
    rw [cv_un (fun z => h (by rw [← z]; exact e))] at g2
    exact g2
  · intro g x hx hW e
    rw [cv_un (fun z => h (by rw [← z]; exact e))]
    exact g x hx hW e
theorem cv_f_up {j i : Nat} (h : cv_fin W H F j i) : cv_fin W H (cv_up F w (F w + 1)) j i := by
  intro x hx hW e
  by_cases z : x = w
  · rw [z, cv_us]
    have := h x hx hW e
    rw [z] at this
    omega
  · rw [cv_un z]; exact h x hx hW e
theorem cv_f_new (hu : cv_uni P R k W H C B F) (hw : w < 4) (hW : W w ≠ 0) (a : Nat) {i : Nat} (hi : i < a) : cv_fin W H (cv_up F w a) (H w) i := by
  intro x hx hX e
  rw [cv_inj hu hx hw hX hW e, cv_us]
  exact hi
theorem cv_f_old {j i : Nat} (hw : w < 4) (hW : W w ≠ 0) (h : cv_fin W H (cv_up F w (F w + 1)) j i) (hn : j = H w → i ≠ F w) : cv_fin W H F j i := by
  intro x hx hX e
  have h2 := h x hx hX e
  by_cases z : x = w
  · rw [z] at e ⊢
    have h3 := h w hw hW e
    rw [cv_us] at h3
    have := hn e.symm
    omega
  · rw [cv_un z] at h2; exact h2
/-- one element is delivered: the count alone -/
theorem cv_uni_F (hu : cv_uni P R k W H C B F) (hF : F w < B w) : cv_uni P R k W H C B (cv_up F w (F w + 1)) := by
  intro x hx hX
  obtain ⟨h1, h2, h3⟩ := hu x hx hX
  refine ⟨h1, ?_, h3⟩
  by_cases z : x = w
  · rw [z, cv_us]; exact hF
  · rw [cv_un z]; exact h2
theorem cv_haz_F (hz : cv_haz P R k W H B F) : cv_haz P R k W H B (cv_up F w (F w + 1)) := by
  intro j l v i h1 h2 h3 h4 h5
  obtain ⟨g1, g2⟩ := hz j l v i h1 h2 h3 h4 h5
  exact ⟨fun a b => cv_f_up (g1 a b), g2⟩
theorem cv_val_F {val : Nat → Int32} {cel : Nat → Nat} (hv : cv_val P R W H B F val cel) : cv_val P R W H B (cv_up F w (F w + 1)) val cel := by
  intro x i hx hX h1 h2
  refine hv x i hx hX ?_ h2
  by_cases z : x = w
  · rw [z, cv_us] at h1; rw [z]; omega
  · rw [cv_un z] at h1; exact h1
/-- a unit that writes no vector has delivered -/
theorem cv_vec_F0 {vec : Nat → Int32} (hv : cv_vec P R k W H F vec) (hw : w < 4) (hW : W w ≠ 0) (hn : ∀ v, ¬ cv_wr (P (H w)) v) : cv_vec P R k W H (cv_up F w (F w + 1)) vec := by
  intro v i m hi hm h1 h2
  refine hv v i m hi hm (fun j a b c => cv_f_old hw hW (h1 j a b c) (fun e => absurd b (by rw [e]; exact hn v))) (fun j a b c d e => h2 j a b c d (cv_f_up e))
/-- a vector element is delivered -/
theorem cv_vec_F {vec : Nat → Int32} (hR : ∀ j, R (j + 1) = cv_step (P j) (R j)) (hl : ∀ j, (R j).2.2.2 ≤ 16) (hu : cv_uni P R k W H C B F) (hz : cv_haz P R k W H B F) (hv : cv_vec P R k W H F vec) (hw : w < 4) (hW : W w ≠ 0) (hF : F w < B w) {x : Nat} (hn : cv_wr (P (H w)) x) {y : Int32} (hy : y = cv_res (P (H w)) (R (H w)) (F w)) : cv_vec P R k W H (cv_up F w (F w + 1)) (upd vec (16 * x + F w) y) := by
  obtain ⟨u1, u2, u3, u4, _⟩ := hu w hw hW
  have hc := hl (H w)
  intro v i m hi hm h1 h2
  by_cases e : v = x ∧ i = F w
  · obtain ⟨rfl, rfl⟩ := e
    rw [pk_us, hy]
    have hm2 : H w < m := by
      rcases Nat.lt_or_ge (H w) m with g | g
      · exact g
      · exact absurd (cv_f_new hu hw hW (F w + 1) (by omega)) (h2 (H w) g u1 hn (by omega))
    have e2 := cv_R_same hR hl hi (m - (H w + 1)) (H w + 1) (fun j a b c d => by
      have f1 : cv_fin W H F j (F w) := (cv_f_ne (by omega)).mp (h1 j (by omega) c d)
      have f2 := (hz (H w) j v (F w) (by omega) (by omega) (by omega) d (cv_fb hu f1)).1 hn (Or.inl c) w hw hW rfl
      omega)
    rw [show H w + 1 + (m - (H w + 1)) = m by omega] at e2
    rw [e2, hR, cv_hit hn (by omega)]
  · rw [pk_un (by omega)]
    refine hv v i m hi hm (fun j a b c => cv_f_old hw hW (h1 j a b c) (fun z y => e ?_)) (fun j a b c d z => h2 j a b c d (cv_f_up z))
    rw [z] at b
    exact ⟨by rw [← b.2.2, hn.2.2], y⟩
end
end
section
theorem cv_u3 : ∀ o, o < 10 → cv_unit o ≠ 3 → o ≤ 8 := by decide
theorem cv_u3' : ∀ o, o < 10 → cv_unit o = 3 → o = 9 := by decide
theorem cv_u7 : ∀ o, o < 10 → o = 7 → cv_unit o = 2 := by decide
theorem cv_u2 : ∀ o, o < 10 → cv_unit o = 2 → 6 ≤ o ∧ o ≤ 8 := by decide
theorem cv_u2' : ∀ o, o < 10 → 6 ≤ o → o ≤ 8 → cv_unit o = 2 := by decide
theorem cv_u9 : cv_unit 9 = 3 := by decide
theorem cv_u4 : ∀ o, o < 10 → cv_unit o < 4 := by decide
section
variable {P : Nat → cv_I} {R : Nat → cv_A} {W H C B F Q : Nat → Nat} {k w D t n : Nat} {sm : Int32} {vec scal cells : Nat → Int32} {sin val : Nat → Int32} {cel rdy : Nat → Nat}
/-- a vector element is delivered -/
theorem cv_J_dv (hR : ∀ j, R (j + 1) = cv_step (P j) (R j)) (hl : ∀ j, (R j).2.2.2 ≤ 16) (h : cv_J P R D k t sm vec scal cells W H C B F Q sin val cel rdy) (hw : w < 4) (hW : W w ≠ 0) (hF : F w < B w) (h7 : (P (H w)).1 ≠ 7) (h3 : w ≠ 3) : cv_J P R D k t sm (upd vec (16 * (P (H w)).2.1 + F w) (val (16 * w + F w))) scal cells W H C B (cv_up F w (F w + 1)) Q sin val cel rdy := by
  obtain ⟨i1, i2, i3, i4, i5, i6, i7, i8⟩ := h
  obtain ⟨u1, u2, u3, u4, u5, u6⟩ := i1 w hw hW
  have hn : cv_wr (P (H w)) (P (H w)).2.1 := ⟨cv_u3 _ (by omega) (by rw [u6]; exact h3), h7, rfl⟩
  refine ⟨cv_uni_F i1 hF, cv_haz_F i2, cv_vec_F hR hl i1 i2 i3 hw hW hF hn (i4 w (F w) hw hW (Nat.le_refl _) hF).1, cv_val_F i4, i5, i6, ⟨i7.1, fun g => ?_⟩, ⟨i8.1, fun g => ?_⟩⟩
  · by_cases e : w = 2
    · subst e
      refine ⟨?_, (i7.2 g).2⟩
      have := (i7.2 g).1
      rw [if_neg h7] at this ⊢
      exact this
    · rw [cv_un (Ne.symm e)]; exact i7.2 g
  · rw [cv_un (Ne.symm h3)]; exact i8.2 g
/-- a cell is stored -/
theorem cv_J_ds (h : cv_J P R D k t sm vec scal cells W H C B F Q sin val cel rdy) (hW : W 2 ≠ 0) (hF : F 2 < B 2) (h7 : (P (H 2)).1 = 7) : cv_J P R D k t sm vec scal (upd cells (cel (16 * 2 + F 2)) (val (16 * 2 + F 2))) W H C B (cv_up F 2 (F 2 + 1)) Q sin val cel rdy := by
  obtain ⟨i1, i2, i3, i4, i5, i6, i7, i8⟩ := h
  refine ⟨cv_uni_F i1 hF, cv_haz_F i2, cv_vec_F0 i3 (by decide) hW (fun v z => z.2.1 h7), cv_val_F i4, i5, i6, ⟨fun g => absurd g hW, fun g => ⟨?_, (i7.2 g).2⟩⟩, ⟨i8.1, fun g => ?_⟩⟩
  · have e := (i7.2 g).1
    obtain ⟨e1, e2⟩ := i4 2 (F 2) (by decide) hW (Nat.le_refl _) hF
    rw [if_pos h7] at e ⊢
    rw [cv_us, e, e1, e2 h7]
    unfold cv_res
    rw [if_pos h7]
    rfl
  · rw [cv_un (by decide)]; exact i8.2 g
/-- an element is summed -/
theorem cv_J_dd (h : cv_J P R D k t sm vec scal cells W H C B F Q sin val cel rdy) (hW : W 3 ≠ 0) (hF : F 3 < B 3) : cv_J P R D k t (sm + val (16 * 3 + F 3)) vec scal cells W H C B (cv_up F 3 (F 3 + 1)) Q sin val cel rdy := by
  obtain ⟨i1, i2, i3, i4, i5, i6, i7, i8⟩ := h
  obtain ⟨u1, u2, u3, u4, u5, u6⟩ := i1 3 (by decide) hW
  have h9 : (P (H 3)).1 = 9 := cv_u3' _ (by omega) u6
  refine ⟨cv_uni_F i1 hF, cv_haz_F i2, cv_vec_F0 i3 (by decide) hW (fun v z => absurd z.1 (by omega)), cv_val_F i4, i5, i6, ⟨i7.1, fun g => ?_⟩, ⟨i8.1, fun g => ⟨(i8.2 g).1, ?_⟩⟩⟩
  · rw [cv_un (by decide)]; exact i7.2 g
  · obtain ⟨e1, e2⟩ := i4 3 (F 3) (by decide) hW (Nat.le_refl _) hF
    rw [cv_us, (i8.2 g).2, e1]
    unfold cv_res
    rw [if_neg (by omega), if_neg (by omega), if_neg (by omega), if_neg (by omega), if_neg (by omega), if_pos h9]
    rfl
/-! a unit is freed -/
theorem cv_f_free {G : Nat → Nat} (hw : w < 4) (hW : W w ≠ 0) (hc : (R (H w)).2.2.2 ≤ G w) {j i : Nat} (hi : i < (R j).2.2.2) : cv_fin (cv_up W w 0) H G j i ↔ cv_fin W H G j i := by
  constructor
  · intro g x hx hX e
    by_cases z : x = w
    · rw [z] at e ⊢
      rw [← e] at hi
      omega
    · exact g x hx (by rw [cv_un z]; exact hX) e
  · intro g x hx hX e
    by_cases z : x = w
    · rw [z, cv_us] at hX; exact absurd rfl hX
    · rw [cv_un z] at hX; exact g x hx hX e
theorem cv_W0 {x : Nat} (h : cv_up W w 0 x ≠ 0) : x ≠ w ∧ W x ≠ 0 := by
  by_cases z : x = w
  · rw [z, cv_us] at h; exact absurd rfl h
  · rw [cv_un z] at h; exact ⟨z, h⟩
theorem cv_J_f0 (h : cv_J P R D k t sm vec scal cells W H C B F Q sin val cel rdy) (hw : w < 4) (hW : W w ≠ 0) (hF : C w ≤ F w) : cv_uni P R k (cv_up W w 0) H C B F ∧ cv_haz P R k (cv_up W w 0) H B F ∧ cv_vec P R k (cv_up W w 0) H F vec ∧ cv_val P R (cv_up W w 0) H B F val cel ∧ cv_sin P R (cv_up W w 0) H sin ∧ cv_rdy D t (cv_up W w 0) C B Q rdy := by
  obtain ⟨i1, i2, i3, i4, i5, i6, i7, i8⟩ := h
  obtain ⟨u1, u2, u3, u4, u5, u6⟩ := i1 w hw hW
  have c1 : (R (H w)).2.2.2 ≤ F w := by omega
  have c2 : (R (H w)).2.2.2 ≤ B w := by omega
  refine ⟨fun x hx hX => i1 x hx (cv_W0 hX).2, ?_, ?_, fun x i hx hX => i4 x i hx (cv_W0 hX).2, fun x hx hX => i5 x hx (cv_W0 hX).2, fun x hx hX => i6 x hx (cv_W0 hX).2⟩
  · intro j l v i h1 h2 h3 h4 h5
    obtain ⟨g1, g2⟩ := i2 j l v i h1 h2 h3 h4 ((cv_f_free hw hW c2 h4).mp h5)
    exact ⟨fun a b => (cv_f_free hw hW c1 h3).mpr (g1 a b), fun a b => (cv_f_free hw hW c2 h3).mpr (g2 a b)⟩
  · intro v i m hi hm h1 h2
    exact i3 v i m hi hm (fun j a b c => (cv_f_free hw hW c1 c).mp (h1 j a b c)) (fun j a b c d e => h2 j a b c d ((cv_f_free hw hW c1 d).mpr e))
theorem cv_mem_f (hR : ∀ j, R (j + 1) = cv_step (P j) (R j)) (h : cv_J P R D k t sm vec scal cells W H C B F Q sin val cel rdy) (hw : w < 4) (hW : W w ≠ 0) (hF : C w ≤ F w) : cv_mem P R k (cv_up W w 0) H F cells := by
  obtain ⟨i1, i2, i3, i4, i5, i6, i7, i8⟩ := h
  obtain ⟨u1, u2, u3, u4, u5, u6⟩ := i1 w hw hW
  by_cases e : w = 2
  · subst e
    refine ⟨fun _ => ?_, fun g => absurd cv_us g⟩
    obtain ⟨e1, e2⟩ := i7.2 hW
    rw [e1, e2, hR]
    by_cases h7 : (P (H 2)).1 = 7
    · rw [if_pos h7, cv_c7' h7, show F 2 = (R (H 2)).2.2.2 by omega]
    · rw [if_neg h7, cv_c7 h7]
  · unfold cv_mem
    rw [cv_un (Ne.symm e)]
    exact i7
theorem cv_J_f (hR : ∀ j, R (j + 1) = cv_step (P j) (R j)) (h : cv_J P R D k t sm vec scal cells W H C B F Q sin val cel rdy) (hw : w < 4) (hW : W w ≠ 0) (hF : C w ≤ F w) (h3 : w ≠ 3) : cv_J P R D k t sm vec scal cells (cv_up W w 0) H C B F Q sin val cel rdy := by
  obtain ⟨a1, a2, a3, a4, a5, a6⟩ := cv_J_f0 h hw hW hF
  refine ⟨a1, a2, a3, a4, a5, a6, cv_mem_f hR h hw hW hF, ?_⟩
  unfold cv_sca
  rw [cv_un (Ne.symm h3)]
  exact h.2.2.2.2.2.2.2
theorem cv_J_f3 (hR : ∀ j, R (j + 1) = cv_step (P j) (R j)) (h : cv_J P R D k t sm vec scal cells W H C B F Q sin val cel rdy) (hW : W 3 ≠ 0) (hF : C 3 ≤ F 3) : cv_J P R D k t sm vec (upd scal (P (H 3)).2.1 sm) cells (cv_up W 3 0) H C B F Q sin val cel rdy := by
  obtain ⟨a1, a2, a3, a4, a5, a6⟩ := cv_J_f0 h (by decide) hW hF
  refine ⟨a1, a2, a3, a4, a5, a6, cv_mem_f hR h (by decide) hW hF, ⟨fun s _ => ?_, fun g => absurd cv_us g⟩⟩
  obtain ⟨i1, i2, i3, i4, i5, i6, i7, i8⟩ := h
  obtain ⟨u1, u2, u3, u4, u5, u6⟩ := i1 3 (by decide) hW
  obtain ⟨e1, e2⟩ := i8.2 hW
  by_cases e : s = (P (H 3)).2.1
  · rw [e, pk_us, e1, e2, show F 3 = (R (H 3)).2.2.2 by omega]
  · rw [pk_un e]; exact i8.1 s (Or.inr e)
/-! an element begins -/
def cv_may (P : Nat → cv_I) (W H C B F : Nat → Nat) (w i o : Nat) : Prop := W o ≠ 0 → H o < H w → i < C o → ∀ v, v < 4 → (cv_wr (P (H w)) v ∨ cv_rd (P (H w)) v → cv_wr (P (H o)) v → i < F o) ∧ (cv_wr (P (H w)) v → cv_rd (P (H o)) v → i < B o)
theorem cv_may_fin (i1 : cv_uni P R k W H C B F) (hP : ∀ j, j < n → cv_wf (P j)) (hk : k ≤ n) (hw : w < 4) (hW : W w ≠ 0) (hc : ∀ o, o < 4 → cv_may P W H C B F w (B w) o) {j v : Nat} (hj : j < H w) (hi : B w < (R j).2.2.2) (h1 : cv_wr (P j) v) (h2 : cv_wr (P (H w)) v ∨ cv_rd (P (H w)) v) : cv_fin W H F j (B w) := by
  intro x hx hX e
  subst e
  have hk2 := (i1 w hw hW).1
  have hv : v < 4 := by rw [← h1.2.2]; exact (hP (H x) (by omega)).2.1
  exact (hc x hx hX hj (by rw [(i1 x hx hX).2.2.2.1]; exact hi) v hv).1 h2 h1
theorem cv_may_beg (i1 : cv_uni P R k W H C B F) (hP : ∀ j, j < n → cv_wf (P j)) (hk : k ≤ n) (hw : w < 4) (hW : W w ≠ 0) (hc : ∀ o, o < 4 → cv_may P W H C B F w (B w) o) {j v : Nat} (hj : j < H w) (hi : B w < (R j).2.2.2) (h1 : cv_rd (P j) v) (h2 : cv_wr (P (H w)) v) : cv_fin W H B j (B w) := by
  intro x hx hX e
  subst e
  have hk2 := (i1 w hw hW).1
  have hv : v < 4 := by rw [← h2.2.2]; exact (hP (H w) (by omega)).2.1
  exact (hc x hx hX hj (by rw [(i1 x hx hX).2.2.2.1]; exact hi) v hv).2 h2 h1
/-- what it reads is what the sequential machine would read -/
theorem cv_J_rd (hl : ∀ j, (R j).2.2.2 ≤ 16) (hP : ∀ j, j < n → cv_wf (P j)) (hk : k ≤ n) (h : cv_J P R D k t sm vec scal cells W H C B F Q sin val cel rdy) (hw : w < 4) (hW : W w ≠ 0) (hB : B w < C w) (hc : ∀ o, o < 4 → cv_may P W H C B F w (B w) o) {v : Nat} (hr : cv_rd (P (H w)) v) : vec (16 * v + B w) = (R (H w)).1 (16 * v + B w) := by
  obtain ⟨i1, i2, i3, i4, i5, i6, i7, i8⟩ := h
  obtain ⟨u1, u2, u3, u4, u5, u6⟩ := i1 w hw hW
  have := hl (H w)
  refine i3 v (B w) (H w) (by omega) (by omega) (fun j a b c => cv_may_fin i1 hP hk hw hW hc a c b (Or.inr hr)) (fun j a b c d e => ?_)
  rcases Nat.lt_or_ge (H w) j with g | g
  · have := (i2 (H w) j v (B w) g b (by omega) d (cv_fb i1 e)).2 hr c w hw hW rfl
    omega
  · have e2 : H w = j := by omega
    have := e w hw hW e2
    omega
theorem cv_J_bg (hl : ∀ j, (R j).2.2.2 ≤ 16) (hP : ∀ j, j < n → cv_wf (P j)) (hk : k ≤ n) (h : cv_J P R D k t sm vec scal cells W H C B F Q sin val cel rdy) (hw : w < 4) (hW : W w ≠ 0) (hB : B w < C w) (hc : ∀ o, o < 4 → cv_may P W H C B F w (B w) o) {y : Int32} (hy : y = cv_res (P (H w)) (R (H w)) (B w)) {cel' : Nat → Nat} (hc1 : ∀ m, m ≠ 16 * w + B w → cel' m = cel m) (hc2 : (P (H w)).1 = 7 → cel' (16 * w + B w) = cv_addr (P (H w)) (R (H w)) (B w)) : cv_J P R D k t sm vec scal cells W H C (cv_up B w (B w + 1)) F Q sin (upd val (16 * w + B w) y) cel' (cv_up rdy (16 * w + B w) (t + D)) := by
  obtain ⟨i1, i2, i3, i4, i5, i6, i7, i8⟩ := h
  obtain ⟨u1, u2, u3, u4, u5, u6⟩ := i1 w hw hW
  have hlw := hl (H w)
  refine ⟨fun x hx hX => ?_, fun j l v i h1 h2 h3 h4 h5 => ?_, i3, fun x i hx hX h1 h2 => ?_, i5, fun x hx hX => ?_, i7, i8⟩
  · obtain ⟨a1, a2, a3, a4⟩ := i1 x hx hX
    by_cases e : x = w
    · subst e
      rw [cv_us]
      exact ⟨a1, by omega, by omega, a4⟩
    · rw [cv_un e]
      exact ⟨a1, a2, a3, a4⟩
  · by_cases e : l = H w ∧ i = B w
    · obtain ⟨rfl, rfl⟩ := e
      exact ⟨fun a b => cv_may_fin i1 hP hk hw hW hc h1 h3 a b, fun a b => cv_f_up (cv_may_beg i1 hP hk hw hW hc h1 h3 a b)⟩
    · obtain ⟨g1, g2⟩ := i2 j l v i h1 h2 h3 h4 (cv_f_old hw hW h5 (fun a b => e ⟨a, b⟩))
      exact ⟨g1, fun a b => cv_f_up (g2 a b)⟩
  · obtain ⟨a1, a2, a3, a4, a5⟩ := i1 x hx hX
    have b4 := hl (H x)
    by_cases e : x = w ∧ i = B w
    · obtain ⟨rfl, rfl⟩ := e
      rw [pk_us]
      exact ⟨hy, hc2⟩
    · have h2' : i < B x := by
        by_cases e2 : x = w
        · rw [e2, cv_us] at h2; rw [e2]; omega
        · rw [cv_un e2] at h2; exact h2
      have e3 : 16 * x + i ≠ 16 * w + B w := by omega
      rw [pk_un e3, hc1 _ e3]
      exact i4 x i hx hX h1 h2'
  · obtain ⟨a1, a2, a3, a4, a5⟩ := i1 x hx hX
    have b4 := hl (H x)
    obtain ⟨b1, b2, b3⟩ := i6 x hx hX
    refine ⟨b1, fun g => b2 ?_, fun i hi => ?_⟩
    · by_cases e : x = w
      · subst e; exact hB
      · rw [cv_un e] at g; exact g
    · by_cases e : 16 * x + i = 16 * w + B w
      · rw [e, cv_us]
        have : x = w := by
          by_cases e2 : x = w
          · exact e2
          · rw [cv_un e2] at hi; omega
        subst this
        rw [b2 hB]
        exact Nat.le_refl _
      · rw [cv_un e]
        refine b3 i ?_
        by_cases e2 : x = w
        · subst e2; rw [cv_us] at hi; omega
        · rw [cv_un e2] at hi; exact hi
/-! the clock -/
theorem cv_J_t (h : cv_J P R D k t sm vec scal cells W H C B F Q sin val cel rdy) : cv_J P R D k (t + 1) sm vec scal cells W H C B F (fun x => if B x < C x then Q x else Q x - 1) sin val cel rdy := by
  obtain ⟨i1, i2, i3, i4, i5, i6, i7, i8⟩ := h
  refine ⟨i1, i2, i3, i4, i5, fun x hx hX => ?_, i7, i8⟩
  obtain ⟨b1, b2, b3⟩ := i6 x hx hX
  dsimp only
  by_cases e : B x < C x
  · rw [if_pos e]
    exact ⟨b1, b2, fun i hi => Nat.le_trans (b3 i hi) (by omega)⟩
  · rw [if_neg e]
    exact ⟨by omega, fun g => absurd g e, fun i hi => Nat.le_trans (b3 i hi) (by omega)⟩
end
end
section
section
variable {P : Nat → cv_I} {R : Nat → cv_A} {W H C B F Q : Nat → Nat} {k w D t n : Nat} {sm : Int32} {vec scal cells : Nat → Int32} {sin val : Nat → Int32} {cel rdy : Nat → Nat}
theorem cv_f_iss {G : Nat → Nat} (hw : w < 4) (h0 : W w = 0) {j i : Nat} (hj : j < k) : cv_fin (cv_up W w 1) (cv_up H w k) (cv_up G w 0) j i ↔ cv_fin W H G j i := by
  constructor
  · intro g x hx hX e
    have z : x ≠ w := fun z => hX (by rw [z]; exact h0)
    have := g x hx (by rw [cv_un z]; exact hX) (by rw [cv_un z]; exact e)
    rw [cv_un z] at this
    exact this
  · intro g x hx hX e
    by_cases z : x = w
    · rw [z, cv_us] at e; omega
    · rw [cv_un z] at hX e ⊢; exact g x hx hX e
theorem cv_f_k {G : Nat → Nat} (hw : w < 4) {i : Nat} : ¬ cv_fin (cv_up W w 1) (cv_up H w k) (cv_up G w 0) k i := by
  intro g
  have := g w hw (by rw [cv_us]; decide) cv_us
  rw [cv_us] at this
  omega
theorem cv_W1 {x : Nat} (h : cv_up W w 1 x ≠ 0) (z : x ≠ w) : W x ≠ 0 := by
  rw [cv_un z] at h; exact h
/-- a vector instruction goes to its unit -/
theorem cv_J_iv (hR : ∀ j, R (j + 1) = cv_step (P j) (R j)) (hl : ∀ j, (R j).2.2.2 ≤ 16) (h : cv_J P R D k t sm vec scal cells W H C B F Q sin val cel rdy) (hw : w = cv_unit (P k).1) (ho : (P k).1 ≤ 9) (h0 : W w = 0) {len : Nat} (hlen : len = (R k).2.2.2) {sm' : Int32} (hs9 : (P k).1 = 9 → sm' = 0) (hs8 : (P k).1 ≤ 8 → sm' = sm) {sin' : Nat → Int32} (hn1 : ∀ x, x ≠ w → sin' x = sin x) (hn2 : (P k).1 = 4 ∨ (P k).1 = 5 → sin' w = (R k).2.1 (P k).2.2.2.toNatClampNeg) (hn3 : (P k).1 = 6 ∨ (P k).1 = 7 → sin' w = (R k).2.1 (P k).2.2.1.toNatClampNeg) :
    cv_J P R D (k + 1) t sm' vec scal cells (cv_up W w 1) (cv_up H w k) (cv_up C w len) (cv_up B w 0) (cv_up F w 0) (cv_up Q w D) sin' val cel rdy := by
  obtain ⟨i1, i2, i3, i4, i5, i6, i7, i8⟩ := h
  have hw4 : w < 4 := by rw [hw]; exact cv_u4 _ (by omega)
  refine ⟨fun x hx hX => ?_, fun j l v i h1 h2 h3 h4 h5 => ?_, fun v i m hi hm h1 h2 => ?_, fun x i hx hX h1 h2 => ?_, fun x hx hX => ?_, fun x hx hX => ?_, ?_, ?_⟩
  · by_cases z : x = w
    · rw [z]
      simp only [cv_us]
      exact ⟨by omega, by omega, by omega, hlen, ho, hw.symm⟩
    · obtain ⟨a1, a2⟩ := i1 x hx (cv_W1 hX z)
      simp only [cv_un z]
      exact ⟨by omega, a2⟩
  · by_cases e : l = k
    · rw [e] at h5
      exact absurd h5 (cv_f_k hw4)
    · obtain ⟨g1, g2⟩ := i2 j l v i h1 (by omega) h3 h4 ((cv_f_iss hw4 h0 (by omega)).mp h5)
      exact ⟨fun a b => (cv_f_iss hw4 h0 (by omega)).mpr (g1 a b), fun a b => (cv_f_iss hw4 h0 (by omega)).mpr (g2 a b)⟩
  · by_cases e : m = k + 1
    · subst e
      have hno : ¬ (cv_wr (P k) v ∧ i < (R k).2.2.2) := fun z => cv_f_k hw4 (h1 k (by omega) z.1 z.2)
      rw [hR, cv_miss (hl k) hi hno]
      exact i3 v i k hi (Nat.le_refl _) (fun j a b c => (cv_f_iss hw4 h0 a).mp (h1 j (by omega) b c)) (fun j a b => absurd a (by omega))
    · exact i3 v i m hi (by omega) (fun j a b c => (cv_f_iss hw4 h0 (by omega)).mp (h1 j a b c)) (fun j a b c d z => h2 j a (by omega) c d ((cv_f_iss hw4 h0 b).mpr z))
  · by_cases z : x = w
    · rw [z, cv_us] at h2; omega
    · rw [cv_un z] at h1 h2 ⊢
      exact i4 x i hx (cv_W1 hX z) h1 h2
  · by_cases z : x = w
    · rw [z, cv_us]
      exact ⟨hn2, hn3⟩
    · rw [cv_un z, hn1 x z]
      exact i5 x hx (cv_W1 hX z)
  · by_cases z : x = w
    · rw [z, cv_us, cv_us]
      exact ⟨Nat.le_refl _, fun _ => rfl, fun i hi => absurd hi (by omega)⟩
    · simp only [cv_un z]
      exact i6 x hx (cv_W1 hX z)
  · by_cases z : w = 2
    · subst z
      refine ⟨fun g => absurd g (by rw [cv_us]; decide), fun _ => ?_⟩
      simp only [cv_us]
      refine ⟨?_, trivial⟩
      have e := i7.1 h0
      by_cases h7 : (P k).1 = 7
      · rw [if_pos h7, e]; rfl
      · rw [if_neg h7, e]
    · have h7 : (P k).1 ≠ 7 := fun e => z (by rw [hw]; exact cv_u7 _ (by omega) e)
      unfold cv_mem
      simp only [cv_un (Ne.symm z)]
      rw [hR, cv_c7 h7]
      exact i7
  · by_cases z : w = 3
    · have h9 : (P k).1 = 9 := cv_u3' _ (by omega) (by rw [← hw]; exact z)
      refine ⟨fun s g => ?_, fun _ => ?_⟩
      · rcases g with g | g
        · rw [z, cv_us] at g; exact absurd g (by decide)
        · rw [z, cv_us] at g
          rw [hR, cv_s9' h9, pk_un g]
          exact i8.1 s (Or.inl (by rw [← z]; exact h0))
      · rw [z, cv_us, cv_us, hR, cv_s9' h9, pk_us, hs9 h9]
        exact ⟨rfl, rfl⟩
    · have h8 : (P k).1 ≤ 8 := cv_u3 _ (by omega) (by rw [← hw]; exact z)
      unfold cv_sca
      simp only [cv_un (Ne.symm z)]
      rw [hR, cv_s9 (Or.inl h8), hs8 h8]
      exact i8
/-- a scalar instruction is done at once -/
theorem cv_J_is (hR : ∀ j, R (j + 1) = cv_step (P j) (R j)) (hl : ∀ j, (R j).2.2.2 ≤ 16) (h : cv_J P R D k t sm vec scal cells W H C B F Q sin val cel rdy) (ho : 10 ≤ (P k).1) {scal' : Nat → Int32} (hs1 : ∀ s, W 3 = 0 ∨ s ≠ (P (H 3)).2.1 → scal' s = (cv_step (P k) (R k)).2.1 s) (hs2 : W 3 ≠ 0 → (cv_step (P k) (R k)).2.1 (P (H 3)).2.1 = (R k).2.1 (P (H 3)).2.1) :
    cv_J P R D (k + 1) t sm vec scal' cells W H C B F Q sin val cel rdy := by
  obtain ⟨i1, i2, i3, i4, i5, i6, i7, i8⟩ := h
  have hnw : ∀ v, ¬ cv_wr (P k) v := fun v z => absurd z.1 (by omega)
  have hnr : ∀ v, ¬ cv_rd (P k) v := fun v z => by
    unfold cv_rd at z
    omega
  refine ⟨fun x hx hX => ?_, fun j l v i h1 h2 h3 h4 h5 => ?_, fun v i m hi hm h1 h2 => ?_, i4, i5, i6, ?_, ?_⟩
  · obtain ⟨a1, a2⟩ := i1 x hx hX
    exact ⟨by omega, a2⟩
  · by_cases e : l = k
    · subst e
      exact ⟨fun a b => absurd b (fun z => z.elim (hnw v) (hnr v)), fun a b => absurd b (hnw v)⟩
    · exact i2 j l v i h1 (by omega) h3 h4 h5
  · by_cases e : m = k + 1
    · subst e
      rw [hR, cv_miss (hl k) hi (fun z => hnw v z.1)]
      exact i3 v i k hi (Nat.le_refl _) (fun j a b c => h1 j (by omega) b c) (fun j a b => absurd a (by omega))
    · exact i3 v i m hi (by omega) h1 (fun j a b c d => h2 j a (by omega) c d)
  · unfold cv_mem
    rw [hR, cv_c7 (by omega)]
    exact i7
  · refine ⟨fun s g => ?_, fun g => ?_⟩
    · rw [hR]; exact hs1 s g
    · rw [hR, hs2 g]; exact i8.2 g
/-- nothing is at work and all is issued: the sequential machine's state -/
theorem cv_J_end (h : cv_J P R D k t sm vec scal cells W H C B F Q sin val cel rdy) (h0 : ∀ x, x < 4 → W x = 0) : vec = (R k).1 ∧ scal = (R k).2.1 ∧ cells = (R k).2.2.1 := by
  obtain ⟨i1, i2, i3, i4, i5, i6, i7, i8⟩ := h
  refine ⟨?_, ?_, i7.1 (h0 2 (by decide))⟩
  · funext m
    have := i3 (m / 16) (m % 16) k (by omega) (Nat.le_refl _) (fun j a b c x hx hX => absurd (h0 x hx) hX) (fun j a b => absurd a (by omega))
    rw [show 16 * (m / 16) + m % 16 = m by omega] at this
    exact this
  · funext s
    exact i8.1 s (Or.inl (h0 3 (by decide)))
/-- at the start of a run -/
theorem cv_J_0 (h0 : ∀ x, x < 4 → W x = 0) : cv_J P R D 0 t sm (R 0).1 (R 0).2.1 (R 0).2.2.1 W H C B F Q sin val cel rdy := by
  refine ⟨fun x hx hX => absurd (h0 x hx) hX, fun j l v i h1 h2 => absurd h2 (by omega), fun v i m hi hm h1 h2 => ?_, fun x i hx hX => absurd (h0 x hx) hX, fun x hx hX => absurd (h0 x hx) hX, fun x hx hX => absurd (h0 x hx) hX, ⟨fun _ => rfl, fun g => absurd (h0 2 (by decide)) g⟩, ⟨fun s _ => rfl, fun g => absurd (h0 3 (by decide)) g⟩⟩
  rw [show m = 0 by omega]
end
/-! the measure -/
def cv_mu (W C B F Q : Nat → Nat) (x : Nat) : Nat := if W x = 0 then 0 else 1 + (C x - B x) + (C x - F x) + Q x
def cv_M (n k : Nat) (W C B F Q : Nat → Nat) : Nat := cv_mu W C B F Q 0 + cv_mu W C B F Q 1 + cv_mu W C B F Q 2 + cv_mu W C B F Q 3 + 39 * (n - k)
section
variable {W C B F Q W' C' B' F' Q' : Nat → Nat} {n k w : Nat}
theorem cv_M_le (h : ∀ x, x < 4 → cv_mu W' C' B' F' Q' x ≤ cv_mu W C B F Q x) : cv_M n k W' C' B' F' Q' ≤ cv_M n k W C B F Q := by
  have h0 := h 0 (by decide)
  have h1 := h 1 (by decide)
  have h2 := h 2 (by decide)
  have h3 := h 3 (by decide)
  unfold cv_M
  omega
theorem cv_M_lt (hw : w < 4) (h : ∀ x, x < 4 → cv_mu W' C' B' F' Q' x ≤ cv_mu W C B F Q x) (hx : cv_mu W' C' B' F' Q' w < cv_mu W C B F Q w) : cv_M n k W' C' B' F' Q' < cv_M n k W C B F Q := by
  have h0 := h 0 (by decide)
  have h1 := h 1 (by decide)
  have h2 := h 2 (by decide)
  have h3 := h 3 (by decide)
  have hc : w = 0 ∨ w = 1 ∨ w = 2 ∨ w = 3 := by omega
  unfold cv_M
  rcases hc with rfl | rfl | rfl | rfl <;> omega
theorem cv_M_F (hw : w < 4) (hW : W w ≠ 0) (h : F w < C w) : cv_M n k W C B (cv_up F w (F w + 1)) Q < cv_M n k W C B F Q := by
  refine cv_M_lt hw (fun x hx => ?_) ?_
  · unfold cv_mu
    by_cases z : x = w
    · rw [z, cv_us]
      rw [if_neg hW, if_neg hW]
      omega
    · rw [cv_un z]; exact Nat.le_refl _
  · unfold cv_mu
    rw [cv_us, if_neg hW, if_neg hW]
    omega
theorem cv_M_B (hw : w < 4) (hW : W w ≠ 0) (h : B w < C w) : cv_M n k W C (cv_up B w (B w + 1)) F Q < cv_M n k W C B F Q := by
  refine cv_M_lt hw (fun x hx => ?_) ?_
  · unfold cv_mu
    by_cases z : x = w
    · rw [z, cv_us]
      rw [if_neg hW, if_neg hW]
      omega
    · rw [cv_un z]; exact Nat.le_refl _
  · unfold cv_mu
    rw [cv_us, if_neg hW, if_neg hW]
    omega
theorem cv_M_W (hw : w < 4) (hW : W w ≠ 0) : cv_M n k (cv_up W w 0) C B F Q < cv_M n k W C B F Q := by
  refine cv_M_lt hw (fun x hx => ?_) ?_
  · unfold cv_mu
    by_cases z : x = w
    · rw [z, cv_us]
      rw [if_pos rfl]
      omega
    · rw [cv_un z]; exact Nat.le_refl _
  · unfold cv_mu
    rw [cv_us, if_pos rfl, if_neg hW]
    omega
theorem cv_M_iss (hw : w < 4) (h0 : W w = 0) (hk : k < n) {len D : Nat} (hlen : len ≤ 16) (hD : D ≤ 5) : cv_M n (k + 1) (cv_up W w 1) (cv_up C w len) (cv_up B w 0) (cv_up F w 0) (cv_up Q w D) < cv_M n k W C B F Q := by
  have h1 : ∀ x, x ≠ w → cv_mu (cv_up W w 1) (cv_up C w len) (cv_up B w 0) (cv_up F w 0) (cv_up Q w D) x = cv_mu W C B F Q x := by
    intro x z
    unfold cv_mu
    simp only [cv_un z]
  have h2 : cv_mu (cv_up W w 1) (cv_up C w len) (cv_up B w 0) (cv_up F w 0) (cv_up Q w D) w ≤ 38 := by
    unfold cv_mu
    simp only [cv_us]
    rw [if_neg (by decide)]
    omega
  have hc : w = 0 ∨ w = 1 ∨ w = 2 ∨ w = 3 := by omega
  unfold cv_M
  rcases hc with rfl | rfl | rfl | rfl
  · rw [h1 1 (by decide), h1 2 (by decide), h1 3 (by decide)]; omega
  · rw [h1 0 (by decide), h1 2 (by decide), h1 3 (by decide)]; omega
  · rw [h1 0 (by decide), h1 1 (by decide), h1 3 (by decide)]; omega
  · rw [h1 0 (by decide), h1 1 (by decide), h1 2 (by decide)]; omega
theorem cv_M_is (hk : k < n) : cv_M n (k + 1) W C B F Q < cv_M n k W C B F Q := by
  unfold cv_M
  omega
theorem cv_M_t : cv_M n k W C B F (fun x => if B x < C x then Q x else Q x - 1) ≤ cv_M n k W C B F Q := by
  refine cv_M_le (fun x hx => ?_)
  unfold cv_mu
  dsimp only
  split
  · exact Nat.le_refl _
  · split <;> omega
theorem cv_M_t1 (hw : w < 4) (hW : W w ≠ 0) (hB : B w = C w) (hQ : 1 ≤ Q w) : cv_M n k W C B F (fun x => if B x < C x then Q x else Q x - 1) < cv_M n k W C B F Q := by
  refine cv_M_lt hw (fun x hx => ?_) ?_
  · unfold cv_mu
    dsimp only
    split
    · exact Nat.le_refl _
    · split <;> omega
  · unfold cv_mu
    dsimp only
    rw [if_neg hW, if_neg hW, if_neg (by omega)]
    omega
theorem cv_M_0 (h0 : ∀ x, x < 4 → W x = 0) (hn : n ≤ 16) : cv_M n 0 W C B F Q ≤ 624 := by
  unfold cv_M cv_mu
  rw [if_pos (h0 0 (by decide)), if_pos (h0 1 (by decide)), if_pos (h0 2 (by decide)), if_pos (h0 3 (by decide))]
  omega
end
end
section
/-! the state out of the picture -/
abbrev cv_st (ln D len n k t : Nat) (sm : Int32) (vec scal cells : Nat → Int32) (P : Nat → cv_I) (W H C : Nat → Nat) (sin : Nat → Int32) (B F : Nat → Nat) (val : Nat → Int32) (cel rdy : Nat → Nat) : St2 :=
  (nI ln, nI D, nI len, nI n, nI k, nI t, sm, vec, scal, cells, fun j => nI (P j).1, fun j => nI (P j).2.1, fun j => (P j).2.2.1, fun j => (P j).2.2.2, fun j => nI (W j), fun j => nI (H j), fun j => nI (C j), sin, fun j => nI (B j), fun j => nI (F j), val, fun j => nI (cel j), fun j => nI (rdy j))
theorem cv_uN {f : Nat → Nat} {k v : Nat} {x : Int32} (hx : x = nI v) : upd (fun j => nI (f j)) k x = fun j => nI (cv_up f k v j) := by
  funext j
  by_cases e : j = k
  · rw [e, pk_us, cv_us, hx]
  · rw [pk_un e, cv_un e]
theorem cv_by : ∀ c, c < 128 → (nI c).toInt8.toInt32 = nI c := by decide +kernel
theorem cv_10 : ¬ (1 : Int32) = 0 := by decide
section
variable {R : Nat → cv_A} {Q : Nat → Nat} {ln D len n k t : Nat} {sm : Int32} {vec scal cells : Nat → Int32} {P : Nat → cv_I} {W H C : Nat → Nat} {sin : Nat → Int32} {B F : Nat → Nat} {val : Nat → Int32} {cel rdy : Nat → Nat}
theorem cv_wrv {post : Int32 → Prop} {j v : Nat} (hj : j < 16) (hv : v < 4) (hw : cv_wf (P j)) (h1 : cv_wr (P j) v → post 1) (h0 : ¬ cv_wr (P j) v → post 0) : wpX_writesVector post (cv_st ln D len n k t sm vec scal cells P W H C sin B F val cel rdy) (nI j) (nI v) := by
  obtain ⟨w1, w2, _⟩ := hw
  unfold wpX_writesVector cv_st
  dsimp only
  simp only [nI_clamp (show j < 2 ^ 31 by omega)]
  exact ⟨pk_in j 16 hj, nm_e (pk_lt 8 (P j).1 (fun z => h0 (fun r => absurd r.1 (by omega))) (fun z => pk_eq (P j).1 7 (fun z2 => h0 (fun r => r.2.1 z2)) (fun z2 => ⟨pk_in j 16 hj, pk_eq (P j).2.1 v (fun z3 => h1 ⟨z, z2, z3⟩) (fun z3 => h0 (fun r => z3 r.2.2))⟩)))⟩
theorem cv_rdv {post : Int32 → Prop} {j v : Nat} (hj : j < 16) (hv : v < 4) (hw : cv_wf (P j)) (h1 : cv_rd (P j) v → post 1) (h0 : ¬ cv_rd (P j) v → post 0) : wpX_readsVector post (cv_st ln D len n k t sm vec scal cells P W H C sin B F val cel rdy) (nI j) (nI v) := by
  obtain ⟨w1, w2, _⟩ := hw
  unfold wpX_readsVector cv_st
  dsimp only
  simp only [nI_clamp (show j < 2 ^ 31 by omega)]
  refine ⟨pk_in j 16 hj, nm_e (pk_lt 3 (P j).1 (fun z => pk_eq (P j).1 7 (fun z2 => ⟨pk_in j 16 hj, pk_eq (P j).2.1 v (fun z3 => h1 (Or.inr (Or.inl ⟨z2, z3⟩))) (fun z3 => h0 ?_)⟩) (fun z2 => pk_eq (P j).1 6 (fun z3 => h0 ?_) (fun z3 => pk_lt 9 (P j).1 (fun z4 => h0 ?_) (fun z4 => ⟨pk_in j 16 hj, br_c (fun g => h1 (Or.inr (Or.inr ⟨by omega, g⟩))) (fun g => h0 ?_)⟩)))) (fun z => ⟨pk_in j 16 hj, br_c (fun g => h1 (Or.inl ⟨z, Or.inl g⟩)) (fun g => ⟨pk_in j 16 hj, br_c (fun g2 => h1 (Or.inl ⟨z, Or.inr g2⟩)) (fun g2 => h0 ?_)⟩)⟩))⟩
  · rintro (⟨a, _⟩ | ⟨a, b⟩ | ⟨a, _⟩)
    · omega
    · exact z3 b
    · omega
  · rintro (⟨a, _⟩ | ⟨a, b⟩ | ⟨a, _⟩) <;> omega
  · rintro (⟨a, _⟩ | ⟨a, b⟩ | ⟨a, _⟩) <;> omega
  · rintro (⟨a, _⟩ | ⟨a, b⟩ | ⟨a, b⟩)
    · omega
    · omega
    · exact g b
  · rintro (⟨a, b | b⟩ | ⟨a, b⟩ | ⟨a, b⟩)
    · exact g b
    · exact g2 b
    · omega
    · omega
/-! mayBegin -/
theorem cv_mb125 {post J10 J54 : Int32 → Prop} {x3 x6 : Int32} {i o v : Nat} (ho : o < 4) (hv : v < 4) (hi : i < 16) (hHo : H o < 16) (hw : cv_wf (P (H o))) (hB : B o < 2 ^ 31) (h6 : x6 = 0 ∨ x6 = 1) (hp : post 0) (hJ : (x6 = 1 → cv_rd (P (H o)) v → i < B o) → J54 (nI (v + 1))) : wX_mayBegin_125 post J10 J54 (nI i) x3 (nI o) (nI v) x6 (nI ln) (nI D) (nI len) (nI n) (nI k) (nI t) sm vec scal cells (fun j => nI (P j).1) (fun j => nI (P j).2.1) (fun j => (P j).2.2.1) (fun j => (P j).2.2.2) (fun j => nI (W j)) (fun j => nI (H j)) (fun j => nI (C j)) sin (fun j => nI (B j)) (fun j => nI (F j)) val (fun j => nI (cel j)) (fun j => nI (rdy j)) := by
  unfold wX_mayBegin_125
  simp only [nI_clamp (show o < 2 ^ 31 by omega)]
  rcases h6 with rfl | rfl
  · exact br_t rfl (nm_r (nI_1 v) (hJ (fun z => absurd z (by decide))))
  · refine br_f cv_10 ⟨pk_in o 4 ho, cv_rdv hHo hv hw (fun g => br_f cv_10 ⟨pk_in o 4 ho, pk_lt i (B o) (fun z => nm_r (nI_1 v) (hJ (fun _ _ => z))) (fun z => hp)⟩) (fun g => br_t rfl (nm_r (nI_1 v) (hJ (fun _ z => absurd z g))))⟩
theorem cv_mb89 {post J10 J54 : Int32 → Prop} {x3 x6 z0 : Int32} {i o v : Nat} (ho : o < 4) (hv : v < 4) (hi : i < 16) (hHo : H o < 16) (hw : cv_wf (P (H o))) (hB : B o < 2 ^ 31) (hF : F o < 2 ^ 31) (h6 : x6 = 0 ∨ x6 = 1) (hz : z0 = 0 ∨ z0 = 1) (hp : post 0) (hJ : (z0 = 1 → cv_wr (P (H o)) v → i < F o) → (x6 = 1 → cv_rd (P (H o)) v → i < B o) → J54 (nI (v + 1))) : wX_mayBegin_89 post J10 J54 (nI i) x3 (nI o) (nI v) x6 z0 (nI ln) (nI D) (nI len) (nI n) (nI k) (nI t) sm vec scal cells (fun j => nI (P j).1) (fun j => nI (P j).2.1) (fun j => (P j).2.2.1) (fun j => (P j).2.2.2) (fun j => nI (W j)) (fun j => nI (H j)) (fun j => nI (C j)) sin (fun j => nI (B j)) (fun j => nI (F j)) val (fun j => nI (cel j)) (fun j => nI (rdy j)) := by
  unfold wX_mayBegin_89
  simp only [nI_clamp (show o < 2 ^ 31 by omega)]
  rcases hz with rfl | rfl
  · exact br_t rfl (cv_mb125 ho hv hi hHo hw hB h6 hp (hJ (fun z => absurd z (by decide))))
  · exact br_f cv_10 ⟨pk_in o 4 ho, cv_wrv hHo hv hw (fun g => br_f cv_10 ⟨pk_in o 4 ho, pk_lt i (F o) (fun z => cv_mb125 ho hv hi hHo hw hB h6 hp (hJ (fun _ _ => z))) (fun z => hp)⟩) (fun g => br_t rfl (cv_mb125 ho hv hi hHo hw hB h6 hp (hJ (fun _ z => absurd z g))))⟩
theorem cv_mb54 {post J10 : Int32 → Prop} {i o a : Nat} (ho : o < 4) (hi : i < 16) (ha : a < 16) (hwa : cv_wf (P a)) (hHo : H o < 16) (hw : cv_wf (P (H o))) (hB : B o < 2 ^ 31) (hF : F o < 2 ^ 31) (hp : post 0) (hJ : (∀ v, v < 4 → (cv_wr (P a) v ∨ cv_rd (P a) v → cv_wr (P (H o)) v → i < F o) ∧ (cv_wr (P a) v → cv_rd (P (H o)) v → i < B o)) → J10 (nI (o + 1))) : ∃ fu, wX_mayBegin_54 post J10 (nI i) (nI a) (nI o) (nI ln) (nI D) (nI len) (nI n) (nI k) (nI t) sm vec scal cells (fun j => nI (P j).1) (fun j => nI (P j).2.1) (fun j => (P j).2.2.1) (fun j => (P j).2.2.2) (fun j => nI (W j)) (fun j => nI (H j)) (fun j => nI (C j)) sin (fun j => nI (B j)) (fun j => nI (F j)) val (fun j => nI (cel j)) (fun j => nI (rdy j)) fu 0 := by
  refine loop_0 (σ := Unit) (fun m v _ => wX_mayBegin_54 post J10 (nI i) (nI a) (nI o) (nI ln) (nI D) (nI len) (nI n) (nI k) (nI t) sm vec scal cells (fun j => nI (P j).1) (fun j => nI (P j).2.1) (fun j => (P j).2.2.1) (fun j => (P j).2.2.2) (fun j => nI (W j)) (fun j => nI (H j)) (fun j => nI (C j)) sin (fun j => nI (B j)) (fun j => nI (F j)) val (fun j => nI (cel j)) (fun j => nI (rdy j)) m (nI v)) (fun v _ => ∀ v', v' < v → (cv_wr (P a) v' ∨ cv_rd (P a) v' → cv_wr (P (H o)) v' → i < F o) ∧ (cv_wr (P a) v' → cv_rd (P (H o)) v' → i < B o)) 4 () lt_0 ?_ ?_
  · intro m _ h
    exact pk_le 4 4 (fun _ => nm_r (nI_1 o) (hJ h)) (fun z => absurd z (by omega))
  · intro m v _ hv h hs
    refine pk_le 4 v (fun z => absurd z (by omega)) (fun _ => cv_wrv ha hv hwa (fun g => br_f cv_10 ?_) (fun g => br_t rfl (cv_rdv ha hv hwa (fun g2 => br_f cv_10 ?_) (fun g2 => br_t rfl ?_))))
    · exact cv_mb89 ho hv hi hHo hw hB hF (Or.inr rfl) (Or.inr rfl) hp (fun p1 p2 => hs () (lt_s h ⟨fun _ => p1 rfl, fun _ => p2 rfl⟩))
    · exact cv_mb89 ho hv hi hHo hw hB hF (Or.inl rfl) (Or.inr rfl) hp (fun p1 p2 => hs () (lt_s h ⟨fun _ => p1 rfl, fun z => absurd z g⟩))
    · exact cv_mb89 ho hv hi hHo hw hB hF (Or.inl rfl) (Or.inl rfl) hp (fun p1 p2 => hs () (lt_s h ⟨fun z => absurd z (fun y => y.elim g g2), fun z => absurd z g⟩))
theorem cv_mb {post : Int32 → Prop} {w i : Nat} (hl : ∀ j, (R j).2.2.2 ≤ 16) (hP : ∀ j, j < n → cv_wf (P j)) (hn : n ≤ 16) (hk : k ≤ n) (hW1 : ∀ x, W x ≤ 1) (hu : cv_uni P R k W H C B F) (hw : w < 4) (hWw : W w ≠ 0) (hi : i < 16) (h1 : (∀ o, o < 4 → cv_may P W H C B F w i o) → post 1) (h0 : (∃ o, o < 4 ∧ W o ≠ 0 ∧ H o < H w) → post 0) : wpX_mayBegin post (cv_st ln D len n k t sm vec scal cells P W H C sin B F val cel rdy) (nI w) (nI i) := by
  unfold wpX_mayBegin cv_st
  dsimp only
  simp only [nI_clamp (show w < 2 ^ 31 by omega)]
  have uw := hu w hw hWw
  refine ⟨pk_in w 4 hw, nm_e ?_⟩
  refine loop_0 (σ := Unit) (fun m o _ => wX_mayBegin_10 post (nI i) (nI (H w)) (nI ln) (nI D) (nI len) (nI n) (nI k) (nI t) sm vec scal cells (fun j => nI (P j).1) (fun j => nI (P j).2.1) (fun j => (P j).2.2.1) (fun j => (P j).2.2.2) (fun j => nI (W j)) (fun j => nI (H j)) (fun j => nI (C j)) sin (fun j => nI (B j)) (fun j => nI (F j)) val (fun j => nI (cel j)) (fun j => nI (rdy j)) m (nI o)) (fun o _ => ∀ o', o' < o → cv_may P W H C B F w i o') 4 () lt_0 ?_ ?_
  · intro m _ h
    exact pk_le 4 4 (fun _ => h1 h) (fun z => absurd z (by omega))
  · intro m o _ ho h hs
    have b1 := hW1 o
    refine pk_le 4 o (fun z => absurd z (by omega)) (fun _ => ?_)
    rw [nI_clamp (show o < 2 ^ 31 by omega)]
    refine ⟨pk_in o 4 ho, pk_eq (W o) 0 (fun z => nm_r (nI_1 o) (hs () (lt_s h (fun g => absurd z g)))) (fun z => ⟨pk_in o 4 ho, ?_⟩)⟩
    have uo := hu o ho z
    have lo := hl (H o)
    refine pk_le (H w) (H o) (fun g => nm_r (nI_1 o) (hs () (lt_s h (fun _ g2 => absurd g2 (by omega))))) (fun g => ⟨pk_in o 4 ho, pk_lt i (C o) (fun g2 => ?_) (fun g2 => nm_r (nI_1 o) (hs () (lt_s h (fun _ _ g3 => absurd g3 (by omega)))))⟩)
    exact cv_mb54 ho hi (by omega) (hP _ (by omega)) (by omega) (hP _ (by omega)) (by omega) (by omega) (h0 ⟨o, ho, z, g⟩) (fun ok => hs () (lt_s h (fun _ _ _ => ok)))
end
end
section
theorem cv_ix (a b : Nat) : (16 : Int32) * nI a + nI b = nI (16 * a + b) := by
  rw [show (16 : Int32) = nI 16 from rfl, pk_mul, nI_add]
section
variable {c : cv_I} {A : cv_A} {i : Nat}
theorem cv_r0 (h : c.1 = 0) : cv_res c A i = A.1 (16 * c.2.2.1.toNatClampNeg + i) + A.1 (16 * c.2.2.2.toNatClampNeg + i) := by
  unfold cv_res
  rw [if_neg (by omega), if_neg (by omega), if_neg (by omega), if_neg (by omega), if_neg (by omega), if_neg (by omega), if_pos (by omega)]
theorem cv_r1 (h : c.1 = 1) : cv_res c A i = A.1 (16 * c.2.2.1.toNatClampNeg + i) - A.1 (16 * c.2.2.2.toNatClampNeg + i) := by
  unfold cv_res
  rw [if_neg (by omega), if_neg (by omega), if_neg (by omega), if_neg (by omega), if_neg (by omega), if_neg (by omega), if_neg (by omega), if_pos (by omega)]
theorem cv_r2 (h : c.1 = 2) : cv_res c A i = A.1 (16 * c.2.2.1.toNatClampNeg + i) * A.1 (16 * c.2.2.2.toNatClampNeg + i) := by
  unfold cv_res
  rw [if_neg (by omega), if_neg (by omega), if_neg (by omega), if_neg (by omega), if_neg (by omega), if_neg (by omega), if_neg (by omega), if_neg (by omega), if_pos (by omega)]
theorem cv_r3 (h : c.1 = 3) : cv_res c A i = if A.1 (16 * c.2.2.1.toNatClampNeg + i) ≤ A.1 (16 * c.2.2.2.toNatClampNeg + i) then A.1 (16 * c.2.2.2.toNatClampNeg + i) else A.1 (16 * c.2.2.1.toNatClampNeg + i) := by
  unfold cv_res
  rw [if_neg (by omega), if_neg (by omega), if_neg (by omega), if_neg (by omega), if_neg (by omega), if_neg (by omega), if_neg (by omega), if_neg (by omega), if_neg (by omega)]
theorem cv_r4 (h : c.1 = 4) : cv_res c A i = A.1 (16 * c.2.2.1.toNatClampNeg + i) + A.2.1 c.2.2.2.toNatClampNeg := by
  unfold cv_res
  rw [if_neg (by omega), if_neg (by omega), if_neg (by omega), if_pos (by omega)]
theorem cv_r5 (h : c.1 = 5) : cv_res c A i = A.1 (16 * c.2.2.1.toNatClampNeg + i) * A.2.1 c.2.2.2.toNatClampNeg := by
  unfold cv_res
  rw [if_neg (by omega), if_neg (by omega), if_neg (by omega), if_neg (by omega), if_pos (by omega)]
theorem cv_r6 (h : c.1 = 6) : cv_res c A i = A.2.2.1 (cv_addr c A i) := by
  unfold cv_res
  rw [if_neg (by omega), if_pos (by omega)]
theorem cv_r7 (h : c.1 = 7) : cv_res c A i = A.1 (16 * c.2.1 + i) := by
  unfold cv_res
  rw [if_pos (by omega)]
theorem cv_r8 (h : c.1 = 8) : cv_res c A i = A.2.2.1 (A.1 (16 * c.2.2.1.toNatClampNeg + i) &&& 63).toNatClampNeg := by
  unfold cv_res
  rw [if_neg (by omega), if_neg (by omega), if_pos (by omega)]
theorem cv_r9 (h : c.1 = 9) : cv_res c A i = A.1 (16 * c.2.2.1.toNatClampNeg + i) := by
  unfold cv_res
  rw [if_neg (by omega), if_neg (by omega), if_neg (by omega), if_neg (by omega), if_neg (by omega), if_pos (by omega)]
end
theorem cv_63 (x : Int32) : ∃ j, j < 64 ∧ x &&& 63 = nI j := pk_andE x 6 (by decide)
section
variable {R : Nat → cv_A} {Q : Nat → Nat} {ln D len n k t : Nat} {sm : Int32} {vec scal cells : Nat → Int32} {P : Nat → cv_I} {W H C : Nat → Nat} {sin : Nat → Int32} {B F : Nat → Nat} {val : Nat → Int32} {cel rdy : Nat → Nat}
theorem cv_fetch {post : Int32 → St2 → Prop} (hl : ∀ j, (R j).2.2.2 ≤ 16) (hP : ∀ j, j < n → cv_wf (P j)) (hn : n ≤ 16) (hk : k ≤ n) (h : (cv_J P R D k t sm vec scal cells W H C B F Q sin val cel rdy)) (hW : W 2 ≠ 0) (hB : B 2 < C 2) (hc : ∀ o, o < 4 → cv_may P W H C B F 2 (B 2) o)
    (hp : ∀ y cel', y = cv_res (P (H 2)) (R (H 2)) (B 2) → (∀ m, m ≠ 16 * 2 + B 2 → cel' m = cel m) → ((P (H 2)).1 = 7 → cel' (16 * 2 + B 2) = cv_addr (P (H 2)) (R (H 2)) (B 2)) → post y (cv_st ln D len n k t sm vec scal cells P W H C sin B F val cel' rdy)) : wpX_fetch post (cv_st ln D len n k t sm vec scal cells P W H C sin B F val cel rdy) (nI 2) (nI (B 2)) := by
  obtain ⟨u1, u2, u3, u4, u5, u6⟩ := h.1 2 (by decide) hW
  obtain ⟨w1, w2, w3, w4⟩ := hP (H 2) (by omega)
  obtain ⟨yn, hyn, hy⟩ := w3 (by omega) (by omega)
  have lo := hl (H 2)
  obtain ⟨o1, o2⟩ := cv_u2 _ (by omega) u6
  have hrd : ∀ {v}, cv_rd (P (H 2)) v → vec (16 * v + B 2) = (R (H 2)).1 (16 * v + B 2) := fun g => cv_J_rd hl hP hk h (by decide) hW hB hc g
  obtain ⟨m1, m2⟩ := h.2.2.2.2.2.2.1.2 hW
  obtain ⟨s1, s2⟩ := h.2.2.2.2.1 2 (by decide) hW
  have hcl : (P (H 2)).2.2.1.toNatClampNeg = yn := by rw [hy, nI_clamp (by omega)]
  unfold wpX_fetch cv_st
  dsimp only
  simp only [nI_clamp (show 2 < 2 ^ 31 by omega), nI_clamp (show H 2 < 2 ^ 31 by omega)]
  refine ⟨pk_in 2 4 (by decide), nm_e ?_⟩
  simp only [nI_clamp (show H 2 < 2 ^ 31 by omega)]
  refine ⟨pk_in (H 2) 16 (by omega), pk_eq (P (H 2)).1 8 (fun g => ?_) (fun g => ?_)⟩
  · have e1 : (16 * (P (H 2)).2.2.1 + nI (B 2)).toNatClampNeg = 16 * yn + B 2 := by rw [hy, cv_ix, nI_clamp (by omega)]
    rw [if_neg (by omega)] at m1
    refine ⟨pk_in (H 2) 16 (by omega), pk_in (16 * yn + B 2) 64 (by omega) (by rw [hy, cv_ix]), nm_e ⟨pk_andIn _ 6 (by decide) (by decide), ?_⟩⟩
    refine hp _ cel ?_ (fun _ _ => rfl) (fun z => absurd z (by omega))
    rw [cv_r8 g, m1, e1, hrd (Or.inr (Or.inr ⟨by omega, hy⟩)), hcl]
  · refine ⟨pk_in 2 4 (by decide), pk_in (H 2) 16 (by omega), nm_r (e' := ((R (H 2)).2.1 (P (H 2)).2.2.1.toNatClampNeg + nI (B 2) * (P (H 2)).2.2.2) &&& 63) (by rw [s2 (by omega)]) ⟨pk_in (H 2) 16 (by omega), pk_eq (P (H 2)).1 6 (fun g2 => ?_) (fun g2 => ?_)⟩⟩
    · rw [if_neg (by omega)] at m1
      refine ⟨pk_andIn _ 6 (by decide) (by decide), hp _ cel ?_ (fun _ _ => rfl) (fun z => absurd z (by omega))⟩
      rw [cv_r6 g2, m1]
      rfl
    · have g7 : (P (H 2)).1 = 7 := by omega
      obtain ⟨j, hj, ej⟩ := cv_63 ((R (H 2)).2.1 (P (H 2)).2.2.1.toNatClampNeg + nI (B 2) * (P (H 2)).2.2.2)
      have ea : cv_addr (P (H 2)) (R (H 2)) (B 2) = j := by
        unfold cv_addr
        rw [ej, nI_clamp (by omega)]
      have e2 : ((16 : Int32) * nI 2 + nI (B 2)).toNatClampNeg = 16 * 2 + B 2 := by rw [cv_ix, nI_clamp (by omega)]
      have e3 : (16 * nI (P (H 2)).2.1 + nI (B 2)).toNatClampNeg = 16 * (P (H 2)).2.1 + B 2 := by rw [cv_ix, nI_clamp (by omega)]
      rw [ej, e2]
      refine ⟨pk_in (16 * 2 + B 2) 64 (by omega) (cv_ix 2 (B 2)), nm_r (cv_uN (v := j) (cv_by j (by omega))) ⟨pk_in (H 2) 16 (by omega), pk_in (16 * (P (H 2)).2.1 + B 2) 64 (by omega) (cv_ix _ _), hp _ _ ?_ (fun m hm => cv_un hm) (fun _ => by rw [cv_us, ea])⟩⟩
      rw [cv_r7 g7, e3]
      exact hrd (Or.inr (Or.inl ⟨g7, rfl⟩))
theorem cv_cmp {post : Int32 → St2 → Prop} {w : Nat} (hl : ∀ j, (R j).2.2.2 ≤ 16) (hP : ∀ j, j < n → cv_wf (P j)) (hn : n ≤ 16) (hk : k ≤ n) (h : (cv_J P R D k t sm vec scal cells W H C B F Q sin val cel rdy)) (hw : w < 4) (hW : W w ≠ 0) (hB : B w < C w) (hc : ∀ o, o < 4 → cv_may P W H C B F w (B w) o)
    (hp : ∀ y cel', y = cv_res (P (H w)) (R (H w)) (B w) → (∀ m, m ≠ 16 * w + B w → cel' m = cel m) → ((P (H w)).1 = 7 → cel' (16 * w + B w) = cv_addr (P (H w)) (R (H w)) (B w)) → post y (cv_st ln D len n k t sm vec scal cells P W H C sin B F val cel' rdy)) : wpX_compute post (cv_st ln D len n k t sm vec scal cells P W H C sin B F val cel rdy) (nI w) (nI (B w)) := by
  obtain ⟨u1, u2, u3, u4, u5, u6⟩ := h.1 w hw hW
  obtain ⟨w1, w2, w3, w4⟩ := hP (H w) (by omega)
  obtain ⟨yn, hyn, hy⟩ := w3 (by omega) (by omega)
  have lo := hl (H w)
  have hrd : ∀ {v}, cv_rd (P (H w)) v → vec (16 * v + B w) = (R (H w)).1 (16 * v + B w) := fun g => cv_J_rd hl hP hk h hw hW hB hc g
  obtain ⟨s1, s2⟩ := h.2.2.2.2.1 w hw hW
  have hcl : (P (H w)).2.2.1.toNatClampNeg = yn := by rw [hy, nI_clamp (by omega)]
  unfold wpX_compute cv_st
  dsimp only
  simp only [nI_clamp (show w < 2 ^ 31 by omega)]
  refine ⟨pk_in w 4 hw, nm_e ?_⟩
  simp only [nI_clamp (show H w < 2 ^ 31 by omega)]
  refine ⟨pk_in (H w) 16 (by omega), nm_e (pk_eq w 2 (fun g => ?_) (fun g => ?_))⟩
  · subst g
    exact cv_fetch hl hP hn hk h hW hB hc hp
  · have ho : (P (H w)).1 ≤ 5 ∨ (P (H w)).1 = 9 := by
      rcases Nat.lt_or_ge (P (H w)).1 6 with z | z
      · exact Or.inl (by omega)
      · rcases Nat.lt_or_ge 8 (P (H w)).1 with z2 | z2
        · exact Or.inr (by omega)
        · exact absurd (u6.symm.trans (cv_u2' _ (by omega) z z2)) g
    have ex : vec (16 * (P (H w)).2.2.1 + nI (B w)).toNatClampNeg = (R (H w)).1 (16 * (P (H w)).2.2.1.toNatClampNeg + B w) := by
      rw [hcl, hy, cv_ix, nI_clamp (by omega)]
      refine hrd ?_
      rcases Nat.lt_or_ge 3 (P (H w)).1 with z | z
      · exact Or.inr (Or.inr ⟨by omega, hy⟩)
      · exact Or.inl ⟨z, Or.inl hy⟩
    have fin : ∀ y, y = cv_res (P (H w)) (R (H w)) (B w) → post y (cv_st ln D len n k t sm vec scal cells P W H C sin B F val cel rdy) := fun y e => hp y cel e (fun _ _ => rfl) (fun z => absurd z (by omega))
    refine ⟨pk_in (H w) 16 (by omega), pk_in (16 * yn + B w) 64 (by omega) (by rw [hy, cv_ix]), nm_r ex (pk_eq (P (H w)).1 4 (fun g4 => ⟨pk_in w 4 hw, fin _ ?_⟩) (fun g4 => pk_eq (P (H w)).1 5 (fun g5 => ⟨pk_in w 4 hw, fin _ ?_⟩) (fun g5 => pk_eq (P (H w)).1 9 (fun g9 => fin _ ?_) (fun g9 => ?_))))⟩
    · rw [cv_r4 g4, s1 (Or.inl g4)]
    · rw [cv_r5 g5, s1 (Or.inr g5)]
    · rw [cv_r9 g9]
    · obtain ⟨zn, hzn, hz⟩ := w4 (by omega)
      have ez : vec (16 * (P (H w)).2.2.2 + nI (B w)).toNatClampNeg = (R (H w)).1 (16 * (P (H w)).2.2.2.toNatClampNeg + B w) := by
        rw [hz, cv_ix, nI_clamp (by omega), nI_clamp (by omega)]
        exact hrd (Or.inl ⟨by omega, Or.inr hz⟩)
      refine ⟨pk_in (H w) 16 (by omega), pk_in (16 * zn + B w) 64 (by omega) (by rw [hz, cv_ix]), nm_r ez (pk_eq (P (H w)).1 0 (fun g0 => fin _ ?_) (fun g0 => pk_eq (P (H w)).1 1 (fun g1 => fin _ ?_) (fun g1 => pk_eq (P (H w)).1 2 (fun g2 => fin _ ?_) (fun g2 => br_c (fun gl => fin _ ?_) (fun gl => fin _ ?_)))))⟩
      · rw [cv_r0 g0]
      · rw [cv_r1 g1]
      · rw [cv_r2 g2]
      · rw [cv_r3 (by omega), if_pos gl]
      · rw [cv_r3 (by omega), if_neg gl]
end
end
section
/-! the whole invariant of a state inside a run; Y: how far this cycle has come -/
def cv_G (P : Nat → cv_I) (R : Nat → cv_A) (n ln D : Nat) : Prop := 1 ≤ ln ∧ ln ≤ 4 ∧ D ≤ 5 ∧ n ≤ 16 ∧ (∀ j, j < n → cv_wf (P j)) ∧ (∀ j, R (j + 1) = cv_step (P j) (R j)) ∧ (∀ j, (R j).2.2.2 ≤ 16)
def cv_E (P : Nat → cv_I) (R : Nat → cv_A) (D n len k t : Nat) (sm : Int32) (vec scal cells : Nat → Int32) (W H C : Nat → Nat) (sin : Nat → Int32) (B F : Nat → Nat) (val : Nat → Int32) (cel rdy Q : Nat → Nat) : Prop :=
  k ≤ n ∧ t ≤ 1000 ∧ len = (R k).2.2.2 ∧ (∀ x, W x ≤ 1) ∧ (cv_J P R D k t sm vec scal cells W H C B F Q sin val cel rdy)
def cv_T (P : Nat → cv_I) (R : Nat → cv_A) (n ln D : Nat) (Y : Nat → Nat → (Nat → Nat) → (Nat → Nat) → (Nat → Nat) → (Nat → Nat) → (Nat → Nat) → Prop) (u : St2) : Prop :=
  ∃ (len k t : Nat) (sm : Int32) (vec scal cells : Nat → Int32) (W H C : Nat → Nat) (sin : Nat → Int32) (B F : Nat → Nat) (val : Nat → Int32) (cel rdy Q : Nat → Nat), u = (cv_st ln D len n k t sm vec scal cells P W H C sin B F val cel rdy) ∧ cv_E P R D n len k t sm vec scal cells W H C sin B F val cel rdy Q ∧ Y k t W C B F Q
def cv_p1 (n K t0 x k t : Nat) (W C B F Q : Nat → Nat) : Prop := t = t0 ∧ ((cv_M n k W C B F Q) < K ∨ ((cv_M n k W C B F Q) ≤ K ∧ (k < n ∨ ∃ y, y < 4 ∧ W y ≠ 0) ∧ ∀ y, y < x → W y ≠ 0 → B y < C y ∨ 1 ≤ Q y))
def cv_p2 (n K t0 k t : Nat) (W C B F Q : Nat → Nat) : Prop := t = t0 ∧ ((cv_M n k W C B F Q) < K ∨ ((cv_M n k W C B F Q) ≤ K ∧ ((∃ y, y < 4 ∧ W y ≠ 0 ∧ B y = C y ∧ 1 ≤ Q y) ∨ ((∀ y, y < 4 → W y = 0) ∧ k < n))))
def cv_p3 (n K t0 k t : Nat) (W C B F Q : Nat → Nat) : Prop := t = t0 ∧ ((cv_M n k W C B F Q) < K ∨ ((cv_M n k W C B F Q) ≤ K ∧ ∃ y, y < 4 ∧ W y ≠ 0 ∧ B y = C y ∧ 1 ≤ Q y))
theorem cv_p2_B {n K t0 k t w : Nat} {W C B F Q : Nat → Nat} (hw : w < 4) (h : cv_p2 n K t0 k t W C B F Q) (hW : W w ≠ 0) (hB : B w < C w) : cv_p2 n K t0 k t W C (cv_up B w (B w + 1)) F Q := by
  have hm := cv_M_B (n := n) (k := k) (F := F) (Q := Q) hw hW hB
  obtain ⟨h1, h2⟩ := h
  refine ⟨h1, Or.inl ?_⟩
  rcases h2 with h2 | h2
  · omega
  · have := h2.1
    omega
section
variable {R : Nat → cv_A} {Q : Nat → Nat} {ln D len n k t : Nat} {sm : Int32} {vec scal cells : Nat → Int32} {P : Nat → cv_I} {W H C : Nat → Nat} {sin : Nat → Int32} {B F : Nat → Nat} {val : Nat → Int32} {cel rdy : Nat → Nat}
theorem cv_be1 {post : St2 → Prop} {w c m : Nat} (g : cv_G P R n ln D) (hE : cv_E P R D n len k t sm vec scal cells W H C sin B F val cel rdy Q) (hw : w < 4) (hW : W w ≠ 0) (hc : c < ln)
    (hx : (C w ≤ B w ∨ ∃ o, o < 4 ∧ W o ≠ 0 ∧ H o < H w) → post (cv_st ln D len n k t sm vec scal cells P W H C sin B F val cel rdy))
    (hs : B w < C w → ∀ val' cel', cv_E P R D n len k t sm vec scal cells W H C sin (cv_up B w (B w + 1)) F val' cel' (cv_up rdy (16 * w + B w) (t + D)) Q → wX_beginElements_2 post (nI w) m (nI (c + 1)) (nI ln) (nI D) (nI len) (nI n) (nI k) (nI t) sm vec scal cells (fun j => nI (P j).1) (fun j => nI (P j).2.1) (fun j => (P j).2.2.1) (fun j => (P j).2.2.2) (fun j => nI (W j)) (fun j => nI (H j)) (fun j => nI (C j)) sin (fun j => nI ((cv_up B w (B w + 1)) j)) (fun j => nI (F j)) val' (fun j => nI (cel' j)) (fun j => nI ((cv_up rdy (16 * w + B w) (t + D)) j))) :
    wX_beginElements_2 post (nI w) (m + 1) (nI c) (nI ln) (nI D) (nI len) (nI n) (nI k) (nI t) sm vec scal cells (fun j => nI (P j).1) (fun j => nI (P j).2.1) (fun j => (P j).2.2.1) (fun j => (P j).2.2.2) (fun j => nI (W j)) (fun j => nI (H j)) (fun j => nI (C j)) sin (fun j => nI (B j)) (fun j => nI (F j)) val (fun j => nI (cel j)) (fun j => nI (rdy j)) := by
  obtain ⟨g1, g2, g3, g4, hP, hR, hl⟩ := g
  obtain ⟨e1, e2, e3, e4, hJ⟩ := hE
  obtain ⟨u1, u2, u3, u4, u5, u6⟩ := hJ.1 w hw hW
  have lw := hl (H w)
  refine pk_le ln c (fun z => absurd z (by omega)) (fun _ => ?_)
  dsimp only
  simp only [nI_clamp (show w < 2 ^ 31 by omega)]
  refine ⟨pk_in w 4 hw, nm_e ⟨pk_in w 4 hw, pk_le (C w) (B w) (fun z => hx (Or.inl z)) (fun z => ?_)⟩⟩
  refine cv_mb hl hP g4 e1 e4 hJ.1 hw hW (by omega) (fun hmay => br_f cv_10 (nm_r (cv_ix w (B w)) ?_)) (fun hex => br_t rfl (hx (Or.inr hex)))
  refine cv_cmp hl hP g4 e1 hJ hw hW z hmay (fun y cel' hy hc1 hc2 => ?_)
  rw [nI_clamp (show 16 * w + B w < 2 ^ 31 by omega)]
  refine ⟨pk_in (16 * w + B w) 64 (by omega), nm_e ⟨pk_in (16 * w + B w) 64 (by omega), nm_r (cv_uN (nI_add t D)) ⟨pk_in w 4 hw, pk_in w 4 hw, nm_r (cv_uN (v := B w + 1) (by rw [nI_1, cv_by _ (by omega)])) (nm_r (nI_1 c) (hs z _ _ ?_))⟩⟩⟩
  exact ⟨e1, e2, e3, e4, cv_J_bg hl hP e1 hJ hw hW z hmay hy hc1 hc2⟩
end
section
variable {R : Nat → cv_A} {ln D n : Nat} {P : Nat → cv_I}
theorem cv_be {post : St2 → Prop} {w : Nat} {Y : Nat → Nat → (Nat → Nat) → (Nat → Nat) → (Nat → Nat) → (Nat → Nat) → (Nat → Nat) → Prop} (g : cv_G P R n ln D) (hw : w < 4) (hY : ∀ k t W C B F Q, Y k t W C B F Q → W w ≠ 0 → B w < C w → Y k t W C (cv_up B w (B w + 1)) F Q) (hp : ∀ u, cv_T P R n ln D Y u → post u) :
    ∀ d c, c + d = ln → ∀ (len k t : Nat) (sm : Int32) (vec scal cells : Nat → Int32) (W H C : Nat → Nat) (sin : Nat → Int32) (B F : Nat → Nat) (val : Nat → Int32) (cel rdy Q : Nat → Nat), cv_E P R D n len k t sm vec scal cells W H C sin B F val cel rdy Q → W w ≠ 0 → Y k t W C B F Q → wX_beginElements_2 post (nI w) (d + 1) (nI c) (nI ln) (nI D) (nI len) (nI n) (nI k) (nI t) sm vec scal cells (fun j => nI (P j).1) (fun j => nI (P j).2.1) (fun j => (P j).2.2.1) (fun j => (P j).2.2.2) (fun j => nI (W j)) (fun j => nI (H j)) (fun j => nI (C j)) sin (fun j => nI (B j)) (fun j => nI (F j)) val (fun j => nI (cel j)) (fun j => nI (rdy j)) := by
  intro d
  induction d with
  | zero =>
    intro c hc len k t sm vec scal cells W H C sin B F val cel rdy Q hE hW hy
    have hln := g.2.1
    exact pk_le ln c (fun _ => hp _ ⟨len, k, t, sm, vec, scal, cells, W, H, C, sin, B, F, val, cel, rdy, Q, rfl, hE, hy⟩) (fun z => absurd z (by omega))
  | succ d ih =>
    intro c hc len k t sm vec scal cells W H C sin B F val cel rdy Q hE hW hy
    exact cv_be1 g hE hw hW (by omega) (fun _ => hp _ ⟨len, k, t, sm, vec, scal, cells, W, H, C, sin, B, F, val, cel, rdy, Q, rfl, hE, hy⟩) (fun z val' cel' hE' => ih (c + 1) (by omega) _ _ _ _ _ _ _ _ _ _ _ _ _ _ _ _ _ hE' hW (hY _ _ _ _ _ _ _ hy hW z))
/-- the oldest unit's turn -/
theorem cv_be_a {post : St2 → Prop} {w K t0 : Nat} (g : cv_G P R n ln D) (hw : w < 4) (hp : ∀ u, cv_T P R n ln D (cv_p2 n K t0) u → post u)
    {len k t : Nat} {sm : Int32} {vec scal cells : Nat → Int32} {W H C : Nat → Nat} {sin : Nat → Int32} {B F : Nat → Nat} {val : Nat → Int32} {cel rdy Q : Nat → Nat} (hE : cv_E P R D n len k t sm vec scal cells W H C sin B F val cel rdy Q) (hW : W w ≠ 0) (hy : cv_p1 n K t0 4 k t W C B F Q) (hold : ∀ y, y < 4 → W y ≠ 0 → H w ≤ H y) : wpX_beginElements post (cv_st ln D len n k t sm vec scal cells P W H C sin B F val cel rdy) (nI w) := by
  obtain ⟨u1, u2, u3, u4, u5, u6⟩ := hE.2.2.2.2.1 w hw hW
  have g1 := g.1
  refine ⟨ln + 1, cv_be1 (c := 0) g hE hw hW (by omega) (fun hx => ?_) (fun z val' cel' hE' => ?_)⟩
  · refine hp _ ⟨len, k, t, sm, vec, scal, cells, W, H, C, sin, B, F, val, cel, rdy, Q, rfl, hE, hy.1, ?_⟩
    rcases hx with hx | ⟨o, ho, hWo, hlt⟩
    · rcases hy.2 with h | ⟨h1, h2, h3⟩
      · exact Or.inl h
      · exact Or.inr ⟨h1, Or.inl ⟨w, hw, hW, by omega, by rcases h3 w hw hW with z | z <;> omega⟩⟩
    · exact absurd (hold o ho hWo) (by omega)
  · have e : ln = ln - 1 + 1 := by omega
    have r := cv_be (Y := cv_p2 n K t0) (post := post) g hw (fun k t W C B F Q h1 h2 h3 => cv_p2_B hw h1 h2 h3) hp (ln - 1) 1 (by omega) _ _ _ _ _ _ _ _ _ _ _ _ _ _ _ _ _ hE' hW (by
      refine ⟨hy.1, Or.inl ?_⟩
      have hm := cv_M_B (n := n) (k := k) (F := F) (Q := Q) hw hW z
      rcases hy.2 with h | h
      · omega
      · have := h.1
        omega)
    rw [← e] at r
    exact r
theorem cv_bio14 {post : St2 → Prop} {J4 : Int32 → Int32 → Int32 → Int32 → Int32 → Int32 → Int32 → Int32 → Int32 → (Nat → Int32) → (Nat → Int32) → (Nat → Int32) → (Nat → Int32) → (Nat → Int32) → (Nat → Int32) → (Nat → Int32) → (Nat → Int32) → (Nat → Int32) → (Nat → Int32) → (Nat → Int32) → (Nat → Int32) → (Nat → Int32) → (Nat → Int32) → (Nat → Int32) → (Nat → Int32) → Prop} {x1 x2 : Int32} {Y : Nat → Nat → (Nat → Nat) → (Nat → Nat) → (Nat → Nat) → (Nat → Nat) → (Nat → Nat) → Prop}
    {len k t : Nat} {sm : Int32} {vec scal cells : Nat → Int32} {W H C : Nat → Nat} {sin : Nat → Int32} {B F : Nat → Nat} {val : Nat → Int32} {cel rdy : Nat → Nat} (hW1 : ∀ x, W x ≤ 1) (hH : ∀ w, w < 4 → W w ≠ 0 → H w < 16)
    (hbe : ∀ o, o < 4 → W o ≠ 0 → x1 < nI (H o) → (∀ y, y < 4 → W y ≠ 0 → x1 < nI (H y) → H o ≤ H y) → ∀ q : St2 → Prop, (∀ u, cv_T P R n ln D Y u → q u) → wpX_beginElements q (cv_st ln D len n k t sm vec scal cells P W H C sin B F val cel rdy) (nI o))
    (hno : (∀ y, y < 4 → W y ≠ 0 → ¬ x1 < nI (H y)) → post (cv_st ln D len n k t sm vec scal cells P W H C sin B F val cel rdy))
    (hJ : ∀ (l : Int32) (len k t : Nat) (sm : Int32) (vec scal cells : Nat → Int32) (W H C : Nat → Nat) (sin : Nat → Int32) (B F : Nat → Nat) (val : Nat → Int32) (cel rdy Q : Nat → Nat), cv_E P R D n len k t sm vec scal cells W H C sin B F val cel rdy Q → Y k t W C B F Q → J4 l (x2 + 1) (nI ln) (nI D) (nI len) (nI n) (nI k) (nI t) sm vec scal cells (fun j => nI (P j).1) (fun j => nI (P j).2.1) (fun j => (P j).2.2.1) (fun j => (P j).2.2.2) (fun j => nI (W j)) (fun j => nI (H j)) (fun j => nI (C j)) sin (fun j => nI (B j)) (fun j => nI (F j)) val (fun j => nI (cel j)) (fun j => nI (rdy j))) :
    ∃ fu, wX_beginInOrder_14 post J4 x1 x2 (nI ln) (nI D) (nI len) (nI n) (nI k) (nI t) sm vec scal cells (fun j => nI (P j).1) (fun j => nI (P j).2.1) (fun j => (P j).2.2.1) (fun j => (P j).2.2.2) (fun j => nI (W j)) (fun j => nI (H j)) (fun j => nI (C j)) sin (fun j => nI (B j)) (fun j => nI (F j)) val (fun j => nI (cel j)) (fun j => nI (rdy j)) fu (-1) 0 := by
  refine loop_0 (σ := Int32) (fun m i s => wX_beginInOrder_14 post J4 x1 x2 (nI ln) (nI D) (nI len) (nI n) (nI k) (nI t) sm vec scal cells (fun j => nI (P j).1) (fun j => nI (P j).2.1) (fun j => (P j).2.2.1) (fun j => (P j).2.2.2) (fun j => nI (W j)) (fun j => nI (H j)) (fun j => nI (C j)) sin (fun j => nI (B j)) (fun j => nI (F j)) val (fun j => nI (cel j)) (fun j => nI (rdy j)) m s (nI i)) (fun i s => (s = -1 ∧ ∀ y, y < i → W y ≠ 0 → ¬ x1 < nI (H y)) ∨ (∃ o, o < i ∧ s = nI o ∧ W o ≠ 0 ∧ x1 < nI (H o) ∧ ∀ y, y < i → W y ≠ 0 → x1 < nI (H y) → H o ≤ H y)) 4 (-1) (Or.inl ⟨rfl, lt_0⟩) ?_ ?_
  · intro m s h
    refine pk_le 4 4 (fun _ => ?_) (fun z => absurd z (by omega))
    rcases h with ⟨rfl, h⟩ | ⟨o, ho, rfl, h1, h2, h3⟩
    · exact br_f (by decide) (hno h)
    · refine br_t (nI_pos' (by omega)) ⟨pk_in o 4 ho, nm_e (hbe o ho h1 h2 h3 _ ?_)⟩
      rintro u ⟨len', k', t', sm', vec', scal', cells', W', H', C', sin', B', F', val', cel', rdy', Q', rfl, hE', hY'⟩
      exact nm_e (hJ _ _ _ _ _ _ _ _ _ _ _ _ _ _ _ _ _ _ hE' hY')
  · intro m i s hi h hs
    refine pk_le 4 i (fun z => absurd z (by omega)) (fun _ => ?_)
    rw [nI_clamp (show i < 2 ^ 31 by omega)]
    have b1 := hW1 i
    refine ⟨pk_in i 4 hi, pk_eq (W i) 0 (fun z => nm_r (nI_1 i) (hs _ ?_)) (fun z => ⟨pk_in i 4 hi, ?_⟩)⟩
    · rcases h with ⟨e, h⟩ | ⟨o, ho, e, h1, h2, h3⟩
      · exact Or.inl ⟨e, lt_s h (fun y => absurd z y)⟩
      · exact Or.inr ⟨o, by omega, e, h1, h2, lt_s h3 (fun y => absurd z y)⟩
    · have hHi := hH i hi z
      refine br_c (fun g => ?_) (fun g => nm_r (nI_1 i) (hs _ ?_))
      · rcases h with ⟨e, h⟩ | ⟨o, ho, e, h1, h2, h3⟩
        · refine br_t (by rw [e]; decide) (nm_r (nI_1 i) (hs _ (Or.inr ⟨i, by omega, rfl, z, g, lt_s ?_ (fun _ _ => Nat.le_refl _)⟩)))
          exact fun y hy a b => absurd b (h y hy a)
        · have hHo := hH o (by omega) h1
          refine br_f (by rw [e]; exact nI_pos (by omega)) ⟨pk_in i 4 hi, pk_in o 4 (by omega) e, ?_⟩
          rw [e, nI_clamp (show o < 2 ^ 31 by omega)]
          refine pk_le (H o) (H i) (fun q => nm_r (nI_1 i) (hs _ (Or.inr ⟨o, by omega, rfl, h1, h2, lt_s h3 (fun _ _ => q)⟩))) (fun q => nm_r (nI_1 i) (hs _ (Or.inr ⟨i, by omega, rfl, z, g, lt_s ?_ (fun _ _ => Nat.le_refl _)⟩)))
          intro y hy a b
          have := h3 y hy a b
          omega
      · rcases h with ⟨e, h⟩ | ⟨o, ho, e, h1, h2, h3⟩
        · exact Or.inl ⟨e, lt_s h (fun _ => g)⟩
        · exact Or.inr ⟨o, by omega, e, h1, h2, lt_s h3 (fun _ y => absurd y g)⟩
theorem cv_hH (g : cv_G P R n ln D) {len k t : Nat} {sm : Int32} {vec scal cells : Nat → Int32} {W H C : Nat → Nat} {sin : Nat → Int32} {B F : Nat → Nat} {val : Nat → Int32} {cel rdy Q : Nat → Nat} (hE : cv_E P R D n len k t sm vec scal cells W H C sin B F val cel rdy Q) : ∀ w, w < 4 → W w ≠ 0 → H w < 16 := by
  intro w hw hW
  have h1 := (hE.2.2.2.2.1 w hw hW).1
  have h2 := hE.1
  have h3 := g.2.2.2.1
  omega
theorem cv_bio4 {post : St2 → Prop} {K t0 : Nat} (g : cv_G P R n ln D) (hp : ∀ u, cv_T P R n ln D (cv_p2 n K t0) u → post u) :
    ∀ d c, c + d = 4 → ∀ (x1 : Int32) (len k t : Nat) (sm : Int32) (vec scal cells : Nat → Int32) (W H C : Nat → Nat) (sin : Nat → Int32) (B F : Nat → Nat) (val : Nat → Int32) (cel rdy Q : Nat → Nat), cv_E P R D n len k t sm vec scal cells W H C sin B F val cel rdy Q → cv_p2 n K t0 k t W C B F Q → wX_beginInOrder_4 post (d + 1) x1 (nI c) (nI ln) (nI D) (nI len) (nI n) (nI k) (nI t) sm vec scal cells (fun j => nI (P j).1) (fun j => nI (P j).2.1) (fun j => (P j).2.2.1) (fun j => (P j).2.2.2) (fun j => nI (W j)) (fun j => nI (H j)) (fun j => nI (C j)) sin (fun j => nI (B j)) (fun j => nI (F j)) val (fun j => nI (cel j)) (fun j => nI (rdy j)) := by
  intro d
  induction d with
  | zero =>
    intro c hc x1 len k t sm vec scal cells W H C sin B F val cel rdy Q hE hy
    exact pk_le 4 c (fun _ => hp _ ⟨len, k, t, sm, vec, scal, cells, W, H, C, sin, B, F, val, cel, rdy, Q, rfl, hE, hy⟩) (fun z => absurd z (by omega))
  | succ d ih =>
    intro c hc x1 len k t sm vec scal cells W H C sin B F val cel rdy Q hE hy
    refine pk_le 4 c (fun z => absurd z (by omega)) (fun _ => cv_bio14 (Y := cv_p2 n K t0) hE.2.2.2.1 (cv_hH g hE) (fun o ho hWo _ _ q hq => ⟨ln + 1, cv_be g ho (fun k t W C B F Q h1 h2 h3 => cv_p2_B ho h1 h2 h3) hq ln 0 (by omega) _ _ _ _ _ _ _ _ _ _ _ _ _ _ _ _ _ hE hWo hy⟩) (fun _ => hp _ ⟨len, k, t, sm, vec, scal, cells, W, H, C, sin, B, F, val, cel, rdy, Q, rfl, hE, hy⟩) ?_)
    intro l len' k' t' sm' vec' scal' cells' W' H' C' sin' B' F' val' cel' rdy' Q' hE' hy'
    rw [nI_1]
    exact ih (c + 1) (by omega) l _ _ _ _ _ _ _ _ _ _ _ _ _ _ _ _ _ hE' hy'
theorem cv_bio {post : St2 → Prop} {K t0 : Nat} (g : cv_G P R n ln D) {u : St2} (hu : cv_T P R n ln D (cv_p1 n K t0 4) u) (hp : ∀ u, cv_T P R n ln D (cv_p2 n K t0) u → post u) : wpX_beginInOrder post u := by
  obtain ⟨len, k, t, sm, vec, scal, cells, W, H, C, sin, B, F, val, cel, rdy, Q, rfl, hE, hy⟩ := hu
  refine ⟨3 + 1 + 1, pk_le 4 0 (fun z => absurd z (by omega)) (fun _ => cv_bio14 (Y := cv_p2 n K t0) hE.2.2.2.1 (cv_hH g hE) (fun o ho hWo h1 h2 q hq => cv_be_a g ho hq hE hWo hy (fun y hy hWy => h2 y hy hWy ?_)) (fun hno => hp _ ⟨len, k, t, sm, vec, scal, cells, W, H, C, sin, B, F, val, cel, rdy, Q, rfl, hE, hy.1, ?_⟩) ?_)⟩
  · have := cv_hH g hE y hy hWy
    rw [Int32.lt_iff_toInt_lt, nI_toInt (by omega), show (-1 : Int32).toInt = -1 from by decide]
    omega
  · rcases hy.2 with h | ⟨h1, h2, h3⟩
    · exact Or.inl h
    · have hz : ∀ y, y < 4 → W y = 0 := by
        intro y hy
        by_cases z : W y = 0
        · exact z
        · have := cv_hH g hE y hy z
          refine absurd ?_ (hno y hy z)
          rw [Int32.lt_iff_toInt_lt, nI_toInt (by omega), show (-1 : Int32).toInt = -1 from by decide]
          omega
      refine Or.inr ⟨h1, Or.inr ⟨hz, ?_⟩⟩
      rcases h2 with z | ⟨y, hy, z⟩
      · exact z
      · exact absurd (hz y hy) z
  · intro l len' k' t' sm' vec' scal' cells' W' H' C' sin' B' F' val' cel' rdy' Q' hE' hy'
    exact cv_bio4 g hp 3 1 (by omega) l _ _ _ _ _ _ _ _ _ _ _ _ _ _ _ _ _ hE' hy'
end
end
section
theorem cv_addr_lt (c : cv_I) (A : cv_A) (i : Nat) : cv_addr c A i < 64 := by
  unfold cv_addr
  obtain ⟨j, hj, e⟩ := cv_63 (A.2.1 c.2.2.1.toNatClampNeg + nI i * c.2.2.2)
  rw [e, nI_clamp (by omega)]
  exact hj
section
variable {R : Nat → cv_A} {Q : Nat → Nat} {ln D len n k t : Nat} {sm : Int32} {vec scal cells : Nat → Int32} {P : Nat → cv_I} {W H C : Nat → Nat} {sin : Nat → Int32} {B F : Nat → Nat} {val : Nat → Int32} {cel rdy : Nat → Nat}
theorem cv_dlv {post : St2 → Prop} {w : Nat} (g : cv_G P R n ln D) (hE : cv_E P R D n len k t sm vec scal cells W H C sin B F val cel rdy Q) (hw : w < 4) (hW : W w ≠ 0) (hF : F w < B w)
    (hp : ∀ sm' vec' cells', cv_E P R D n len k t sm' vec' scal cells' W H C sin B (cv_up F w (F w + 1)) val cel rdy Q → post (cv_st ln D len n k t sm' vec' scal cells' P W H C sin B F val cel rdy)) : wpX_deliver post (cv_st ln D len n k t sm vec scal cells P W H C sin B F val cel rdy) (nI w) (nI (F w)) := by
  obtain ⟨g1, g2, g3, g4, hP, hR, hl⟩ := g
  obtain ⟨e1, e2, e3, e4, hJ⟩ := hE
  obtain ⟨u1, u2, u3, u4, u5, u6⟩ := hJ.1 w hw hW
  obtain ⟨w1, w2, w3, w4⟩ := hP (H w) (by omega)
  have lw := hl (H w)
  have ex : ((16 : Int32) * nI w + nI (F w)).toNatClampNeg = 16 * w + F w := by rw [cv_ix, nI_clamp (by omega)]
  have ex2 : ((16 : Int32) * nI (P (H w)).2.1 + nI (F w)).toNatClampNeg = 16 * (P (H w)).2.1 + F w := by rw [cv_ix, nI_clamp (by omega)]
  unfold wpX_deliver cv_st
  dsimp only
  simp only [nI_clamp (show w < 2 ^ 31 by omega)]
  refine ⟨pk_in w 4 hw, nm_e ?_⟩
  simp only [nI_clamp (show H w < 2 ^ 31 by omega), ex, ex2]
  refine ⟨pk_in (16 * w + F w) 64 (by omega) (cv_ix _ _), nm_e (pk_eq w 3 (fun z => ?_) (fun z => ⟨pk_in (H w) 16 (by omega), pk_eq (P (H w)).1 7 (fun z2 => ?_) (fun z2 => ?_)⟩))⟩
  · subst z
    exact nm_e (hp _ _ _ ⟨e1, e2, e3, e4, cv_J_dd hJ hW hF⟩)
  · have hw2 : w = 2 := u6.symm.trans (cv_u7 _ (by omega) z2)
    subst hw2
    have hc := (hJ.2.2.2.1 2 (F 2) (by decide) hW (Nat.le_refl _) hF).2 z2
    have hc2 := cv_addr_lt (P (H 2)) (R (H 2)) (F 2)
    refine ⟨pk_in (16 * 2 + F 2) 64 (by omega) (cv_ix _ _), pk_in (cel (16 * 2 + F 2)) 64 (by omega), ?_⟩
    rw [nI_clamp (show cel (16 * 2 + F 2) < 2 ^ 31 by omega)]
    exact nm_e (hp _ _ _ ⟨e1, e2, e3, e4, cv_J_ds hJ hW hF z2⟩)
  · refine ⟨pk_in (H w) 16 (by omega), pk_in (16 * (P (H w)).2.1 + F w) 64 (by omega) (cv_ix _ _), nm_e (hp _ _ _ ⟨e1, e2, e3, e4, cv_J_dv hR hl hJ hw hW hF z2 z⟩)⟩
theorem cv_W1' {W : Nat → Nat} {w v : Nat} (hv : v ≤ 1) (h : ∀ x, W x ≤ 1) : ∀ x, cv_up W w v x ≤ 1 := by
  intro x
  by_cases z : x = w
  · rw [z, cv_us]; exact hv
  · rw [cv_un z]; exact h x
theorem cv_f81 {post : St2 → Prop} {w : Nat} (g : cv_G P R n ln D) (hE : cv_E P R D n len k t sm vec scal cells W H C sin B F val cel rdy Q) (hw : w < 4) (hW : W w ≠ 0) (hp0 : F w < C w → post (cv_st ln D len n k t sm vec scal cells P W H C sin B F val cel rdy))
    (hp1 : ∀ scal', cv_E P R D n len k t sm vec scal' cells (cv_up W w 0) H C sin B F val cel rdy Q → post (cv_st ln D len n k t sm vec scal' cells P (cv_up W w 0) H C sin B F val cel rdy)) : wX_finishElements_81 post (nI w) (nI ln) (nI D) (nI len) (nI n) (nI k) (nI t) sm vec scal cells (fun j => nI (P j).1) (fun j => nI (P j).2.1) (fun j => (P j).2.2.1) (fun j => (P j).2.2.2) (fun j => nI (W j)) (fun j => nI (H j)) (fun j => nI (C j)) sin (fun j => nI (B j)) (fun j => nI (F j)) val (fun j => nI (cel j)) (fun j => nI (rdy j)) := by
  obtain ⟨g1, g2, g3, g4, hP, hR, hl⟩ := g
  obtain ⟨e1, e2, e3, e4, hJ⟩ := hE
  obtain ⟨u1, u2, u3, u4, u5, u6⟩ := hJ.1 w hw hW
  obtain ⟨w1, w2, w3, w4⟩ := hP (H w) (by omega)
  have lw := hl (H w)
  have e4' := cv_W1' (w := w) (v := 0) (by omega) e4
  unfold wX_finishElements_81
  simp only [nI_clamp (show w < 2 ^ 31 by omega), nI_clamp (show H w < 2 ^ 31 by omega), nI_clamp (show (P (H w)).2.1 < 2 ^ 31 by omega)]
  refine ⟨pk_in w 4 hw, pk_in w 4 hw, pk_le (C w) (F w) (fun z => pk_eq w 3 (fun z2 => ⟨pk_in w 4 hw, pk_in (H w) 16 (by omega), pk_in (P (H w)).2.1 4 w2, nm_e ⟨pk_in w 4 hw, nm_r (cv_uN (v := 0) rfl) (hp1 _ ?_)⟩⟩) (fun z2 => ⟨pk_in w 4 hw, nm_r (cv_uN (v := 0) rfl) (hp1 _ ?_)⟩)) (fun z => hp0 z)⟩
  · subst z2
    exact ⟨e1, e2, e3, e4', cv_J_f3 hR hJ hW z⟩
  · exact ⟨e1, e2, e3, e4', cv_J_f hR hJ hw hW z z2⟩
theorem cv_fe1 {post : St2 → Prop} {w c m : Nat} (g : cv_G P R n ln D) (hE : cv_E P R D n len k t sm vec scal cells W H C sin B F val cel rdy Q) (hw : w < 4) (hW : W w ≠ 0) (hc : c < ln)
    (hx : (B w ≤ F w ∨ 1 ≤ Q w) → wX_finishElements_81 post (nI w) (nI ln) (nI D) (nI len) (nI n) (nI k) (nI t) sm vec scal cells (fun j => nI (P j).1) (fun j => nI (P j).2.1) (fun j => (P j).2.2.1) (fun j => (P j).2.2.2) (fun j => nI (W j)) (fun j => nI (H j)) (fun j => nI (C j)) sin (fun j => nI (B j)) (fun j => nI (F j)) val (fun j => nI (cel j)) (fun j => nI (rdy j)))
    (hs : F w < B w → ∀ sm' vec' cells', cv_E P R D n len k t sm' vec' scal cells' W H C sin B (cv_up F w (F w + 1)) val cel rdy Q → wX_finishElements_12 post (nI w) m (nI (c + 1)) (nI ln) (nI D) (nI len) (nI n) (nI k) (nI t) sm' vec' scal cells' (fun j => nI (P j).1) (fun j => nI (P j).2.1) (fun j => (P j).2.2.1) (fun j => (P j).2.2.2) (fun j => nI (W j)) (fun j => nI (H j)) (fun j => nI (C j)) sin (fun j => nI (B j)) (fun j => nI ((cv_up F w (F w + 1)) j)) val (fun j => nI (cel j)) (fun j => nI (rdy j))) :
    wX_finishElements_12 post (nI w) (m + 1) (nI c) (nI ln) (nI D) (nI len) (nI n) (nI k) (nI t) sm vec scal cells (fun j => nI (P j).1) (fun j => nI (P j).2.1) (fun j => (P j).2.2.1) (fun j => (P j).2.2.2) (fun j => nI (W j)) (fun j => nI (H j)) (fun j => nI (C j)) sin (fun j => nI (B j)) (fun j => nI (F j)) val (fun j => nI (cel j)) (fun j => nI (rdy j)) := by
  have hE0 := hE
  have g0 := g
  obtain ⟨g1, g2, g3, g4, hP, hR, hl⟩ := g
  obtain ⟨e1, e2, e3, e4, hJ⟩ := hE
  obtain ⟨u1, u2, u3, u4, u5, u6⟩ := hJ.1 w hw hW
  obtain ⟨r1, r2, r3⟩ := hJ.2.2.2.2.2.1 w hw hW
  have lw := hl (H w)
  have ex : ((16 : Int32) * nI w + nI (F w)).toNatClampNeg = 16 * w + F w := by rw [cv_ix, nI_clamp (by omega)]
  refine pk_le ln c (fun z => absurd z (by omega)) (fun _ => ?_)
  dsimp only
  simp only [nI_clamp (show w < 2 ^ 31 by omega)]
  refine ⟨pk_in w 4 hw, nm_e ⟨pk_in w 4 hw, pk_le (B w) (F w) (fun z => hx (Or.inl z)) (fun z => ?_)⟩⟩
  have r3' := r3 (F w) z
  rw [ex]
  refine ⟨pk_in (16 * w + F w) 64 (by omega) (cv_ix _ _), pk_le (rdy (16 * w + F w)) t (fun z2 => ?_) (fun z2 => hx (Or.inr (by omega)))⟩
  refine cv_dlv g0 hE0 hw hW z (fun sm' vec' cells' hE' => ?_)
  exact ⟨pk_in w 4 hw, pk_in w 4 hw, nm_r (cv_uN (v := F w + 1) (by rw [nI_1, cv_by _ (by omega)])) (nm_r (nI_1 c) (hs z _ _ _ hE'))⟩
end
section
variable {R : Nat → cv_A} {ln D n : Nat} {P : Nat → cv_I}
theorem cv_fe {post : St2 → Prop} {w K t0 : Nat} (g : cv_G P R n ln D) (hw : w < 4) (hp : ∀ u, cv_T P R n ln D (cv_p1 n K t0 (w + 1)) u → post u) :
    ∀ d c, c + d = ln → ∀ (len k t : Nat) (sm : Int32) (vec scal cells : Nat → Int32) (W H C : Nat → Nat) (sin : Nat → Int32) (B F : Nat → Nat) (val : Nat → Int32) (cel rdy Q : Nat → Nat), cv_E P R D n len k t sm vec scal cells W H C sin B F val cel rdy Q → W w ≠ 0 → t = t0 → (cv_M n k W C B F Q) < K → wX_finishElements_12 post (nI w) (d + 1) (nI c) (nI ln) (nI D) (nI len) (nI n) (nI k) (nI t) sm vec scal cells (fun j => nI (P j).1) (fun j => nI (P j).2.1) (fun j => (P j).2.2.1) (fun j => (P j).2.2.2) (fun j => nI (W j)) (fun j => nI (H j)) (fun j => nI (C j)) sin (fun j => nI (B j)) (fun j => nI (F j)) val (fun j => nI (cel j)) (fun j => nI (rdy j)) := by
  have ex : ∀ (len k t : Nat) (sm : Int32) (vec scal cells : Nat → Int32) (W H C : Nat → Nat) (sin : Nat → Int32) (B F : Nat → Nat) (val : Nat → Int32) (cel rdy Q : Nat → Nat), cv_E P R D n len k t sm vec scal cells W H C sin B F val cel rdy Q → W w ≠ 0 → t = t0 → (cv_M n k W C B F Q) < K → wX_finishElements_81 post (nI w) (nI ln) (nI D) (nI len) (nI n) (nI k) (nI t) sm vec scal cells (fun j => nI (P j).1) (fun j => nI (P j).2.1) (fun j => (P j).2.2.1) (fun j => (P j).2.2.2) (fun j => nI (W j)) (fun j => nI (H j)) (fun j => nI (C j)) sin (fun j => nI (B j)) (fun j => nI (F j)) val (fun j => nI (cel j)) (fun j => nI (rdy j)) := by
    intro len k t sm vec scal cells W H C sin B F val cel rdy Q hE hW ht hM
    refine cv_f81 g hE hw hW (fun _ => hp _ ⟨len, k, t, sm, vec, scal, cells, W, H, C, sin, B, F, val, cel, rdy, Q, rfl, hE, ht, Or.inl hM⟩) (fun scal' hE' => hp _ ⟨len, k, t, sm, vec, scal', cells, _, H, C, sin, B, F, val, cel, rdy, Q, rfl, hE', ht, Or.inl (Nat.lt_trans (cv_M_W hw hW) hM)⟩)
  intro d
  induction d with
  | zero =>
    intro c hc len k t sm vec scal cells W H C sin B F val cel rdy Q hE hW ht hM
    have hln := g.2.1
    exact pk_le ln c (fun _ => ex _ _ _ _ _ _ _ _ _ _ _ _ _ _ _ _ _ hE hW ht hM) (fun z => absurd z (by omega))
  | succ d ih =>
    intro c hc len k t sm vec scal cells W H C sin B F val cel rdy Q hE hW ht hM
    refine cv_fe1 g hE hw hW (by omega) (fun _ => ex _ _ _ _ _ _ _ _ _ _ _ _ _ _ _ _ _ hE hW ht hM) (fun z sm' vec' cells' hE' => ih (c + 1) (by omega) _ _ _ _ _ _ _ _ _ _ _ _ _ _ _ _ _ hE' hW ht ?_)
    have hu := hE.2.2.2.2.1 w hw hW
    exact Nat.lt_trans (cv_M_F hw hW (by omega)) hM
theorem cv_fin_e {post : St2 → Prop} {w K t0 : Nat} (g : cv_G P R n ln D) (hw : w < 4) {u : St2} (hu : cv_T P R n ln D (cv_p1 n K t0 w) u) (hp : ∀ u, cv_T P R n ln D (cv_p1 n K t0 (w + 1)) u → post u) : wpX_finishElements post u (nI w) := by
  obtain ⟨len, k, t, sm, vec, scal, cells, W, H, C, sin, B, F, val, cel, rdy, Q, rfl, hE, hy⟩ := hu
  have g1 := g.1
  have b1 := hE.2.2.2.1 w
  unfold wpX_finishElements cv_st
  dsimp only
  simp only [nI_clamp (show w < 2 ^ 31 by omega)]
  refine ⟨pk_in w 4 hw, pk_eq (W w) 0 (fun z => ?_) (fun hW => ⟨ln + 1, cv_fe1 (c := 0) g hE hw hW (by omega) (fun hx => ?_) (fun z sm' vec' cells' hE' => ?_)⟩)⟩
  · refine hp _ ⟨len, k, t, sm, vec, scal, cells, W, H, C, sin, B, F, val, cel, rdy, Q, rfl, hE, hy.1, ?_⟩
    rcases hy.2 with h | ⟨h1, h2, h3⟩
    · exact Or.inl h
    · exact Or.inr ⟨h1, h2, lt_s h3 (fun y => absurd z y)⟩
  · have hM : (cv_M n k W C B F Q) ≤ K := by
      rcases hy.2 with h | h
      · omega
      · exact h.1
    refine cv_f81 g hE hw hW (fun hlt => hp _ ⟨len, k, t, sm, vec, scal, cells, W, H, C, sin, B, F, val, cel, rdy, Q, rfl, hE, hy.1, ?_⟩) (fun scal' hE' => hp _ ⟨len, k, t, sm, vec, scal', cells, _, H, C, sin, B, F, val, cel, rdy, Q, rfl, hE', hy.1, Or.inl (Nat.lt_of_lt_of_le (cv_M_W hw hW) hM)⟩)
    rcases hy.2 with h | ⟨h1, h2, h3⟩
    · exact Or.inl h
    · exact Or.inr ⟨h1, h2, lt_s h3 (fun _ => by rcases hx with z | z; exact Or.inl (by omega); exact Or.inr z)⟩
  · have hM : (cv_M n k W C B F Q) ≤ K := by
      rcases hy.2 with h | h
      · omega
      · exact h.1
    have e : ln = ln - 1 + 1 := by omega
    have hu := hE.2.2.2.2.1 w hw hW
    have r := cv_fe (post := post) (K := K) (t0 := t0) g hw hp (ln - 1) 1 (by omega) _ _ _ _ _ _ _ _ _ _ _ _ _ _ _ _ _ hE' hW hy.1 (Nat.lt_of_lt_of_le (cv_M_F hw hW (by omega)) hM)
    rw [← e] at r
    exact r
end
end
section
/-- no sum is on its way to a scalar that this instruction reads or replaces -/
def cv_now (c : cv_I) (s : Nat) : Prop := (c.1 = 4 ∨ c.1 = 5 → ¬ c.2.2.2 = nI s) ∧ (c.1 = 6 ∨ c.1 = 7 → ¬ c.2.2.1 = nI s) ∧ (c.1 = 11 → c.2.1 ≠ s ∧ ¬ c.2.2.1 = nI s ∧ ¬ c.2.2.2 = nI s) ∧ (c.1 = 9 ∨ c.1 = 10 ∨ c.1 = 12 → c.2.1 ≠ s)
theorem cv_wfY {c : cv_I} (h : cv_wf c) (h1 : c.1 ≠ 10) (h2 : c.1 ≠ 12) : ∃ y, y < 4 ∧ c.2.2.1 = nI y := h.2.2.1 h1 h2
theorem cv_wfZ {c : cv_I} (h : cv_wf c) (h1 : c.1 ≤ 5 ∨ c.1 = 11) : ∃ z, z < 4 ∧ c.2.2.2 = nI z := h.2.2.2 h1
theorem cv_clip_nI {x : Int32} (h0 : 0 ≤ x) (h : x ≤ 16) : x = nI (cv_clip x) := by
  obtain ⟨j, hj, e⟩ := nI_of2 (x := x) (M := 16) (n := 16) (by decide) (by rw [Int32.lt_iff_toInt_lt]; rw [Int32.le_iff_toInt_le] at h0; omega) h
  unfold cv_clip
  rw [if_pos h0, if_pos h]
  conv => rhs; rw [e, nI_clamp (show j < 2 ^ 31 by omega)]
  exact e
section
variable {R : Nat → cv_A} {Q : Nat → Nat} {ln D len n k t : Nat} {sm : Int32} {vec scal cells : Nat → Int32} {P : Nat → cv_I} {W H C : Nat → Nat} {sin : Nat → Int32} {B F : Nat → Nat} {val : Nat → Int32} {cel rdy : Nat → Nat}
theorem cv_wfs {post : Int32 → Prop} (hW1 : W 3 ≤ 1) (hH : W 3 ≠ 0 → H 3 < 16 ∧ cv_wf (P (H 3))) (hk : k < 16) (hw : cv_wf (P k)) (h0 : (W 3 ≠ 0 → cv_now (P k) (P (H 3)).2.1) → post 0) (h1 : W 3 ≠ 0 → post 1) : wpX_waitsForScalar post (cv_st ln D len n k t sm vec scal cells P W H C sin B F val cel rdy) (nI k) := by
  unfold wpX_waitsForScalar cv_st
  dsimp only
  have w1 := hw.1
  have w2 := hw.2.1
  refine pk_eq (W 3) 0 (fun z => h0 (fun y => absurd z y)) (fun z => ?_)
  obtain ⟨hH1, hH2⟩ := hH z
  have hx := hH2.2.1
  have p1 := h1 z
  have h0' : cv_now (P k) (P (H 3)).2.1 → post 0 := fun y => h0 (fun _ => y)
  simp only [nI_clamp (show H 3 < 2 ^ 31 by omega), nI_clamp (show k < 2 ^ 31 by omega)]
  refine ⟨pk_in (H 3) 16 hH1, nm_e ⟨pk_in k 16 hk, nm_e ?_⟩⟩
  have q40 : (P k).1 = 4 ∨ (P k).1 = 5 → wX_waitsForScalar_40 post (nI k) (nI (P (H 3)).2.1) (nI ln) (nI D) (nI len) (nI n) (nI k) (nI t) sm vec scal cells (fun j => nI (P j).1) (fun j => nI (P j).2.1) (fun j => (P j).2.2.1) (fun j => (P j).2.2.2) (fun j => nI (W j)) (fun j => nI (H j)) (fun j => nI (C j)) sin (fun j => nI (B j)) (fun j => nI (F j)) val (fun j => nI (cel j)) (fun j => nI (rdy j)) := by
    intro o
    unfold wX_waitsForScalar_40
    simp only [nI_clamp (show k < 2 ^ 31 by omega)]
    exact ⟨pk_in k 16 hk, br_c (fun _ => p1) (fun y => h0' ⟨fun _ => y, fun a => absurd a (by omega), fun a => absurd a (by omega), fun a => absurd a (by omega)⟩)⟩
  have q68 : (P k).1 = 6 ∨ (P k).1 = 7 → wX_waitsForScalar_68 post (nI k) (nI (P (H 3)).2.1) (nI ln) (nI D) (nI len) (nI n) (nI k) (nI t) sm vec scal cells (fun j => nI (P j).1) (fun j => nI (P j).2.1) (fun j => (P j).2.2.1) (fun j => (P j).2.2.2) (fun j => nI (W j)) (fun j => nI (H j)) (fun j => nI (C j)) sin (fun j => nI (B j)) (fun j => nI (F j)) val (fun j => nI (cel j)) (fun j => nI (rdy j)) := by
    intro o
    unfold wX_waitsForScalar_68
    simp only [nI_clamp (show k < 2 ^ 31 by omega)]
    exact ⟨pk_in k 16 hk, br_c (fun _ => p1) (fun y => h0' ⟨fun a => absurd a (by omega), fun _ => y, fun a => absurd a (by omega), fun a => absurd a (by omega)⟩)⟩
  refine pk_eq (P k).1 4 (fun o => q40 (Or.inl o)) (fun o4 => pk_eq (P k).1 5 (fun o => q40 (Or.inr o)) (fun o5 => pk_eq (P k).1 6 (fun o => q68 (Or.inl o)) (fun o6 => pk_eq (P k).1 7 (fun o => q68 (Or.inr o)) (fun o7 => pk_eq (P k).1 11 (fun o => ?_) (fun o11 => pk_lt (P k).1 9 (fun o => h0' ⟨fun a => absurd a (by omega), fun a => absurd a (by omega), fun a => absurd a (by omega), fun a => absurd a (by omega)⟩) (fun o => ?_))))))
  · exact ⟨pk_in k 16 hk, pk_eq (P k).2.1 (P (H 3)).2.1 (fun _ => p1) (fun y1 => ⟨pk_in k 16 hk, br_c (fun _ => p1) (fun y2 => ⟨pk_in k 16 hk, br_c (fun _ => p1) (fun y3 => h0' ⟨fun a => absurd a (by omega), fun a => absurd a (by omega), fun _ => ⟨y1, y2, y3⟩, fun a => absurd a (by omega)⟩)⟩)⟩)⟩
  · exact ⟨pk_in k 16 hk, pk_eq (P k).2.1 (P (H 3)).2.1 (fun _ => p1) (fun y1 => h0' ⟨fun a => absurd a (by omega), fun a => absurd a (by omega), fun a => absurd a (by omega), fun _ => y1⟩)⟩
theorem cv_ufr {post : Int32 → Prop} {o : Nat} (ho : o ≤ 12) (hp : post (nI (cv_unit o))) : wpX_unitFor post (cv_st ln D len n k t sm vec scal cells P W H C sin B F val cel rdy) (nI o) := by
  unfold wpX_unitFor cv_st
  dsimp only
  unfold cv_unit at hp
  refine pk_eq o 2 (fun z => ?_) (fun z => pk_eq o 5 (fun z2 => ?_) (fun z2 => pk_lt 4 o (fun z3 => pk_lt 8 o (fun z4 => ?_) (fun z4 => ?_)) (fun z3 => ?_)))
  · rw [if_pos (by omega)] at hp; exact hp
  · rw [if_pos (by omega)] at hp; exact hp
  · rw [if_neg (by omega), if_neg (by omega), if_neg (by omega)] at hp; exact hp
  · rw [if_neg (by omega), if_neg (by omega), if_pos (by omega)] at hp; exact hp
  · rw [if_neg (by omega), if_pos (by omega)] at hp; exact hp
theorem cv_swk {post : St2 → Prop} (hk : k < 16) (hw : cv_wf (P k)) (ho : 10 ≤ (P k).1)
    (h10 : (P k).1 = 10 → post (cv_st ln D len n k t sm vec (upd scal (P k).2.1 (P k).2.2.1) cells P W H C sin B F val cel rdy))
    (h11 : (P k).1 = 11 → post (cv_st ln D len n k t sm vec (upd scal (P k).2.1 (scal (P k).2.2.1.toNatClampNeg + scal (P k).2.2.2.toNatClampNeg)) cells P W H C sin B F val cel rdy))
    (h12 : (P k).1 = 12 → post (cv_st ln D (cv_clip (scal (P k).2.1)) n k t sm vec scal cells P W H C sin B F val cel rdy)) : wpX_scalarWork post (cv_st ln D len n k t sm vec scal cells P W H C sin B F val cel rdy) (nI k) := by
  have w1 := hw.1
  have w2 := hw.2.1
  unfold wpX_scalarWork cv_st
  dsimp only
  simp only [nI_clamp (show k < 2 ^ 31 by omega)]
  refine ⟨pk_in k 16 hk, nm_e ⟨pk_in k 16 hk, nm_e ?_⟩⟩
  simp only [nI_clamp (show (P k).2.1 < 2 ^ 31 by omega)]
  refine pk_eq (P k).1 10 (fun o => ⟨pk_in k 16 hk, pk_in (P k).2.1 4 w2, nm_e (h10 o)⟩) (fun o10 => pk_eq (P k).1 11 (fun o => ?_) (fun o11 => ⟨pk_in (P k).2.1 4 w2, nm_e ?_⟩))
  · obtain ⟨yn, hyn, hy⟩ := cv_wfY hw (by omega) (by omega)
    obtain ⟨zn, hzn, hz⟩ := cv_wfZ hw (by omega)
    exact ⟨pk_in k 16 hk, pk_in yn 4 hyn hy, pk_in k 16 hk, pk_in zn 4 hzn hz, pk_in (P k).2.1 4 w2, nm_e (h11 o)⟩
  · have h := h12 (by omega)
    refine br_c (fun y => br_c (fun y2 => ?_) (fun y2 => ?_)) (fun y => ?_)
    · have e := cv_clip_nI y y2
      unfold cv_st at h
      rw [← e] at h; exact h
    · unfold cv_clip at h
      rw [if_pos y, if_neg y2] at h; exact h
    · unfold cv_clip at h
      rw [if_neg y] at h; exact h
/-- the last step of an issue to a unit -/
theorem cv_i180 {post : St2 → Prop} (ho : (P k).1 ≤ 9) (hp : ∀ sm', ((P k).1 = 9 → sm' = 0) → ((P k).1 ≤ 8 → sm' = sm) → post (cv_st ln D len n (k + 1) t sm' vec scal cells P W H C sin B F val cel rdy)) : wX_issue_180 post (nI (P k).1) (nI ln) (nI D) (nI len) (nI n) (nI k) (nI t) sm vec scal cells (fun j => nI (P j).1) (fun j => nI (P j).2.1) (fun j => (P j).2.2.1) (fun j => (P j).2.2.2) (fun j => nI (W j)) (fun j => nI (H j)) (fun j => nI (C j)) sin (fun j => nI (B j)) (fun j => nI (F j)) val (fun j => nI (cel j)) (fun j => nI (rdy j)) := by
  unfold wX_issue_180
  exact pk_eq (P k).1 9 (fun o => nm_r (nI_1 k) (hp 0 (fun _ => rfl) (fun z => absurd z (by omega)))) (fun o => nm_r (nI_1 k) (hp sm (fun z => absurd z o) (fun _ => rfl)))
theorem cv_i160 {post : St2 → Prop} {w : Nat} (hw4 : w < 4) (hk : k < 16) (hw : cv_wf (P k)) (ho : (P k).1 ≤ 9) (hp : ∀ sm', ((P k).1 = 9 → sm' = 0) → ((P k).1 ≤ 8 → sm' = sm) → post (cv_st ln D len n (k + 1) t sm' vec scal cells P W H C (upd sin w (scal (P k).2.2.1.toNatClampNeg)) B F val cel rdy)) : wX_issue_160 post (nI (P k).1) (nI w) (nI ln) (nI D) (nI len) (nI n) (nI k) (nI t) sm vec scal cells (fun j => nI (P j).1) (fun j => nI (P j).2.1) (fun j => (P j).2.2.1) (fun j => (P j).2.2.2) (fun j => nI (W j)) (fun j => nI (H j)) (fun j => nI (C j)) sin (fun j => nI (B j)) (fun j => nI (F j)) val (fun j => nI (cel j)) (fun j => nI (rdy j)) := by
  obtain ⟨yn, hyn, hy⟩ := cv_wfY hw (by omega) (by omega)
  unfold wX_issue_160
  simp only [nI_clamp (show k < 2 ^ 31 by omega), nI_clamp (show w < 2 ^ 31 by omega)]
  exact ⟨pk_in k 16 hk, pk_in yn 4 hyn hy, pk_in w 4 hw4, nm_e (cv_i180 ho hp)⟩
theorem cv_i148 {post : St2 → Prop} {w : Nat} (hw4 : w < 4) (hk : k < 16) (hw : cv_wf (P k)) (ho : (P k).1 ≤ 9) (hp : ∀ sm' sin', ((P k).1 = 9 → sm' = 0) → ((P k).1 ≤ 8 → sm' = sm) → (∀ x, x ≠ w → sin' x = sin x) → ((P k).1 = 6 ∨ (P k).1 = 7 → sin' w = scal (P k).2.2.1.toNatClampNeg) → ((P k).1 ≠ 6 → (P k).1 ≠ 7 → sin' = sin) → post (cv_st ln D len n (k + 1) t sm' vec scal cells P W H C sin' B F val cel rdy)) : wX_issue_148 post (nI (P k).1) (nI w) (nI ln) (nI D) (nI len) (nI n) (nI k) (nI t) sm vec scal cells (fun j => nI (P j).1) (fun j => nI (P j).2.1) (fun j => (P j).2.2.1) (fun j => (P j).2.2.2) (fun j => nI (W j)) (fun j => nI (H j)) (fun j => nI (C j)) sin (fun j => nI (B j)) (fun j => nI (F j)) val (fun j => nI (cel j)) (fun j => nI (rdy j)) := by
  unfold wX_issue_148
  have q : (P k).1 = 6 ∨ (P k).1 = 7 → wX_issue_160 post (nI (P k).1) (nI w) (nI ln) (nI D) (nI len) (nI n) (nI k) (nI t) sm vec scal cells (fun j => nI (P j).1) (fun j => nI (P j).2.1) (fun j => (P j).2.2.1) (fun j => (P j).2.2.2) (fun j => nI (W j)) (fun j => nI (H j)) (fun j => nI (C j)) sin (fun j => nI (B j)) (fun j => nI (F j)) val (fun j => nI (cel j)) (fun j => nI (rdy j)) := fun o => cv_i160 hw4 hk hw ho (fun sm' a b => hp sm' _ a b (fun x hx => pk_un hx) (fun _ => pk_us) (fun c d => absurd o (by omega)))
  exact pk_eq (P k).1 6 (fun o => q (Or.inl o)) (fun o6 => pk_eq (P k).1 7 (fun o => q (Or.inr o)) (fun o7 => cv_i180 ho (fun sm' a b => hp sm' sin a b (fun _ _ => rfl) (fun z => absurd z (by omega)) (fun _ _ => rfl))))
theorem cv_i128 {post : St2 → Prop} {w : Nat} (hw4 : w < 4) (hk : k < 16) (hw : cv_wf (P k)) (ho : (P k).1 = 4 ∨ (P k).1 = 5) (hp : ∀ sm' sin', ((P k).1 = 9 → sm' = 0) → ((P k).1 ≤ 8 → sm' = sm) → (∀ x, x ≠ w → sin' x = sin x) → (sin' w = scal (P k).2.2.2.toNatClampNeg) → post (cv_st ln D len n (k + 1) t sm' vec scal cells P W H C sin' B F val cel rdy)) : wX_issue_128 post (nI (P k).1) (nI w) (nI ln) (nI D) (nI len) (nI n) (nI k) (nI t) sm vec scal cells (fun j => nI (P j).1) (fun j => nI (P j).2.1) (fun j => (P j).2.2.1) (fun j => (P j).2.2.2) (fun j => nI (W j)) (fun j => nI (H j)) (fun j => nI (C j)) sin (fun j => nI (B j)) (fun j => nI (F j)) val (fun j => nI (cel j)) (fun j => nI (rdy j)) := by
  have hw0 := hw
  obtain ⟨zn, hzn, hz⟩ := cv_wfZ hw (by omega)
  unfold wX_issue_128
  simp only [nI_clamp (show k < 2 ^ 31 by omega), nI_clamp (show w < 2 ^ 31 by omega)]
  refine ⟨pk_in k 16 hk, pk_in zn 4 hzn hz, pk_in w 4 hw4, nm_e (cv_i148 hw4 hk hw0 (by omega) (fun sm' sin' a b c d e => hp sm' sin' a b (fun x hx => ?_) ?_))⟩
  · rw [c x hx, pk_un hx]
  · rw [e (by omega) (by omega), pk_us]
end
section
variable {R : Nat → cv_A} {ln D n : Nat} {P : Nat → cv_I}
theorem cv_issue {post : St2 → Prop} {K t0 : Nat} (g : cv_G P R n ln D) {u : St2} (hu : cv_T P R n ln D (cv_p2 n K t0) u) (hp : ∀ u, cv_T P R n ln D (cv_p3 n K t0) u → post u) : wpX_issue post u := by
  obtain ⟨len, k, t, sm, vec, scal, cells, W, H, C, sin, B, F, val, cel, rdy, Q, rfl, hE, hy⟩ := hu
  have g0 := g
  obtain ⟨g1, g2, g3, g4, hP, hR, hl⟩ := g
  have hE0 := hE
  obtain ⟨e1, e2, e3, e4, hJ⟩ := hE
  have same : (¬ ((∀ y, y < 4 → W y = 0) ∧ k < n)) → post (cv_st ln D len n k t sm vec scal cells P W H C sin B F val cel rdy) := by
    intro hno
    refine hp _ ⟨len, k, t, sm, vec, scal, cells, W, H, C, sin, B, F, val, cel, rdy, Q, rfl, hE0, hy.1, ?_⟩
    rcases hy.2 with h | ⟨h1, h2 | h2⟩
    · exact Or.inl h
    · exact Or.inr ⟨h1, h2⟩
    · exact absurd h2 hno
  have hM : (cv_M n k W C B F Q) ≤ K := by
    rcases hy.2 with h | h
    · omega
    · exact h.1
  unfold wpX_issue cv_st
  dsimp only
  refine pk_lt k n (fun hkn => ⟨pk_in k 16 (by omega), ?_⟩) (fun z => same (fun y => absurd y.2 (by omega)))
  have hwf := hP k hkn
  have w1 := hwf.1
  have w2 := hwf.2.1
  simp only [nI_clamp (show k < 2 ^ 31 by omega)]
  refine nm_e (cv_wfs (e4 3) (fun z => ⟨by have := (hJ.1 3 (by decide) z).1; omega, hP _ (by have := (hJ.1 3 (by decide) z).1; omega)⟩) (by omega) hwf (fun hno => br_t rfl ?_) (fun z => br_f cv_10 (same (fun y => z (y.1 3 (by decide))))))
  have sca := hJ.2.2.2.2.2.2.2
  have rds : ∀ {y : Int32} {m : Nat}, m < 4 → y = nI m → (W 3 ≠ 0 → ¬ y = nI (P (H 3)).2.1) → scal y.toNatClampNeg = (R k).2.1 y.toNatClampNeg := by
    intro y m hm hy hn
    refine sca.1 _ ?_
    by_cases z : W 3 = 0
    · exact Or.inl z
    · refine Or.inr (fun e => hn z ?_)
      rw [hy, nI_clamp (by omega)] at e
      rw [hy, e]
  refine pk_lt (P k).1 10 (fun o => cv_ufr w1 ?_) (fun o => cv_swk (by omega) hwf o (fun o10 => ?_) (fun o11 => ?_) (fun o12 => ?_))
  · have hw4 := cv_u4 (P k).1 (by omega)
    have b1 := e4 (cv_unit (P k).1)
    have hlk := hl k
    generalize hwe : cv_unit (P k).1 = w at hw4 b1 ⊢
    rw [nI_clamp (show w < 2 ^ 31 by omega)]
    refine ⟨pk_in w 4 hw4, pk_eq (W w) 0 (fun z => ⟨pk_in w 4 hw4, nm_r (cv_uN (v := 1) rfl) ⟨pk_in w 4 hw4, nm_r (cv_uN (v := k) (cv_by _ (by omega))) ⟨pk_in w 4 hw4, nm_r (cv_uN (v := len) (cv_by _ (by omega))) ⟨pk_in w 4 hw4, nm_r (cv_uN (v := 0) rfl) ⟨pk_in w 4 hw4, nm_r (cv_uN (v := 0) rfl) ?_⟩⟩⟩⟩⟩) (fun z => same (fun y => z (y.1 w hw4)))⟩
    have fin : ∀ sm' sin', ((P k).1 = 9 → sm' = 0) → ((P k).1 ≤ 8 → sm' = sm) → (∀ x, x ≠ w → sin' x = sin x) → ((P k).1 = 4 ∨ (P k).1 = 5 → sin' w = scal (P k).2.2.2.toNatClampNeg) → ((P k).1 = 6 ∨ (P k).1 = 7 → sin' w = scal (P k).2.2.1.toNatClampNeg) → post (cv_st ln D len n (k + 1) t sm' vec scal cells P (cv_up W w 1) (cv_up H w k) (cv_up C w len) sin' (cv_up B w 0) (cv_up F w 0) val cel rdy) := by
      intro sm' sin' a b c d e
      refine hp _ ⟨len, k + 1, t, sm', vec, scal, cells, _, _, _, sin', _, _, val, cel, rdy, cv_up Q w D, rfl, ⟨by omega, e2, ?_, cv_W1' (by omega) e4, cv_J_iv hR hl hJ hwe.symm (by omega) z e3 a b c ?_ ?_⟩, hy.1, Or.inl (Nat.lt_of_lt_of_le (cv_M_iss hw4 z hkn (by omega) g3) hM)⟩
      · rw [hR, cv_l12 (by omega)]; exact e3
      · intro o
        obtain ⟨zn, hzn, hz⟩ := cv_wfZ hwf (by omega)
        rw [d o]
        exact rds hzn hz (fun y => (hno y).1 o)
      · intro o
        obtain ⟨yn, hyn, hy⟩ := cv_wfY hwf (by omega) (by omega)
        rw [e o]
        exact rds hyn hy (fun y => (hno y).2.1 o)
    refine pk_eq (P k).1 4 (fun o4 => ?_) (fun n4 => pk_eq (P k).1 5 (fun o5 => ?_) (fun n5 => ?_))
    · exact cv_i128 hw4 (by omega) hwf (Or.inl o4) (fun sm' sin' a b c d => fin sm' sin' a b c (fun _ => d) (fun y => absurd y (by omega)))
    · exact cv_i128 hw4 (by omega) hwf (Or.inr o5) (fun sm' sin' a b c d => fin sm' sin' a b c (fun _ => d) (fun y => absurd y (by omega)))
    · exact cv_i148 hw4 (by omega) hwf (by omega) (fun sm' sin' a b c d _ => fin sm' sin' a b c (fun y => absurd y (by omega)) d)
  · refine nm_r (nI_1 k) (hp _ ⟨len, k + 1, t, sm, vec, upd scal (P k).2.1 (P k).2.2.1, cells, W, H, C, sin, B, F, val, cel, rdy, Q, rfl, ⟨by omega, e2, ?_, e4, cv_J_is hR hl hJ o ?_ ?_⟩, hy.1, Or.inl (Nat.lt_of_lt_of_le (cv_M_is hkn) hM)⟩)
    · rw [hR, cv_l12 (by omega)]; exact e3
    · intro s hs
      rw [cv_s10 o10]
      by_cases z : s = (P k).2.1
      · rw [z, pk_us, pk_us]
      · rw [pk_un z, pk_un z]; exact sca.1 s hs
    · intro z
      rw [cv_s10 o10, pk_un (Ne.symm ((hno z).2.2.2 (by omega)))]
  · obtain ⟨yn, hyn, hy'⟩ := cv_wfY hwf (by omega) (by omega)
    obtain ⟨zn, hzn, hz'⟩ := cv_wfZ hwf (by omega)
    refine nm_r (nI_1 k) (hp _ ⟨len, k + 1, t, sm, vec, upd scal (P k).2.1 (scal (P k).2.2.1.toNatClampNeg + scal (P k).2.2.2.toNatClampNeg), cells, W, H, C, sin, B, F, val, cel, rdy, Q, rfl, ⟨by omega, e2, ?_, e4, cv_J_is hR hl hJ o ?_ ?_⟩, hy.1, Or.inl (Nat.lt_of_lt_of_le (cv_M_is hkn) hM)⟩)
    · rw [hR, cv_l12 (by omega)]; exact e3
    · intro s hs
      rw [cv_s11 o11]
      by_cases z : s = (P k).2.1
      · rw [z, pk_us, pk_us, rds hyn hy' (fun y => ((hno y).2.2.1 o11).2.1), rds hzn hz' (fun y => ((hno y).2.2.1 o11).2.2)]
      · rw [pk_un z, pk_un z]; exact sca.1 s hs
    · intro z
      rw [cv_s11 o11, pk_un (Ne.symm ((hno z).2.2.1 o11).1)]
  · refine nm_r (nI_1 k) (hp _ ⟨cv_clip (scal (P k).2.1), k + 1, t, sm, vec, scal, cells, W, H, C, sin, B, F, val, cel, rdy, Q, rfl, ⟨by omega, e2, ?_, e4, cv_J_is hR hl hJ o ?_ ?_⟩, hy.1, Or.inl (Nat.lt_of_lt_of_le (cv_M_is hkn) hM)⟩)
    · rw [hR, cv_l12' o12]
      refine congrArg cv_clip (sca.1 _ ?_)
      by_cases z : W 3 = 0
      · exact Or.inl z
      · exact Or.inr ((hno z).2.2.2 (by omega))
    · intro s hs
      rw [cv_s9 (Or.inr o12)]; exact sca.1 s hs
    · intro z
      rw [cv_s9 (Or.inr o12)]
end
end
section
section
variable {R : Nat → cv_A} {Q : Nat → Nat} {ln D len n k t : Nat} {sm : Int32} {vec scal cells : Nat → Int32} {P : Nat → cv_I} {W H C : Nat → Nat} {sin : Nat → Int32} {B F : Nat → Nat} {val : Nat → Int32} {cel rdy : Nat → Nat}
theorem cv_idle {post : Int32 → Prop} (hn : n ≤ 16) (hk : k ≤ n) (hW1 : ∀ x, W x ≤ 1) (h1 : n ≤ k → (∀ y, y < 4 → W y = 0) → post 1) (h0 : (k < n ∨ ∃ y, y < 4 ∧ W y ≠ 0) → post 0) : wpX_isIdle post (cv_st ln D len n k t sm vec scal cells P W H C sin B F val cel rdy) := by
  have b0 := hW1 0
  have b1 := hW1 1
  have b2 := hW1 2
  have b3 := hW1 3
  unfold wpX_isIdle cv_st
  dsimp only
  exact pk_le n k (fun z => pk_eq (W 0) 0 (fun z0 => pk_eq (W 1) 0 (fun z1 => pk_eq (W 2) 0 (fun z2 => pk_eq (W 3) 0 (fun z3 => h1 z (fun y hy => co_4 (P := fun y => W y = 0) z0 z1 z2 z3 hy)) (fun z3 => h0 (Or.inr ⟨3, by decide, z3⟩))) (fun z2 => h0 (Or.inr ⟨2, by decide, z2⟩))) (fun z1 => h0 (Or.inr ⟨1, by decide, z1⟩))) (fun z0 => h0 (Or.inr ⟨0, by decide, z0⟩))) (fun z => h0 (Or.inl z))
end
section
variable {R : Nat → cv_A} {ln D n : Nat} {P : Nat → cv_I}
theorem cv_r29 {post : Int32 → St2 → Prop} {J10 : Int32 → Int32 → Int32 → Int32 → Int32 → Int32 → Int32 → (Nat → Int32) → (Nat → Int32) → (Nat → Int32) → (Nat → Int32) → (Nat → Int32) → (Nat → Int32) → (Nat → Int32) → (Nat → Int32) → (Nat → Int32) → (Nat → Int32) → (Nat → Int32) → (Nat → Int32) → (Nat → Int32) → (Nat → Int32) → (Nat → Int32) → (Nat → Int32) → Prop} {K t0 : Nat} (g : cv_G P R n ln D) (ht0 : t0 < 1000)
    (hJ : ∀ (len k t : Nat) (sm : Int32) (vec scal cells : Nat → Int32) (W H C : Nat → Nat) (sin : Nat → Int32) (B F : Nat → Nat) (val : Nat → Int32) (cel rdy Q : Nat → Nat), cv_E P R D n len k t sm vec scal cells W H C sin B F val cel rdy Q → t = t0 + 1 → (cv_M n k W C B F Q) < K → J10 (nI ln) (nI D) (nI len) (nI n) (nI k) (nI t) sm vec scal cells (fun j => nI (P j).1) (fun j => nI (P j).2.1) (fun j => (P j).2.2.1) (fun j => (P j).2.2.2) (fun j => nI (W j)) (fun j => nI (H j)) (fun j => nI (C j)) sin (fun j => nI (B j)) (fun j => nI (F j)) val (fun j => nI (cel j)) (fun j => nI (rdy j))) :
    ∀ d c, c + d = 4 → ∀ (len k t : Nat) (sm : Int32) (vec scal cells : Nat → Int32) (W H C : Nat → Nat) (sin : Nat → Int32) (B F : Nat → Nat) (val : Nat → Int32) (cel rdy Q : Nat → Nat), cv_E P R D n len k t sm vec scal cells W H C sin B F val cel rdy Q → cv_p1 n K t0 c k t W C B F Q → wX_run_29 post J10 (d + 1) (nI c) (nI ln) (nI D) (nI len) (nI n) (nI k) (nI t) sm vec scal cells (fun j => nI (P j).1) (fun j => nI (P j).2.1) (fun j => (P j).2.2.1) (fun j => (P j).2.2.2) (fun j => nI (W j)) (fun j => nI (H j)) (fun j => nI (C j)) sin (fun j => nI (B j)) (fun j => nI (F j)) val (fun j => nI (cel j)) (fun j => nI (rdy j)) := by
  intro d
  induction d with
  | zero =>
    intro c hc len k t sm vec scal cells W H C sin B F val cel rdy Q hE hy
    have hc4 : c = 4 := by omega
    subst hc4
    refine pk_le 4 4 (fun _ => cv_bio g ⟨len, k, t, sm, vec, scal, cells, W, H, C, sin, B, F, val, cel, rdy, Q, rfl, hE, hy⟩ ?_) (fun z => absurd z (by omega))
    rintro u ⟨len, k, t, sm, vec, scal, cells, W, H, C, sin, B, F, val, cel, rdy, Q, rfl, hE, hy⟩
    refine cv_issue (K := K) (t0 := t0) g ⟨len, k, t, sm, vec, scal, cells, W, H, C, sin, B, F, val, cel, rdy, Q, rfl, hE, hy⟩ ?_
    rintro u ⟨len, k, t, sm, vec, scal, cells, W, H, C, sin, B, F, val, cel, rdy, Q, rfl, hE, hy⟩
    have hE' : cv_E P R D n len k (t + 1) sm vec scal cells W H C sin B F val cel rdy (fun x => if B x < C x then Q x else Q x - 1) := ⟨hE.1, by have := hy.1; omega, hE.2.2.1, hE.2.2.2.1, cv_J_t hE.2.2.2.2⟩
    refine nm_r (nI_1 t) (hJ _ _ _ _ _ _ _ _ _ _ _ _ _ _ _ _ _ hE' (by rw [hy.1]) ?_)
    rcases hy.2 with h | ⟨h, y, hy4, hWy, hBy, hQy⟩
    · exact Nat.lt_of_le_of_lt cv_M_t h
    · exact Nat.lt_of_lt_of_le (cv_M_t1 hy4 hWy hBy hQy) h
  | succ d ih =>
    intro c hc len k t sm vec scal cells W H C sin B F val cel rdy Q hE hy
    refine pk_le 4 c (fun z => absurd z (by omega)) (fun _ => cv_fin_e g (by omega) ⟨len, k, t, sm, vec, scal, cells, W, H, C, sin, B, F, val, cel, rdy, Q, rfl, hE, hy⟩ ?_)
    rintro u ⟨len, k, t, sm, vec, scal, cells, W, H, C, sin, B, F, val, cel, rdy, Q, rfl, hE, hy⟩
    exact nm_r (nI_1 c) (ih (c + 1) (by omega) _ _ _ _ _ _ _ _ _ _ _ _ _ _ _ _ _ hE hy)
theorem cv_r10 {post : Int32 → St2 → Prop} (g : cv_G P R n ln D)
    (hp : ∀ (k t : Nat) (sm : Int32) (W H C : Nat → Nat) (sin : Nat → Int32) (B F : Nat → Nat) (val : Nat → Int32) (cel rdy : Nat → Nat), (∀ x, x < 4 → W x = 0) → (∀ x, W x ≤ 1) → post (nI n) (cv_st ln D ((R n).2.2.2) 0 k t sm ((R n).1) ((R n).2.1) ((R n).2.2.1) P W H C sin B F val cel rdy)) :
    ∀ d, ∀ (len k t : Nat) (sm : Int32) (vec scal cells : Nat → Int32) (W H C : Nat → Nat) (sin : Nat → Int32) (B F : Nat → Nat) (val : Nat → Int32) (cel rdy Q : Nat → Nat), cv_E P R D n len k t sm vec scal cells W H C sin B F val cel rdy Q → t + (cv_M n k W C B F Q) ≤ 624 → (cv_M n k W C B F Q) < d → wX_run_10 post d (nI ln) (nI D) (nI len) (nI n) (nI k) (nI t) sm vec scal cells (fun j => nI (P j).1) (fun j => nI (P j).2.1) (fun j => (P j).2.2.1) (fun j => (P j).2.2.2) (fun j => nI (W j)) (fun j => nI (H j)) (fun j => nI (C j)) sin (fun j => nI (B j)) (fun j => nI (F j)) val (fun j => nI (cel j)) (fun j => nI (rdy j)) := by
  intro d
  induction d with
  | zero =>
    intro len k t sm vec scal cells W H C sin B F val cel rdy Q hE ht hM
    exact absurd hM (by omega)
  | succ d ih =>
    intro len k t sm vec scal cells W H C sin B F val cel rdy Q hE ht hM
    refine pk_le 1000 t (fun z => absurd z (by omega)) (fun _ => cv_idle g.2.2.2.1 hE.1 hE.2.2.2.1 (fun h1 h2 => br_f cv_10 ?_) (fun hb => br_t rfl ⟨4 + 1, ?_⟩))
    · have e : k = n := by have := hE.1; omega
      subst e
      obtain ⟨a1, a2, a3⟩ := cv_J_end hE.2.2.2.2 h2
      rw [a1, a2, a3, hE.2.2.1]
      exact hp k t sm W H C sin B F val cel rdy h2 hE.2.2.2.1
    · refine cv_r29 (K := (cv_M n k W C B F Q)) (t0 := t) g (by omega) ?_ 4 0 (by omega) _ _ _ _ _ _ _ _ _ _ _ _ _ _ _ _ _ hE ⟨rfl, Or.inr ⟨Nat.le_refl _, hb, lt_0⟩⟩
      intro len' k' t' sm' vec' scal' cells' W' H' C' sin' B' F' val' cel' rdy' Q' hE' ht' hM'
      exact ih _ _ _ _ _ _ _ _ _ _ _ _ _ _ _ _ _ hE' (by omega) (by omega)
/-- a run, from an idle machine: the sequential machine's answer -/
theorem cv_run {post : Int32 → St2 → Prop} {A : cv_A} {k t : Nat} {sm : Int32} {W H C : Nat → Nat} {sin : Nat → Int32} {B F : Nat → Nat} {val : Nat → Int32} {cel rdy : Nat → Nat} (h1 : 1 ≤ ln) (h4 : ln ≤ 4) (hD : D ≤ 5) (hn : n ≤ 16) (hP : ∀ j, j < n → cv_wf (P j)) (hA : A.2.2.2 ≤ 16) (h0 : ∀ x, x < 4 → W x = 0) (hW1 : ∀ x, W x ≤ 1)
    (hp : ∀ (k t : Nat) (sm : Int32) (W H C : Nat → Nat) (sin : Nat → Int32) (B F : Nat → Nat) (val : Nat → Int32) (cel rdy : Nat → Nat), (∀ x, x < 4 → W x = 0) → (∀ x, W x ≤ 1) → post (nI n) (cv_st ln D ((cv_R P A n).2.2.2) 0 k t sm ((cv_R P A n).1) ((cv_R P A n).2.1) ((cv_R P A n).2.2.1) P W H C sin B F val cel rdy)) :
    wpX_run post (cv_st ln D A.2.2.2 n k t sm A.1 A.2.1 A.2.2.1 P W H C sin B F val cel rdy) := by
  refine ⟨625, cv_r10 (R := cv_R P A) ⟨h1, h4, hD, hn, hP, fun _ => rfl, cv_R_len hA⟩ hp 625 A.2.2.2 0 0 sm A.1 A.2.1 A.2.2.1 W H C sin B F val cel rdy (fun _ => 0) ⟨by omega, by omega, rfl, hW1, cv_J_0 (R := cv_R P A) h0⟩ ?_ ?_⟩
  · have := cv_M_0 (n := n) (C := C) (B := B) (F := F) (Q := fun _ => 0) h0 hn
    omega
  · have := cv_M_0 (n := n) (C := C) (B := B) (F := F) (Q := fun _ => 0) h0 hn
    omega
end
end
section
/-! an idle machine that holds A and a program P of n instructions -/
def cv_Z (A : cv_A) (n : Nat) (P : Nat → cv_I) (u : St2) : Prop :=
  ∃ (ln D k t : Nat) (sm : Int32) (W H C : Nat → Nat) (sin : Nat → Int32) (B F : Nat → Nat) (val : Nat → Int32) (cel rdy : Nat → Nat), 1 ≤ ln ∧ ln ≤ 4 ∧ D ≤ 5 ∧ (∀ x, x < 4 → W x = 0) ∧ (∀ x, W x ≤ 1) ∧ u = (cv_st ln D A.2.2.2 n k t sm A.1 A.2.1 A.2.2.1 P W H C sin B F val cel rdy)
def cv_K (A : cv_A) (n : Nat) (P : Nat → cv_I) : Prop := A.2.2.2 ≤ 16 ∧ n ≤ 16 ∧ ∀ j, j < n → cv_wf (P j)
theorem cv_zrun {post : Int32 → St2 → Prop} {A : cv_A} {n : Nat} {P : Nat → cv_I} {u : St2} (hK : cv_K A n P) (h : cv_Z A n P u) (hp : ∀ u', cv_Z (cv_R P A n) 0 P u' → post (nI n) u') : wpX_run post u := by
  obtain ⟨ln, D, k, t, sm, W, H, C, sin, B, F, val, cel, rdy, h1, h2, h3, h4, h5, rfl⟩ := h
  exact cv_run h1 h2 h3 hK.2.1 hK.2.2 hK.1 h4 h5 (fun k t sm W H C sin B F val cel rdy a b => hp _ ⟨ln, D, k, t, sm, W, H, C, sin, B, F, val, cel, rdy, h1, h2, h3, a, b, rfl⟩)
theorem cv_K_run {A : cv_A} {n : Nat} {P : Nat → cv_I} (hK : cv_K A n P) : cv_K (cv_R P A n) 0 P := ⟨cv_R_len hK.1 n, by omega, fun j hj => absurd hj (by omega)⟩
/-! emit -/
def cv_uP (P : Nat → cv_I) (n : Nat) (c : cv_I) : Nat → cv_I := fun j => if j = n then c else P j
theorem cv_uP1 {P : Nat → cv_I} {n : Nat} {c : cv_I} : upd (fun j => nI (P j).1) n (nI c.1) = fun j => nI (cv_uP P n c j).1 := by
  funext j
  unfold upd cv_uP
  by_cases e : j = n
  · rw [if_pos e, if_pos e]
  · rw [if_neg e, if_neg e]
theorem cv_uP2 {P : Nat → cv_I} {n : Nat} {c : cv_I} : upd (fun j => nI (P j).2.1) n (nI c.2.1) = fun j => nI (cv_uP P n c j).2.1 := by
  funext j
  unfold upd cv_uP
  by_cases e : j = n
  · rw [if_pos e, if_pos e]
  · rw [if_neg e, if_neg e]
theorem cv_uP3 {P : Nat → cv_I} {n : Nat} {c : cv_I} : upd (fun j => (P j).2.2.1) n c.2.2.1 = fun j => (cv_uP P n c j).2.2.1 := by
  funext j
  unfold upd cv_uP
  by_cases e : j = n
  · rw [if_pos e, if_pos e]
  · rw [if_neg e, if_neg e]
theorem cv_uP4 {P : Nat → cv_I} {n : Nat} {c : cv_I} : upd (fun j => (P j).2.2.2) n c.2.2.2 = fun j => (cv_uP P n c j).2.2.2 := by
  funext j
  unfold upd cv_uP
  by_cases e : j = n
  · rw [if_pos e, if_pos e]
  · rw [if_neg e, if_neg e]
def cv_er (n : Nat) : Int32 := if n < 16 then nI (n + 1) else -2
def cv_en (n : Nat) : Nat := if n < 16 then n + 1 else n
def cv_eP (P : Nat → cv_I) (n : Nat) (c : cv_I) : Nat → cv_I := if n < 16 then cv_uP P n c else P
theorem cv_K_emit {A : cv_A} {n : Nat} {P : Nat → cv_I} {c : cv_I} (hK : cv_K A n P) (hc : cv_wf c) : cv_K A (cv_en n) (cv_eP P n c) := by
  unfold cv_en cv_eP
  by_cases h : n < 16
  · rw [if_pos h, if_pos h]
    refine ⟨hK.1, by omega, fun j hj => ?_⟩
    unfold cv_uP
    by_cases e : j = n
    · rw [if_pos e]; exact hc
    · rw [if_neg e]; exact hK.2.2 j (by omega)
  · rw [if_neg h, if_neg h]; exact hK
section
variable {A : cv_A} {ln D len n k t : Nat} {sm : Int32} {vec scal cells : Nat → Int32} {P : Nat → cv_I} {W H C : Nat → Nat} {sin : Nat → Int32} {B F : Nat → Nat} {val : Nat → Int32} {cel rdy : Nat → Nat}
theorem cv_isr {post : Int32 → Prop} {x : Nat} (hx : x < 4) (hp : post 1) : wpX_isRegister post (cv_st ln D len n k t sm vec scal cells P W H C sin B F val cel rdy) (nI x) := by
  unfold wpX_isRegister cv_st
  dsimp only
  exact pk_lt x 0 (fun z => absurd z (by omega)) (fun _ => pk_lt 3 x (fun z => absurd z (by omega)) (fun _ => hp))
theorem cv_e76 {post : Int32 → St2 → Prop} {c : cv_I} (hn : n < 16) (hc : cv_wf c) (hp : post (nI (n + 1)) (cv_st ln D len (n + 1) k t sm vec scal cells (cv_uP P n c) W H C sin B F val cel rdy)) : wX_emit_76 post (nI c.1) (nI c.2.1) c.2.2.1 c.2.2.2 (nI ln) (nI D) (nI len) (nI n) (nI k) (nI t) sm vec scal cells (fun j => nI (P j).1) (fun j => nI (P j).2.1) (fun j => (P j).2.2.1) (fun j => (P j).2.2.2) (fun j => nI (W j)) (fun j => nI (H j)) (fun j => nI (C j)) sin (fun j => nI (B j)) (fun j => nI (F j)) val (fun j => nI (cel j)) (fun j => nI (rdy j)) := by
  have w1 := hc.1
  have w2 := hc.2.1
  unfold wX_emit_76
  rw [nI_clamp (show n < 2 ^ 31 by omega), cv_by _ (show c.1 < 128 by omega), cv_by _ (show c.2.1 < 128 by omega)]
  exact ⟨pk_in n 16 hn, nm_r cv_uP1 ⟨pk_in n 16 hn, nm_r cv_uP2 ⟨pk_in n 16 hn, nm_r cv_uP3 ⟨pk_in n 16 hn, nm_r cv_uP4 (nm_r (nI_1 n) hp)⟩⟩⟩⟩
theorem cv_e65 {post : Int32 → St2 → Prop} {c : cv_I} (hn : n < 16) (hc : cv_wf c) (ho : c.1 ≤ 5 ∨ c.1 = 11) (hp : post (nI (n + 1)) (cv_st ln D len (n + 1) k t sm vec scal cells (cv_uP P n c) W H C sin B F val cel rdy)) : wX_emit_65 post (nI c.1) (nI c.2.1) c.2.2.1 c.2.2.2 (nI ln) (nI D) (nI len) (nI n) (nI k) (nI t) sm vec scal cells (fun j => nI (P j).1) (fun j => nI (P j).2.1) (fun j => (P j).2.2.1) (fun j => (P j).2.2.2) (fun j => nI (W j)) (fun j => nI (H j)) (fun j => nI (C j)) sin (fun j => nI (B j)) (fun j => nI (F j)) val (fun j => nI (cel j)) (fun j => nI (rdy j)) := by
  obtain ⟨z, hz, e⟩ := cv_wfZ hc ho
  unfold wX_emit_65
  rw [show wpX_isRegister (fun r_8 => (r_8 = 0 → post (-1) (cv_st ln D len n k t sm vec scal cells P W H C sin B F val cel rdy)) ∧ (¬ r_8 = 0 → wX_emit_76 post (nI c.1) (nI c.2.1) c.2.2.1 c.2.2.2 (nI ln) (nI D) (nI len) (nI n) (nI k) (nI t) sm vec scal cells (fun j => nI (P j).1) (fun j => nI (P j).2.1) (fun j => (P j).2.2.1) (fun j => (P j).2.2.2) (fun j => nI (W j)) (fun j => nI (H j)) (fun j => nI (C j)) sin (fun j => nI (B j)) (fun j => nI (F j)) val (fun j => nI (cel j)) (fun j => nI (rdy j)))) (cv_st ln D len n k t sm vec scal cells P W H C sin B F val cel rdy) c.2.2.2 = wpX_isRegister (fun r_8 => (r_8 = 0 → post (-1) (cv_st ln D len n k t sm vec scal cells P W H C sin B F val cel rdy)) ∧ (¬ r_8 = 0 → wX_emit_76 post (nI c.1) (nI c.2.1) c.2.2.1 c.2.2.2 (nI ln) (nI D) (nI len) (nI n) (nI k) (nI t) sm vec scal cells (fun j => nI (P j).1) (fun j => nI (P j).2.1) (fun j => (P j).2.2.1) (fun j => (P j).2.2.2) (fun j => nI (W j)) (fun j => nI (H j)) (fun j => nI (C j)) sin (fun j => nI (B j)) (fun j => nI (F j)) val (fun j => nI (cel j)) (fun j => nI (rdy j)))) (cv_st ln D len n k t sm vec scal cells P W H C sin B F val cel rdy) (nI z) by rw [← e]]
  exact cv_isr hz (br_f cv_10 (cv_e76 hn hc hp))
theorem cv_e54 {post : Int32 → St2 → Prop} {c : cv_I} (hn : n < 16) (hc : cv_wf c) (hp : post (nI (n + 1)) (cv_st ln D len (n + 1) k t sm vec scal cells (cv_uP P n c) W H C sin B F val cel rdy)) : wX_emit_54 post (nI c.1) (nI c.2.1) c.2.2.1 c.2.2.2 (nI ln) (nI D) (nI len) (nI n) (nI k) (nI t) sm vec scal cells (fun j => nI (P j).1) (fun j => nI (P j).2.1) (fun j => (P j).2.2.1) (fun j => (P j).2.2.2) (fun j => nI (W j)) (fun j => nI (H j)) (fun j => nI (C j)) sin (fun j => nI (B j)) (fun j => nI (F j)) val (fun j => nI (cel j)) (fun j => nI (rdy j)) := by
  have w1 := hc.1
  unfold wX_emit_54
  exact pk_le c.1 5 (fun z => cv_e65 hn hc (Or.inl z) hp) (fun z => pk_eq c.1 11 (fun z2 => cv_e65 hn hc (Or.inr z2) hp) (fun _ => cv_e76 hn hc hp))
theorem cv_emit {post : Int32 → St2 → Prop} {c : cv_I} (hn : n ≤ 16) (hc : cv_wf c) (hp : post (cv_er n) (cv_st ln D len (cv_en n) k t sm vec scal cells (cv_eP P n c) W H C sin B F val cel rdy)) : wpX_emit post (cv_st ln D len n k t sm vec scal cells P W H C sin B F val cel rdy) (nI c.1) (nI c.2.1) c.2.2.1 c.2.2.2 := by
  have w1 := hc.1
  have w2 := hc.2.1
  unfold wpX_emit cv_st
  dsimp only
  unfold cv_er cv_en cv_eP at hp
  refine pk_lt n 16 (fun z => ?_) (fun z => ?_)
  · rw [if_pos z, if_pos z, if_pos z] at hp
    refine pk_lt c.1 0 (fun y => absurd y (by omega)) (fun _ => pk_lt 12 c.1 (fun y => absurd y (by omega)) (fun _ => cv_isr w2 (br_f cv_10 (pk_eq c.1 10 (fun _ => cv_e54 z hc hp) (fun n10 => pk_eq c.1 12 (fun _ => cv_e54 z hc hp) (fun n12 => ?_))))))
    obtain ⟨y, hy, e⟩ := cv_wfY hc n10 n12
    have q : wpX_isRegister (fun r_21 => (r_21 = 0 → post (-1) (cv_st ln D len n k t sm vec scal cells P W H C sin B F val cel rdy)) ∧ (¬ r_21 = 0 → wX_emit_54 post (nI c.1) (nI c.2.1) c.2.2.1 c.2.2.2 (nI ln) (nI D) (nI len) (nI n) (nI k) (nI t) sm vec scal cells (fun j => nI (P j).1) (fun j => nI (P j).2.1) (fun j => (P j).2.2.1) (fun j => (P j).2.2.2) (fun j => nI (W j)) (fun j => nI (H j)) (fun j => nI (C j)) sin (fun j => nI (B j)) (fun j => nI (F j)) val (fun j => nI (cel j)) (fun j => nI (rdy j)))) (cv_st ln D len n k t sm vec scal cells P W H C sin B F val cel rdy) (nI y) := cv_isr hy (br_f cv_10 (cv_e54 z hc hp))
    rw [← e] at q
    exact q
  · rw [if_neg (by omega), if_neg (by omega), if_neg (by omega)] at hp
    exact hp
theorem cv_setE {post : Int32 → St2 → Prop} {a b : Nat} {x : Int32} (ha : a < 4) (hb : b < 16) (hp : post 1 (cv_st ln D len n k t sm (upd vec (16 * a + b) x) scal cells P W H C sin B F val cel rdy)) : wpX_setElement post (cv_st ln D len n k t sm vec scal cells P W H C sin B F val cel rdy) (nI a) (nI b) x := by
  unfold wpX_setElement cv_st
  dsimp only
  rw [cv_ix, nI_clamp (show 16 * a + b < 2 ^ 31 by omega)]
  exact cv_isr ha (br_f cv_10 (pk_lt b 0 (fun y => absurd y (by omega)) (fun _ => pk_le b 15 (fun _ => ⟨pk_in (16 * a + b) 64 (by omega), nm_e hp⟩) (fun y => absurd y (by omega)))))
theorem cv_setM {post : Int32 → St2 → Prop} {a : Nat} {x : Int32} (ha : a < 64) (hp : post 1 (cv_st ln D len n k t sm vec scal (upd cells a x) P W H C sin B F val cel rdy)) : wpX_setMemory post (cv_st ln D len n k t sm vec scal cells P W H C sin B F val cel rdy) (nI a) x := by
  unfold wpX_setMemory cv_st
  dsimp only
  rw [nI_clamp (show a < 2 ^ 31 by omega)]
  exact pk_lt a 0 (fun y => absurd y (by omega)) (fun _ => pk_le a 63 (fun _ => ⟨pk_in a 64 ha, nm_e hp⟩) (fun y => absurd y (by omega)))
theorem cv_elt {post : Int32 → Prop} {a b : Nat} (ha : a < 4) (hb : b < 16) (hp : post (vec (16 * a + b))) : wpX_element post (cv_st ln D len n k t sm vec scal cells P W H C sin B F val cel rdy) (nI a) (nI b) := by
  unfold wpX_element cv_st
  dsimp only
  rw [cv_ix, nI_clamp (show 16 * a + b < 2 ^ 31 by omega)]
  exact cv_isr ha (br_f cv_10 (pk_lt b 0 (fun y => absurd y (by omega)) (fun _ => pk_lt 15 b (fun y => absurd y (by omega)) (fun _ => ⟨pk_in (16 * a + b) 64 (by omega), hp⟩))))
theorem cv_scl {post : Int32 → Prop} {a : Nat} (ha : a < 4) (hp : post (scal a)) : wpX_scalar post (cv_st ln D len n k t sm vec scal cells P W H C sin B F val cel rdy) (nI a) := by
  unfold wpX_scalar cv_st
  dsimp only
  rw [nI_clamp (show a < 2 ^ 31 by omega)]
  exact cv_isr ha (br_f cv_10 ⟨pk_in a 4 ha, hp⟩)
theorem cv_memo {post : Int32 → Prop} {a : Nat} (ha : a < 64) (hp : post (cells a)) : wpX_memory post (cv_st ln D len n k t sm vec scal cells P W H C sin B F val cel rdy) (nI a) := by
  unfold wpX_memory cv_st
  dsimp only
  rw [nI_clamp (show a < 2 ^ 31 by omega)]
  exact pk_lt a 0 (fun y => absurd y (by omega)) (fun _ => pk_le a 63 (fun _ => ⟨pk_in a 64 ha, hp⟩) (fun y => absurd y (by omega)))
/-! clear -/
def cv_z (f : Nat → Int32) (i : Nat) : Nat → Int32 := fun j => if j < i then 0 else f j
theorem cv_z0 (f : Nat → Int32) : cv_z f 0 = f := by
  funext j
  unfold cv_z
  rw [if_neg (by omega)]
theorem cv_zs (f : Nat → Int32) (i : Nat) : upd (cv_z f i) i 0 = cv_z f (i + 1) := by
  funext j
  unfold cv_z upd
  dsimp only
  by_cases e : j = i
  · rw [if_pos e, if_pos (by omega)]
  · rw [if_neg e]
    by_cases e2 : j < i
    · rw [if_pos e2, if_pos (by omega)]
    · rw [if_neg e2, if_neg (by omega)]
theorem cv_c30 {post : St2 → Prop} (hp : post (cv_st ln D 16 0 k t sm vec (cv_z scal 4) cells P W H C sin B F val cel rdy)) : ∀ d c, c + d = 4 → wX_clear_30 post (nI ln) (nI D) (nI len) (nI n) (nI k) (nI t) sm (d + 1) (nI c) vec (cv_z scal c) cells (fun j => nI (P j).1) (fun j => nI (P j).2.1) (fun j => (P j).2.2.1) (fun j => (P j).2.2.2) (fun j => nI (W j)) (fun j => nI (H j)) (fun j => nI (C j)) sin (fun j => nI (B j)) (fun j => nI (F j)) val (fun j => nI (cel j)) (fun j => nI (rdy j)) := by
  intro d
  induction d with
  | zero =>
    intro c hc
    have e : c = 4 := by omega
    subst e
    exact pk_le 4 4 (fun _ => hp) (fun z => absurd z (by omega))
  | succ d ih =>
    intro c hc
    refine pk_le 4 c (fun z => absurd z (by omega)) (fun _ => ⟨pk_in c 4 (by omega), nm_r (e' := cv_z scal (c + 1)) ?_ (nm_r (nI_1 c) (ih (c + 1) (by omega)))⟩)
    rw [nI_clamp (by omega), cv_zs]
theorem cv_c2 {post : St2 → Prop} (hp : post (cv_st ln D 16 0 k t sm (cv_z vec 64) (cv_z scal 4) (cv_z cells 64) P W H C sin B F val cel rdy)) : ∀ d c, c + d = 64 → wX_clear_2 post (nI ln) (nI D) (nI len) (nI n) (nI k) (nI t) sm (d + 1) (nI c) (cv_z vec c) scal (cv_z cells c) (fun j => nI (P j).1) (fun j => nI (P j).2.1) (fun j => (P j).2.2.1) (fun j => (P j).2.2.2) (fun j => nI (W j)) (fun j => nI (H j)) (fun j => nI (C j)) sin (fun j => nI (B j)) (fun j => nI (F j)) val (fun j => nI (cel j)) (fun j => nI (rdy j)) := by
  intro d
  induction d with
  | zero =>
    intro c hc
    have e : c = 64 := by omega
    subst e
    refine pk_le 64 64 (fun _ => ⟨4 + 1, ?_⟩) (fun z => absurd z (by omega))
    have r := cv_c30 (post := post) (ln := ln) (D := D) (len := len) (n := n) (k := k) (t := t) (sm := sm) (vec := cv_z vec 64) (scal := scal) (cells := cv_z cells 64) (P := P) (W := W) (H := H) (C := C) (sin := sin) (B := B) (F := F) (val := val) (cel := cel) (rdy := rdy) hp 4 0 (by omega)
    rw [cv_z0] at r
    exact r
  | succ d ih =>
    intro c hc
    refine pk_le 64 c (fun z => absurd z (by omega)) (fun _ => ⟨pk_in c 64 (by omega), nm_r (e' := cv_z vec (c + 1)) ?_ ⟨pk_in c 64 (by omega), nm_r (e' := cv_z cells (c + 1)) ?_ (nm_r (nI_1 c) (ih (c + 1) (by omega)))⟩⟩)
    · rw [nI_clamp (by omega), cv_zs]
    · rw [nI_clamp (by omega), cv_zs]
theorem cv_clear {post : St2 → Prop} (hp : post (cv_st ln D 16 0 k t sm (cv_z vec 64) (cv_z scal 4) (cv_z cells 64) P W H C sin B F val cel rdy)) : wpX_clear post (cv_st ln D len n k t sm vec scal cells P W H C sin B F val cel rdy) := by
  have r := cv_c2 (len := len) (n := n) hp 64 0 (by omega)
  rw [cv_z0, cv_z0] at r
  exact ⟨64 + 1, r⟩
end
/-! the same at an idle machine -/
theorem cv_zemit {post : Int32 → St2 → Prop} {A : cv_A} {n : Nat} {P : Nat → cv_I} {u : St2} {c : cv_I} (hK : cv_K A n P) (hc : cv_wf c) (h : cv_Z A n P u) (hp : ∀ u', cv_Z A (cv_en n) (cv_eP P n c) u' → post (cv_er n) u') : wpX_emit post u (nI c.1) (nI c.2.1) c.2.2.1 c.2.2.2 := by
  obtain ⟨ln, D, k, t, sm, W, H, C, sin, B, F, val, cel, rdy, h1, h2, h3, h4, h5, rfl⟩ := h
  exact cv_emit hK.2.1 hc (hp _ ⟨ln, D, k, t, sm, W, H, C, sin, B, F, val, cel, rdy, h1, h2, h3, h4, h5, rfl⟩)
theorem cv_zsetE {post : Int32 → St2 → Prop} {A : cv_A} {n : Nat} {P : Nat → cv_I} {u : St2} {a b : Nat} {x : Int32} (ha : a < 4) (hb : b < 16) (h : cv_Z A n P u) (hp : ∀ u', cv_Z (upd A.1 (16 * a + b) x, A.2) n P u' → post 1 u') : wpX_setElement post u (nI a) (nI b) x := by
  obtain ⟨ln, D, k, t, sm, W, H, C, sin, B, F, val, cel, rdy, h1, h2, h3, h4, h5, rfl⟩ := h
  exact cv_setE ha hb (hp _ ⟨ln, D, k, t, sm, W, H, C, sin, B, F, val, cel, rdy, h1, h2, h3, h4, h5, rfl⟩)
theorem cv_zsetM {post : Int32 → St2 → Prop} {A : cv_A} {n : Nat} {P : Nat → cv_I} {u : St2} {a : Nat} {x : Int32} (ha : a < 64) (h : cv_Z A n P u) (hp : ∀ u', cv_Z (A.1, A.2.1, upd A.2.2.1 a x, A.2.2.2) n P u' → post 1 u') : wpX_setMemory post u (nI a) x := by
  obtain ⟨ln, D, k, t, sm, W, H, C, sin, B, F, val, cel, rdy, h1, h2, h3, h4, h5, rfl⟩ := h
  exact cv_setM ha (hp _ ⟨ln, D, k, t, sm, W, H, C, sin, B, F, val, cel, rdy, h1, h2, h3, h4, h5, rfl⟩)
theorem cv_zclear {post : St2 → Prop} {A : cv_A} {n : Nat} {P : Nat → cv_I} {u : St2} (h : cv_Z A n P u) (hp : ∀ u', cv_Z (cv_z A.1 64, cv_z A.2.1 4, cv_z A.2.2.1 64, 16) 0 P u' → post u') : wpX_clear post u := by
  obtain ⟨ln, D, k, t, sm, W, H, C, sin, B, F, val, cel, rdy, h1, h2, h3, h4, h5, rfl⟩ := h
  exact cv_clear (hp _ ⟨ln, D, k, t, sm, W, H, C, sin, B, F, val, cel, rdy, h1, h2, h3, h4, h5, rfl⟩)
end
section
section
variable {A : cv_A} {n : Nat} {P : Nat → cv_I} {ln0 D0 k0 t0 : Nat} {sm0 : Int32} {W0 H0 C0 : Nat → Nat} {sin0 : Nat → Int32} {B0 F0 : Nat → Nat} {val0 : Nat → Int32} {cel0 rdy0 : Nat → Nat} {ln1 D1 k1 t1 : Nat} {sm1 : Int32} {W1 H1 C1 : Nat → Nat} {sin1 : Nat → Int32} {B1 F1 : Nat → Nat} {val1 : Nat → Int32} {cel1 rdy1 : Nat → Nat}
theorem cv_s58 {post : Int32 → Prop} (hp : post 1) : ∃ fu, wL_same_58 post (nI ln0) (nI D0) (nI A.2.2.2) (nI n) (nI k0) (nI t0) sm0 A.1 A.2.1 A.2.2.1 (fun j => nI (P j).1) (fun j => nI (P j).2.1) (fun j => (P j).2.2.1) (fun j => (P j).2.2.2) (fun j => nI (W0 j)) (fun j => nI (H0 j)) (fun j => nI (C0 j)) sin0 (fun j => nI (B0 j)) (fun j => nI (F0 j)) val0 (fun j => nI (cel0 j)) (fun j => nI (rdy0 j)) (nI ln1) (nI D1) (nI A.2.2.2) (nI n) (nI k1) (nI t1) sm1 A.1 A.2.1 A.2.2.1 (fun j => nI (P j).1) (fun j => nI (P j).2.1) (fun j => (P j).2.2.1) (fun j => (P j).2.2.2) (fun j => nI (W1 j)) (fun j => nI (H1 j)) (fun j => nI (C1 j)) sin1 (fun j => nI (B1 j)) (fun j => nI (F1 j)) val1 (fun j => nI (cel1 j)) (fun j => nI (rdy1 j)) fu 0 := by
  refine loop_0 (σ := Unit) (fun m s _ => wL_same_58 post (nI ln0) (nI D0) (nI A.2.2.2) (nI n) (nI k0) (nI t0) sm0 A.1 A.2.1 A.2.2.1 (fun j => nI (P j).1) (fun j => nI (P j).2.1) (fun j => (P j).2.2.1) (fun j => (P j).2.2.2) (fun j => nI (W0 j)) (fun j => nI (H0 j)) (fun j => nI (C0 j)) sin0 (fun j => nI (B0 j)) (fun j => nI (F0 j)) val0 (fun j => nI (cel0 j)) (fun j => nI (rdy0 j)) (nI ln1) (nI D1) (nI A.2.2.2) (nI n) (nI k1) (nI t1) sm1 A.1 A.2.1 A.2.2.1 (fun j => nI (P j).1) (fun j => nI (P j).2.1) (fun j => (P j).2.2.1) (fun j => (P j).2.2.2) (fun j => nI (W1 j)) (fun j => nI (H1 j)) (fun j => nI (C1 j)) sin1 (fun j => nI (B1 j)) (fun j => nI (F1 j)) val1 (fun j => nI (cel1 j)) (fun j => nI (rdy1 j)) m (nI s)) (fun _ _ => True) 4 () trivial ?_ ?_
  · intro m _ _
    exact pk_le 4 4 (fun _ => br_t rfl hp) (fun z => absurd z (by omega))
  · intro m s _ hs _ hn
    refine pk_le 4 s (fun z => absurd z (by omega)) (fun _ => cv_scl hs (cv_scl hs (br_t rfl (nm_r (nI_1 s) (hn () trivial)))))
theorem cv_same {post : Int32 → Prop} (hp : post 1) : wpL_same post (nI ln0, nI D0, nI A.2.2.2, nI n, nI k0, nI t0, sm0, A.1, A.2.1, A.2.2.1, fun j => nI (P j).1, fun j => nI (P j).2.1, fun j => (P j).2.2.1, fun j => (P j).2.2.2, fun j => nI (W0 j), fun j => nI (H0 j), fun j => nI (C0 j), sin0, fun j => nI (B0 j), fun j => nI (F0 j), val0, fun j => nI (cel0 j), fun j => nI (rdy0 j), nI ln1, nI D1, nI A.2.2.2, nI n, nI k1, nI t1, sm1, A.1, A.2.1, A.2.2.1, fun j => nI (P j).1, fun j => nI (P j).2.1, fun j => (P j).2.2.1, fun j => (P j).2.2.2, fun j => nI (W1 j), fun j => nI (H1 j), fun j => nI (C1 j), sin1, fun j => nI (B1 j), fun j => nI (F1 j), val1, fun j => nI (cel1 j), fun j => nI (rdy1 j)) := by
  refine loop_0 (σ := Unit) (fun m s _ => wL_same_2 post (nI ln0) (nI D0) (nI A.2.2.2) (nI n) (nI k0) (nI t0) sm0 A.1 A.2.1 A.2.2.1 (fun j => nI (P j).1) (fun j => nI (P j).2.1) (fun j => (P j).2.2.1) (fun j => (P j).2.2.2) (fun j => nI (W0 j)) (fun j => nI (H0 j)) (fun j => nI (C0 j)) sin0 (fun j => nI (B0 j)) (fun j => nI (F0 j)) val0 (fun j => nI (cel0 j)) (fun j => nI (rdy0 j)) (nI ln1) (nI D1) (nI A.2.2.2) (nI n) (nI k1) (nI t1) sm1 A.1 A.2.1 A.2.2.1 (fun j => nI (P j).1) (fun j => nI (P j).2.1) (fun j => (P j).2.2.1) (fun j => (P j).2.2.2) (fun j => nI (W1 j)) (fun j => nI (H1 j)) (fun j => nI (C1 j)) sin1 (fun j => nI (B1 j)) (fun j => nI (F1 j)) val1 (fun j => nI (cel1 j)) (fun j => nI (rdy1 j)) m (nI s)) (fun _ _ => True) 64 () trivial ?_ ?_
  · intro m _ _
    exact pk_le 64 64 (fun _ => cv_s58 hp) (fun z => absurd z (by omega))
  · intro m s _ hs _ hn
    refine pk_le 64 s (fun z => absurd z (by omega)) (fun _ => ?_)
    rw [pk_shrN (show s < 2 ^ 31 by omega) _ 4 (by decide), pk_andN (show s < 2 ^ 32 by omega) 4 (by decide)]
    exact cv_elt (by omega) (by omega) (cv_elt (by omega) (by omega) (br_t rfl (cv_memo hs (cv_memo hs (br_t rfl (nm_r (nI_1 s) (hn () trivial)))))))
theorem cv_442 {post : Int32 → Prop} {L : Nat} {xs : Nat → Int32} {J78 : Int32 → Int32 → Int32 → Int32 → Int32 → Int32 → Int32 → Int32 → (Nat → Int32) → (Nat → Int32) → (Nat → Int32) → (Nat → Int32) → (Nat → Int32) → (Nat → Int32) → (Nat → Int32) → (Nat → Int32) → (Nat → Int32) → (Nat → Int32) → (Nat → Int32) → (Nat → Int32) → (Nat → Int32) → (Nat → Int32) → (Nat → Int32) → (Nat → Int32) → Int32 → Int32 → Int32 → Int32 → Int32 → Int32 → Int32 → (Nat → Int32) → (Nat → Int32) → (Nat → Int32) → (Nat → Int32) → (Nat → Int32) → (Nat → Int32) → (Nat → Int32) → (Nat → Int32) → (Nat → Int32) → (Nat → Int32) → (Nat → Int32) → (Nat → Int32) → (Nat → Int32) → (Nat → Int32) → (Nat → Int32) → (Nat → Int32) → Prop} {x3 : Int32} {kc ks : Nat} (hJ : J78 (x3 + 4) (nI ln0) (nI D0) (nI A.2.2.2) (nI n) (nI k0) (nI t0) sm0 A.1 A.2.1 A.2.2.1 (fun j => nI (P j).1) (fun j => nI (P j).2.1) (fun j => (P j).2.2.1) (fun j => (P j).2.2.2) (fun j => nI (W0 j)) (fun j => nI (H0 j)) (fun j => nI (C0 j)) sin0 (fun j => nI (B0 j)) (fun j => nI (F0 j)) val0 (fun j => nI (cel0 j)) (fun j => nI (rdy0 j)) (nI ln1) (nI D1) (nI A.2.2.2) (nI n) (nI k1) (nI t1) sm1 A.1 A.2.1 A.2.2.1 (fun j => nI (P j).1) (fun j => nI (P j).2.1) (fun j => (P j).2.2.1) (fun j => (P j).2.2.2) (fun j => nI (W1 j)) (fun j => nI (H1 j)) (fun j => nI (C1 j)) sin1 (fun j => nI (B1 j)) (fun j => nI (F1 j)) val1 (fun j => nI (cel1 j)) (fun j => nI (rdy1 j))) : wL_law_442 post L xs J78 x3 1 kc ks (nI ln0) (nI D0) (nI A.2.2.2) (nI n) (nI k0) (nI t0) sm0 A.1 A.2.1 A.2.2.1 (fun j => nI (P j).1) (fun j => nI (P j).2.1) (fun j => (P j).2.2.1) (fun j => (P j).2.2.2) (fun j => nI (W0 j)) (fun j => nI (H0 j)) (fun j => nI (C0 j)) sin0 (fun j => nI (B0 j)) (fun j => nI (F0 j)) val0 (fun j => nI (cel0 j)) (fun j => nI (rdy0 j)) (nI ln1) (nI D1) (nI A.2.2.2) (nI n) (nI k1) (nI t1) sm1 A.1 A.2.1 A.2.2.1 (fun j => nI (P j).1) (fun j => nI (P j).2.1) (fun j => (P j).2.2.1) (fun j => (P j).2.2.2) (fun j => nI (W1 j)) (fun j => nI (H1 j)) (fun j => nI (C1 j)) sin1 (fun j => nI (B1 j)) (fun j => nI (F1 j)) val1 (fun j => nI (cel1 j)) (fun j => nI (rdy1 j)) := by
  unfold wL_law_442
  exact br_f cv_10 (cv_same (br_f cv_10 (nm_e hJ)))
end
def cv_jj (J : Int32 → Int32 → Int32 → Int32 → Int32 → Int32 → Int32 → Int32 → (Nat → Int32) → (Nat → Int32) → (Nat → Int32) → (Nat → Int32) → (Nat → Int32) → (Nat → Int32) → (Nat → Int32) → (Nat → Int32) → (Nat → Int32) → (Nat → Int32) → (Nat → Int32) → (Nat → Int32) → (Nat → Int32) → (Nat → Int32) → (Nat → Int32) → (Nat → Int32) → Int32 → Int32 → Int32 → Int32 → Int32 → Int32 → Int32 → (Nat → Int32) → (Nat → Int32) → (Nat → Int32) → (Nat → Int32) → (Nat → Int32) → (Nat → Int32) → (Nat → Int32) → (Nat → Int32) → (Nat → Int32) → (Nat → Int32) → (Nat → Int32) → (Nat → Int32) → (Nat → Int32) → (Nat → Int32) → (Nat → Int32) → (Nat → Int32) → Prop) (x : Int32) (u v : St2) : Prop := match u with
  | (u1, u2, u3, u4, u5, u6, u7, u8, u9, u10, u11, u12, u13, u14, u15, u16, u17, u18, u19, u20, u21, u22, u23) => match v with
    | (v1, v2, v3, v4, v5, v6, v7, v8, v9, v10, v11, v12, v13, v14, v15, v16, v17, v18, v19, v20, v21, v22, v23) => J x u1 u2 u3 u4 u5 u6 u7 u8 u9 u10 u11 u12 u13 u14 u15 u16 u17 u18 u19 u20 u21 u22 u23 v1 v2 v3 v4 v5 v6 v7 v8 v9 v10 v11 v12 v13 v14 v15 v16 v17 v18 v19 v20 v21 v22 v23
def cv_cell {post : Int32 → Prop} {L : Nat} {xs : Nat → Int32} (a : Nat) (ha : a < 4) (hL : L ≤ 260) (hp : ∀ r, post r) : wpL_cell post L xs () (nI a) := 
  pk_le L a (fun _ => hp 0) (fun z => ⟨pk_in a L z, hp _⟩)
def cv_A0 : cv_A := (fun _ => 0, fun _ => 0, fun _ => 0, 16)
def cv_P0 : Nat → cv_I := fun _ => (0, 0, 0, 0)
theorem cv_i145 {post : St2 → Prop} {mc ms kc ks ln : Nat} {p : Int32} (h1 : 1 ≤ ln) (h4 : ln ≤ 4) (hp : ∀ u, cv_Z cv_A0 0 cv_P0 u → post u) : wX_init_145 post mc ms p (nI ln) kc ks 0 0 0 0 0 0 0 (fun _ => 0) (fun _ => 0) (fun _ => 0) (fun _ => 0) (fun _ => 0) (fun _ => 0) (fun _ => 0) (fun _ => 0) (fun _ => 0) (fun _ => 0) (fun _ => 0) (fun _ => 0) (fun _ => 0) (fun _ => 0) (fun _ => 0) (fun _ => 0) := by
  have q : ∀ D, D ≤ 5 → post (nI ln, nI D, 16, 0, 0, 0, 0, (fun _ => 0), (fun _ => 0), (fun _ => 0), (fun _ => 0), (fun _ => 0), (fun _ => 0), (fun _ => 0), (fun _ => 0), (fun _ => 0), (fun _ => 0), (fun _ => 0), (fun _ => 0), (fun _ => 0), (fun _ => 0), (fun _ => 0), (fun _ => 0)) := fun D hD => hp _ ⟨ln, D, 0, 0, 0, (fun _ => 0), (fun _ => 0), (fun _ => 0), (fun _ => 0), (fun _ => 0), (fun _ => 0), (fun _ => 0), (fun _ => 0), (fun _ => 0), h1, h4, hD, fun _ _ => rfl, fun _ => Nat.zero_le 1, rfl⟩
  unfold wX_init_145
  refine br_c (fun y => br_c (fun y2 => ?_) (fun y2 => q 5 (by omega))) (fun y => q 1 (by omega))
  obtain ⟨j, hj, e⟩ := nI_of2 (x := p) (M := 5) (n := 5) (by decide) (by
    rw [Int32.lt_iff_toInt_lt]
    rw [Int32.le_iff_toInt_le] at y
    have z0 : (0 : Int32).toInt = 0 := by decide
    have z1 : (1 : Int32).toInt = 1 := by decide
    omega) y2
  rw [e]
  exact q j hj
theorem cv_init {post : St2 → Prop} {p0 p1 : Int32} (hp : ∀ u, cv_Z cv_A0 0 cv_P0 u → post u) : wpX_init post 16 412 (0, 0, 0, 0, 0, 0, 0) p0 p1 := by
  unfold wpX_init
  dsimp only
  refine ⟨by omega, by omega, by omega, by omega, by omega, by omega, by omega, by omega, by omega, by omega, by omega, by omega, by omega, by omega, by omega, by omega, by omega, by omega, by omega, by omega, by omega, by omega, by omega, by omega, by omega, by omega, by omega, by omega, by omega, by omega, by omega, by omega, ?_⟩
  refine br_c (fun y => br_c (fun y2 => ?_) (fun y2 => cv_i145 (ln := 4) (by omega) (by omega) hp)) (fun y => cv_i145 (ln := 1) (by omega) (by omega) hp)
  obtain ⟨j, hj, e⟩ := nI_of2 (x := p0) (M := 4) (n := 4) (by decide) (by
    rw [Int32.lt_iff_toInt_lt]
    rw [Int32.le_iff_toInt_le] at y
    have z0 : (0 : Int32).toInt = 0 := by decide
    have z1 : (1 : Int32).toInt = 1 := by decide
    omega) y2
  have h1 : 1 ≤ j := by
    rw [e] at y
    exact (nI_leI (a := 1) (by omega) (by omega)).mp y
  rw [e]
  exact cv_i145 h1 hj hp
theorem cv_m12 : ∀ j, j < 16 → ∃ e, e ≤ 12 ∧ e % 4 = 0 ∧ nI j &&& 12 = nI e := by
  intro j hj
  refine ⟨j / 4 * 4, by omega, by omega, ?_⟩
  revert j
  decide +kernel
theorem cv_and12 (x : Int32) : ∃ e, e ≤ 12 ∧ x &&& 12 = nI e := by
  obtain ⟨j, hj, ej⟩ := pk_andE x (m := 15) 4 (by decide)
  obtain ⟨e, he, _, ee⟩ := cv_m12 j hj
  refine ⟨e, he, ?_⟩
  rw [← ee, ← ej, Int32.and_assoc]
  rfl
section
variable {L : Nat} {xs : Nat → Int32} {kc ks : Nat}
/-- the law's end -/
theorem cv_exit {q m : Nat} {A : cv_A} {n : Nat} {P : Nat → cv_I} {u v : St2} (hL : L ≤ 260) (hq : q ≤ 260) (h : L < q + 4) (hK : cv_K A n P) (hu : cv_Z A n P u) (hv : cv_Z A n P v) : cv_jj (wL_law_78 (fun r => r = 1) L xs kc ks (m + 1)) (nI q) u v := by
  have hu0 := hu
  have hv0 := hv
  obtain ⟨ln0, D0, k0, t0, sm0, W0, H0, C0, sin0, B0, F0, val0, cel0, rdy0, a1_0, a2_0, a3_0, a4_0, a5_0, rfl⟩ := hu
  obtain ⟨ln1, D1, k1, t1, sm1, W1, H1, C1, sin1, B1, F1, val1, cel1, rdy1, a1_1, a2_1, a3_1, a4_1, a5_1, rfl⟩ := hv
  have ex : (Int32.ofNat L - 4) < nI q := by
    have e : (nI L - nI 4).toInt = (L : Int) - 4 := pk_sub_toInt (by omega) (by omega)
    have e2 : (nI q).toInt = (q : Int) := nI_toInt (by omega)
    rw [Int32.lt_iff_toInt_lt]
    have e3 : (Int32.ofNat L - 4).toInt = (L : Int) - 4 := e
    rw [e3, e2]
    omega
  refine br_t ex (cv_zrun hK hu0 ?_)
  intro u' hu'
  obtain ⟨ln0, D0, k0, t0, sm0, W0, H0, C0, sin0, B0, F0, val0, cel0, rdy0, a1_0, a2_0, a3_0, a4_0, a5_0, rfl⟩ := hu'
  refine cv_zrun hK hv0 ?_
  intro v' hv'
  obtain ⟨ln1, D1, k1, t1, sm1, W1, H1, C1, sin1, B1, F1, val1, cel1, rdy1, a1_1, a2_1, a3_1, a4_1, a5_1, rfl⟩ := hv'
  exact br_t rfl (cv_same (A := cv_R P A n) (br_f cv_10 rfl))
/-- one turn of the law -/
theorem cv_turn {J78 : Int32 → Int32 → Int32 → Int32 → Int32 → Int32 → Int32 → Int32 → (Nat → Int32) → (Nat → Int32) → (Nat → Int32) → (Nat → Int32) → (Nat → Int32) → (Nat → Int32) → (Nat → Int32) → (Nat → Int32) → (Nat → Int32) → (Nat → Int32) → (Nat → Int32) → (Nat → Int32) → (Nat → Int32) → (Nat → Int32) → (Nat → Int32) → (Nat → Int32) → Int32 → Int32 → Int32 → Int32 → Int32 → Int32 → Int32 → (Nat → Int32) → (Nat → Int32) → (Nat → Int32) → (Nat → Int32) → (Nat → Int32) → (Nat → Int32) → (Nat → Int32) → (Nat → Int32) → (Nat → Int32) → (Nat → Int32) → (Nat → Int32) → (Nat → Int32) → (Nat → Int32) → (Nat → Int32) → (Nat → Int32) → (Nat → Int32) → Prop} {q : Nat} {A : cv_A} {n : Nat} {P : Nat → cv_I} {u v : St2} {post : Int32 → Prop} {m : Nat} (hJe : J78 = wL_law_78 post L xs kc ks m) (hL : L ≤ 260) (hq : q + 4 ≤ L) (hK : cv_K A n P) (hu : cv_Z A n P u) (hv : cv_Z A n P v)
    (hJ : ∀ A n P u v, cv_K A n P → cv_Z A n P u → cv_Z A n P v → cv_jj J78 (nI q + 4) u v) : cv_jj (wL_law_78 post L xs kc ks (m + 1)) (nI q) u v := by
  subst hJe
  have hu0 := hu
  have hv0 := hv
  obtain ⟨ln0, D0, k0, t0, sm0, W0, H0, C0, sin0, B0, F0, val0, cel0, rdy0, a1_0, a2_0, a3_0, a4_0, a5_0, rfl⟩ := hu
  obtain ⟨ln1, D1, k1, t1, sm1, W1, H1, C1, sin1, B1, F1, val1, cel1, rdy1, a1_1, a2_1, a3_1, a4_1, a5_1, rfl⟩ := hv
  have ex : ¬ (Int32.ofNat L - 4) < nI q := by
    have e : (nI L - nI 4).toInt = (L : Int) - 4 := pk_sub_toInt (by omega) (by omega)
    have e2 : (nI q).toInt = (q : Int) := nI_toInt (by omega)
    rw [Int32.lt_iff_toInt_lt]
    have e3 : (Int32.ofNat L - 4).toInt = (L : Int) - 4 := e
    rw [e3, e2]
    omega
  show wL_law_78 post L xs kc ks (m + 1) (nI q) (nI ln0) (nI D0) (nI A.2.2.2) (nI n) (nI k0) (nI t0) sm0 A.1 A.2.1 A.2.2.1 (fun j => nI (P j).1) (fun j => nI (P j).2.1) (fun j => (P j).2.2.1) (fun j => (P j).2.2.2) (fun j => nI (W0 j)) (fun j => nI (H0 j)) (fun j => nI (C0 j)) sin0 (fun j => nI (B0 j)) (fun j => nI (F0 j)) val0 (fun j => nI (cel0 j)) (fun j => nI (rdy0 j)) (nI ln1) (nI D1) (nI A.2.2.2) (nI n) (nI k1) (nI t1) sm1 A.1 A.2.1 A.2.2.1 (fun j => nI (P j).1) (fun j => nI (P j).2.1) (fun j => (P j).2.2.1) (fun j => (P j).2.2.2) (fun j => nI (W1 j)) (fun j => nI (H1 j)) (fun j => nI (C1 j)) sin1 (fun j => nI (B1 j)) (fun j => nI (F1 j)) val1 (fun j => nI (cel1 j)) (fun j => nI (rdy1 j))
  obtain ⟨o, ho, eo⟩ := pk_andE (xs q) (m := 15) 4 (by decide)
  obtain ⟨a, ha, ea⟩ := pk_andE (xs (q + 1)) (m := 3) 2 (by decide)
  obtain ⟨b, hb, eb⟩ := pk_andE (xs (q + 2)) (m := 3) 2 (by decide)
  obtain ⟨z, hz, ez⟩ := pk_andE (xs (q + 3)) (m := 3) 2 (by decide)
  have kq1 : nI q + 1 = nI (q + 1) := nI_add q 1
  have kq2 : nI q + 2 = nI (q + 2) := nI_add q 2
  have kq3 : nI q + 3 = nI (q + 3) := nI_add q 3
  refine br_f ex ⟨pk_in q L (by omega), nm_r (e' := nI o) (by rw [nI_clamp (by omega), eo]) ⟨pk_in (q + 1) L (by omega) kq1, nm_r (e' := nI a) (by rw [kq1, nI_clamp (by omega), ea]) ⟨pk_in (q + 2) L (by omega) kq2, nm_r (e' := nI b) (by rw [kq2, nI_clamp (by omega), eb]) ⟨pk_in (q + 3) L (by omega) kq3, nm_r (e' := xs (q + 3)) (by rw [kq3, nI_clamp (by omega)]) ?_⟩⟩⟩⟩
  generalize xs (q + 3) = c at ez ⊢
  have h135 : o ≤ 5 ∨ o = 11 → wL_law_135 post L xs (wL_law_78 post L xs kc ks m) (nI q) (nI o) (nI a) (nI b) c kc ks (nI ln0) (nI D0) (nI A.2.2.2) (nI n) (nI k0) (nI t0) sm0 A.1 A.2.1 A.2.2.1 (fun j => nI (P j).1) (fun j => nI (P j).2.1) (fun j => (P j).2.2.1) (fun j => (P j).2.2.2) (fun j => nI (W0 j)) (fun j => nI (H0 j)) (fun j => nI (C0 j)) sin0 (fun j => nI (B0 j)) (fun j => nI (F0 j)) val0 (fun j => nI (cel0 j)) (fun j => nI (rdy0 j)) (nI ln1) (nI D1) (nI A.2.2.2) (nI n) (nI k1) (nI t1) sm1 A.1 A.2.1 A.2.2.1 (fun j => nI (P j).1) (fun j => nI (P j).2.1) (fun j => (P j).2.2.1) (fun j => (P j).2.2.2) (fun j => nI (W1 j)) (fun j => nI (H1 j)) (fun j => nI (C1 j)) sin1 (fun j => nI (B1 j)) (fun j => nI (F1 j)) val1 (fun j => nI (cel1 j)) (fun j => nI (rdy1 j)) := by
    intro h
    unfold wL_law_135
    rw [ez]
    have hwf : cv_wf (o, a, nI b, nI z) := ⟨by omega, ha, fun _ _ => ⟨b, hb, rfl⟩, fun _ => ⟨z, hz, rfl⟩⟩
    refine cv_zemit (c := (o, a, nI b, nI z)) hK hwf hu0 ?_
    intro u' hu'
    have hu1 := hu'
    obtain ⟨ln0, D0, k0, t0, sm0, W0, H0, C0, sin0, B0, F0, val0, cel0, rdy0, a1_0, a2_0, a3_0, a4_0, a5_0, rfl⟩ := hu'
    refine cv_zemit (c := (o, a, nI b, nI z)) hK hwf hv0 ?_
    intro v' hv'
    have hv1 := hv'
    obtain ⟨ln1, D1, k1, t1, sm1, W1, H1, C1, sin1, B1, F1, val1, cel1, rdy1, a1_1, a2_1, a3_1, a4_1, a5_1, rfl⟩ := hv'
    exact br_t rfl (cv_442 (hJ _ _ _ _ _ (cv_K_emit hK hwf) hu1 hv1))
  refine pk_le o 5 (fun h => h135 (Or.inl h)) (fun h5 => pk_eq o 11 (fun h => h135 (Or.inr h)) (fun h11 => pk_eq o 10 (fun h10 => ?_) (fun h10 => pk_lt 9 o (fun h9 => pk_eq o 12 (fun h12 => ?_) (fun h12 => pk_eq o 13 (fun h13 => ?_) (fun h13 => ?_))) (fun h9 => ?_))))
  · have hwf : cv_wf (o, a, c, 0) := ⟨by show o ≤ 12; omega, ha, fun y => absurd h10 y, fun y => absurd y (by show ¬ (o ≤ 5 ∨ o = 11); omega)⟩
    refine cv_zemit (c := (o, a, c, 0)) hK hwf hu0 ?_
    intro u' hu'
    have hu1 := hu'
    obtain ⟨ln0, D0, k0, t0, sm0, W0, H0, C0, sin0, B0, F0, val0, cel0, rdy0, a1_0, a2_0, a3_0, a4_0, a5_0, rfl⟩ := hu'
    refine cv_zemit (c := (o, a, c, 0)) hK hwf hv0 ?_
    intro v' hv'
    have hv1 := hv'
    obtain ⟨ln1, D1, k1, t1, sm1, W1, H1, C1, sin1, B1, F1, val1, cel1, rdy1, a1_1, a2_1, a3_1, a4_1, a5_1, rfl⟩ := hv'
    exact br_t rfl (cv_442 (hJ _ _ _ _ _ (cv_K_emit hK hwf) hu1 hv1))
  · have hwf : cv_wf (10, a, 9 + (c &&& 7), 0) := ⟨by show 10 ≤ 12; omega, ha, fun y => absurd rfl y, fun y => absurd y (by show ¬ (10 ≤ 5 ∨ 10 = 11); omega)⟩
    have hwf2 : cv_wf (o, a, 0, 0) := ⟨by show o ≤ 12; omega, ha, fun _ y => absurd h12 y, fun y => absurd y (by show ¬ (o ≤ 5 ∨ o = 11); omega)⟩
    have hK1 := cv_K_emit hK hwf
    refine cv_zemit (c := (10, a, 9 + (c &&& 7), 0)) hK hwf hu0 ?_
    intro u' hu'
    have hu1 := hu'
    obtain ⟨ln0, D0, k0, t0, sm0, W0, H0, C0, sin0, B0, F0, val0, cel0, rdy0, a1_0, a2_0, a3_0, a4_0, a5_0, rfl⟩ := hu'
    refine cv_zemit (c := (10, a, 9 + (c &&& 7), 0)) hK hwf hv0 ?_
    intro v' hv'
    have hv1 := hv'
    obtain ⟨ln1, D1, k1, t1, sm1, W1, H1, C1, sin1, B1, F1, val1, cel1, rdy1, a1_1, a2_1, a3_1, a4_1, a5_1, rfl⟩ := hv'
    refine br_t rfl (br_f cv_10 ?_)
    refine cv_zemit (c := (o, a, 0, 0)) hK1 hwf2 hu1 ?_
    intro u' hu'
    have hu2 := hu'
    obtain ⟨ln0, D0, k0, t0, sm0, W0, H0, C0, sin0, B0, F0, val0, cel0, rdy0, a1_0, a2_0, a3_0, a4_0, a5_0, rfl⟩ := hu'
    refine cv_zemit (c := (o, a, 0, 0)) hK1 hwf2 hv1 ?_
    intro v' hv'
    have hv2 := hv'
    obtain ⟨ln1, D1, k1, t1, sm1, W1, H1, C1, sin1, B1, F1, val1, cel1, rdy1, a1_1, a2_1, a3_1, a4_1, a5_1, rfl⟩ := hv'
    exact br_t rfl (cv_442 (hJ _ _ _ _ _ (cv_K_emit hK1 hwf2) hu2 hv2))
  · obtain ⟨e, he, ee⟩ := cv_and12 c
    rw [ee, nI_add]
    refine cv_zsetE (a := a) (b := b + e) ha (by omega) hu0 ?_
    intro u' hu'
    have hu1 := hu'
    obtain ⟨ln0, D0, k0, t0, sm0, W0, H0, C0, sin0, B0, F0, val0, cel0, rdy0, a1_0, a2_0, a3_0, a4_0, a5_0, rfl⟩ := hu'
    refine cv_zsetE (a := a) (b := b + e) ha (by omega) hv0 ?_
    intro v' hv'
    have hv1 := hv'
    obtain ⟨ln1, D1, k1, t1, sm1, W1, H1, C1, sin1, B1, F1, val1, cel1, rdy1, a1_1, a2_1, a3_1, a4_1, a5_1, rfl⟩ := hv'
    exact br_t rfl (cv_442 (A := (upd A.1 (16 * a + (b + e)) c, A.2)) (hJ (upd A.1 (16 * a + (b + e)) c, A.2) _ _ _ _ ⟨hK.1, hK.2⟩ hu1 hv1))
  · refine cv_zrun hK hu0 ?_
    intro u' hu'
    have hu1 := hu'
    obtain ⟨ln0, D0, k0, t0, sm0, W0, H0, C0, sin0, B0, F0, val0, cel0, rdy0, a1_0, a2_0, a3_0, a4_0, a5_0, rfl⟩ := hu'
    refine cv_zrun hK hv0 ?_
    intro v' hv'
    have hv1 := hv'
    obtain ⟨ln1, D1, k1, t1, sm1, W1, H1, C1, sin1, B1, F1, val1, cel1, rdy1, a1_1, a2_1, a3_1, a4_1, a5_1, rfl⟩ := hv'
    have hK1 := cv_K_run hK
    refine br_t rfl ?_
    have h442 := cv_442 (post := post) (L := L) (xs := xs) (kc := kc) (ks := ks) (hJ _ _ _ _ _ hK1 hu1 hv1)
    refine pk_eq o 15 (fun _ => br_c (fun _ => ?_) (fun _ => h442)) (fun _ => h442)
    refine cv_zclear hu1 ?_
    intro u' hu'
    have hu2 := hu'
    obtain ⟨ln0, D0, k0, t0, sm0, W0, H0, C0, sin0, B0, F0, val0, cel0, rdy0, a1_0, a2_0, a3_0, a4_0, a5_0, rfl⟩ := hu'
    refine cv_zclear hv1 ?_
    intro v' hv'
    have hv2 := hv'
    obtain ⟨ln1, D1, k1, t1, sm1, W1, H1, C1, sin1, B1, F1, val1, cel1, rdy1, a1_1, a2_1, a3_1, a4_1, a5_1, rfl⟩ := hv'
    exact cv_442 (A := (cv_z (cv_R P A n).1 64, cv_z (cv_R P A n).2.1 4, cv_z (cv_R P A n).2.2.1 64, 16)) (hJ _ _ _ _ _ ⟨by show 16 ≤ 16; omega, hK1.2⟩ hu2 hv2)
  · have hwf : cv_wf (o, a, nI b, c) := ⟨by show o ≤ 12; omega, ha, fun _ _ => ⟨b, hb, rfl⟩, fun y => absurd y (by show ¬ (o ≤ 5 ∨ o = 11); omega)⟩
    refine cv_zemit (c := (o, a, nI b, c)) hK hwf hu0 ?_
    intro u' hu'
    have hu1 := hu'
    obtain ⟨ln0, D0, k0, t0, sm0, W0, H0, C0, sin0, B0, F0, val0, cel0, rdy0, a1_0, a2_0, a3_0, a4_0, a5_0, rfl⟩ := hu'
    refine cv_zemit (c := (o, a, nI b, c)) hK hwf hv0 ?_
    intro v' hv'
    have hv1 := hv'
    obtain ⟨ln1, D1, k1, t1, sm1, W1, H1, C1, sin1, B1, F1, val1, cel1, rdy1, a1_1, a2_1, a3_1, a4_1, a5_1, rfl⟩ := hv'
    exact br_t rfl (cv_442 (hJ _ _ _ _ _ (cv_K_emit hK hwf) hu1 hv1))
theorem cv_l78 (hL : L ≤ 260) : ∀ m q, q ≤ 260 → L < q + m → ∀ A n P u v, cv_K A n P → cv_Z A n P u → cv_Z A n P v → cv_jj (wL_law_78 (fun r => r = 1) L xs kc ks (m + 1)) (nI q) u v := by
  intro m
  induction m with
  | zero =>
    intro q hq hm A n P u v hK hu hv
    exact cv_exit hL hq (by omega) hK hu hv
  | succ m ih =>
    intro q hq hm A n P u v hK hu hv
    rcases Nat.lt_or_ge L (q + 4) with h | h
    · exact cv_exit hL hq h hK hu hv
    · refine cv_turn rfl hL h hK hu hv (fun A n P u v a b c => ?_)
      have e : nI q + 4 = nI (q + 4) := nI_add q 4
      rw [e]
      exact ih (q + 4) (by omega) (by omega) A n P u v a b c
theorem cv_l38 (hL : L ≤ 260) : ∀ d c, c + d = 64 → ∀ A u v, A.2.2.2 ≤ 16 → cv_Z A 0 cv_P0 u → cv_Z A 0 cv_P0 v → cv_jj (wL_law_38 (fun r => r = 1) L xs kc ks (d + 1)) (nI c) u v := by
  intro d
  induction d with
  | zero =>
    intro c hc A u v hA hu hv
    have r := cv_l78 (L := L) (xs := xs) (kc := kc) (ks := ks) hL 260 4 (by omega) (by omega) A 0 cv_P0 u v ⟨hA, by omega, fun j hj => absurd hj (by omega)⟩ hu hv
    obtain ⟨ln0, D0, k0, t0, sm0, W0, H0, C0, sin0, B0, F0, val0, cel0, rdy0, a1_0, a2_0, a3_0, a4_0, a5_0, rfl⟩ := hu
    obtain ⟨ln1, D1, k1, t1, sm1, W1, H1, C1, sin1, B1, F1, val1, cel1, rdy1, a1_1, a2_1, a3_1, a4_1, a5_1, rfl⟩ := hv
    have hc4 : c = 64 := by omega
    subst hc4
    exact pk_le 64 64 (fun _ => ⟨260 + 1, r⟩) (fun z => absurd z (by omega))
  | succ d ih =>
    intro c hc A u v hA hu hv
    have hu0 := hu
    have hv0 := hv
    obtain ⟨ln0, D0, k0, t0, sm0, W0, H0, C0, sin0, B0, F0, val0, cel0, rdy0, a1_0, a2_0, a3_0, a4_0, a5_0, rfl⟩ := hu
    obtain ⟨ln1, D1, k1, t1, sm1, W1, H1, C1, sin1, B1, F1, val1, cel1, rdy1, a1_1, a2_1, a3_1, a4_1, a5_1, rfl⟩ := hv
    refine pk_le 64 c (fun z => absurd z (by omega)) (fun _ => cv_zsetM (a := c) (by omega) hu0 ?_)
    intro u' hu'
    have hu1 := hu'
    obtain ⟨ln0, D0, k0, t0, sm0, W0, H0, C0, sin0, B0, F0, val0, cel0, rdy0, a1_0, a2_0, a3_0, a4_0, a5_0, rfl⟩ := hu'
    refine cv_zsetM (a := c) (by omega) hv0 ?_
    intro v' hv'
    have hv1 := hv'
    obtain ⟨ln1, D1, k1, t1, sm1, W1, H1, C1, sin1, B1, F1, val1, cel1, rdy1, a1_1, a2_1, a3_1, a4_1, a5_1, rfl⟩ := hv'
    exact nm_r (nI_1 c) (ih (c + 1) (by omega) _ _ _ (by exact hA) hu1 hv1)
end
theorem i_vc (xs : Nat → Int32) (L : Nat) (hL : L ≤ 260) : wpL_law (fun r => r = 1) L xs := by
  unfold wpL_law
  refine cv_cell 0 (by omega) hL (fun r0 => cv_cell 1 (by omega) hL (fun r1 => ⟨16, 412, by omega, by omega, cv_init ?_⟩))
  intro u hu
  have hu0 := hu
  obtain ⟨ln0, D0, k0, t0, sm0, W0, H0, C0, sin0, B0, F0, val0, cel0, rdy0, a1_0, a2_0, a3_0, a4_0, a5_0, rfl⟩ := hu
  refine ⟨by omega, by omega, cv_cell 2 (by omega) hL (fun r2 => cv_cell 3 (by omega) hL (fun r3 => ⟨16, 412, by omega, by omega, cv_init ?_⟩))⟩
  intro v hv
  have hv0 := hv
  obtain ⟨ln1, D1, k1, t1, sm1, W1, H1, C1, sin1, B1, F1, val1, cel1, rdy1, a1_1, a2_1, a3_1, a4_1, a5_1, rfl⟩ := hv
  exact ⟨64 + 1, cv_l38 hL 64 0 (by omega) cv_A0 _ _ (by show 16 ≤ 16; omega) hu0 hv0⟩
end
