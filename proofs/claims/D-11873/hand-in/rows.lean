section
/-! pure: minima, the way table, the rows of the parts -/
theorem sn_lm {t a b : Nat} : t ≤ min a b ↔ t ≤ a ∧ t ≤ b := by omega
theorem sn_e1 {a b c : Nat} : min a b + c = min (a + c) (b + c) := by omega
theorem sn_e2 {a b c : Nat} : c + min a b = min (c + a) (c + b) := by omega
theorem sn_ext {a b : Nat} (h : ∀ t, t ≤ a ↔ t ≤ b) : a = b := Nat.le_antisymm ((h a).mp (Nat.le_refl a)) ((h b).mpr (Nat.le_refl b))
theorem sn_c7 {P : Nat → Prop} (h0 : P 0) (h1 : P 1) (h2 : P 2) (h3 : P 3) (h4 : P 4) (h5 : P 5) (h6 : P 6) : ∀ i, i < 7 → P i := by
  intro i hi
  have e : i = 0 ∨ i = 1 ∨ i = 2 ∨ i = 3 ∨ i = 4 ∨ i = 5 ∨ i = 6 := by omega
  rcases e with e | e | e | e | e | e | e <;> (subst e; assumption)
/-- one step of shortening, over the point m -/
def sn_sh (m : Nat) (W : Nat → Nat → Nat) (a b : Nat) : Nat := min (W a b) (W a m + W m b)
/-- the way table of four points with six prices; the other points are far -/
def sn_km (x0 x1 x2 x3 x4 x5 : Nat) : Nat → Nat → Nat
  | 0, 0 => 0
  | 0, 1 => x3
  | 0, 2 => x5
  | 0, 3 => x0
  | 1, 0 => x3
  | 1, 1 => 0
  | 1, 2 => x4
  | 1, 3 => x1
  | 2, 0 => x5
  | 2, 1 => x4
  | 2, 2 => 0
  | 2, 3 => x2
  | 3, 0 => x0
  | 3, 1 => x1
  | 3, 2 => x2
  | 3, 3 => 0
  | i, j => if i = j then 0 else 100000
/-- a table that is a bounded one with nothing on its diagonal -/
def sn_bd (W : Nat → Nat → Nat) : Prop := (∀ i j, i < 7 → j < 7 → W i j ≤ 100000) ∧ (∀ i, i < 7 → W i i = 0)
def sn_tr (W : Nat → Nat → Nat) : Prop := ∀ i j k, i < 7 → j < 7 → k < 7 → W i k ≤ W i j + W j k
def sn_x6 (x0 x1 x2 x3 x4 x5 : Nat) : Prop := x0 ≤ 100000 ∧ x1 ≤ 100000 ∧ x2 ≤ 100000 ∧ x3 ≤ 100000 ∧ x4 ≤ 100000 ∧ x5 ≤ 100000
theorem sn_km_bd {x0 x1 x2 x3 x4 x5 : Nat} (h : sn_x6 x0 x1 x2 x3 x4 x5) : sn_bd (sn_km x0 x1 x2 x3 x4 x5) := by
  obtain ⟨h0, h1, h2, h3, h4, h5⟩ := h
  refine ⟨fun i j hi hj => ?_, ?_⟩
  · revert j
    revert i
    refine sn_c7 ?_ ?_ ?_ ?_ ?_ ?_ ?_ <;> (refine sn_c7 ?_ ?_ ?_ ?_ ?_ ?_ ?_ <;> (simp [sn_km] <;> omega))
  · refine sn_c7 ?_ ?_ ?_ ?_ ?_ ?_ ?_ <;> rfl
theorem sn_k0 {x0 x1 x2 x3 x4 x5 : Nat} : ∀ i, i < 7 → ∀ j, j < 7 → sn_sh 0 (sn_km x0 x1 x2 x3 x4 x5) i j = sn_km x0 (min x1 (x3 + x0)) (min x2 (x5 + x0)) x3 (min x4 (x3 + x5)) x5 i j := by
  refine sn_c7 ?_ ?_ ?_ ?_ ?_ ?_ ?_ <;> (refine sn_c7 ?_ ?_ ?_ ?_ ?_ ?_ ?_ <;> (simp [sn_sh, sn_km] <;> omega))
theorem sn_k1 {x0 x1 x2 x3 x4 x5 : Nat} : ∀ i, i < 7 → ∀ j, j < 7 → sn_sh 1 (sn_km x0 x1 x2 x3 x4 x5) i j = sn_km (min x0 (x3 + x1)) x1 (min x2 (x4 + x1)) x3 x4 (min x5 (x3 + x4)) i j := by
  refine sn_c7 ?_ ?_ ?_ ?_ ?_ ?_ ?_ <;> (refine sn_c7 ?_ ?_ ?_ ?_ ?_ ?_ ?_ <;> (simp [sn_sh, sn_km] <;> omega))
theorem sn_k2 {x0 x1 x2 x3 x4 x5 : Nat} : ∀ i, i < 7 → ∀ j, j < 7 → sn_sh 2 (sn_km x0 x1 x2 x3 x4 x5) i j = sn_km (min x0 (x5 + x2)) (min x1 (x4 + x2)) x2 (min x3 (x5 + x4)) x4 x5 i j := by
  refine sn_c7 ?_ ?_ ?_ ?_ ?_ ?_ ?_ <;> (refine sn_c7 ?_ ?_ ?_ ?_ ?_ ?_ ?_ <;> (simp [sn_sh, sn_km] <;> omega))
theorem sn_k3 {x0 x1 x2 x3 x4 x5 : Nat} : ∀ i, i < 7 → ∀ j, j < 7 → sn_sh 3 (sn_km x0 x1 x2 x3 x4 x5) i j = sn_km x0 x1 x2 (min x3 (x0 + x1)) (min x4 (x1 + x2)) (min x5 (x0 + x2)) i j := by
  refine sn_c7 ?_ ?_ ?_ ?_ ?_ ?_ ?_ <;> (refine sn_c7 ?_ ?_ ?_ ?_ ?_ ?_ ?_ <;> (simp [sn_sh, sn_km] <;> omega))
theorem sn_k456 {x0 x1 x2 x3 x4 x5 : Nat} (h : sn_x6 x0 x1 x2 x3 x4 x5) {m : Nat} (hm : m = 4 ∨ m = 5 ∨ m = 6) : ∀ i, i < 7 → ∀ j, j < 7 → sn_sh m (sn_km x0 x1 x2 x3 x4 x5) i j = sn_km x0 x1 x2 x3 x4 x5 i j := by
  obtain ⟨h0, h1, h2, h3, h4, h5⟩ := h
  rcases hm with e | e | e <;> subst e <;>
  (refine sn_c7 ?_ ?_ ?_ ?_ ?_ ?_ ?_ <;> (refine sn_c7 ?_ ?_ ?_ ?_ ?_ ?_ ?_ <;> (simp [sn_sh, sn_km] <;> omega)))
/-! the five ways between two of the four points -/
def sn_m5 (a b c d e : Nat) : Nat := min a (min b (min c (min d e)))
def sn_d0 (x0 x1 x2 x3 x4 x5 : Nat) : Nat := sn_m5 x0 (x3 + x1) (x5 + x2) (x3 + x4 + x2) (x5 + x4 + x1)
def sn_d1 (x0 x1 x2 x3 x4 x5 : Nat) : Nat := sn_m5 x1 (x3 + x0) (x4 + x2) (x3 + x5 + x2) (x4 + x5 + x0)
def sn_d2 (x0 x1 x2 x3 x4 x5 : Nat) : Nat := sn_m5 x2 (x5 + x0) (x4 + x1) (x5 + x3 + x1) (x4 + x3 + x0)
def sn_d3 (x0 x1 x2 x3 x4 x5 : Nat) : Nat := sn_m5 x3 (x0 + x1) (x5 + x4) (x0 + x2 + x4) (x5 + x2 + x1)
def sn_d4 (x0 x1 x2 x3 x4 x5 : Nat) : Nat := sn_m5 x4 (x1 + x2) (x3 + x5) (x1 + x0 + x5) (x3 + x0 + x2)
def sn_d5 (x0 x1 x2 x3 x4 x5 : Nat) : Nat := sn_m5 x5 (x3 + x4) (x0 + x2) (x0 + x1 + x4) (x3 + x1 + x2)
/-- the way table at the end -/
def sn_dm (x0 x1 x2 x3 x4 x5 : Nat) : Nat → Nat → Nat := sn_km (sn_d0 x0 x1 x2 x3 x4 x5) (sn_d1 x0 x1 x2 x3 x4 x5) (sn_d2 x0 x1 x2 x3 x4 x5) (sn_d3 x0 x1 x2 x3 x4 x5) (sn_d4 x0 x1 x2 x3 x4 x5) (sn_d5 x0 x1 x2 x3 x4 x5)
theorem sn_m5_le {a b c d e : Nat} : sn_m5 a b c d e ≤ a ∧ sn_m5 a b c d e ≤ b ∧ sn_m5 a b c d e ≤ c ∧ sn_m5 a b c d e ≤ d ∧ sn_m5 a b c d e ≤ e := by
  unfold sn_m5
  omega
theorem sn_m5_or {a b c d e : Nat} : sn_m5 a b c d e = a ∨ sn_m5 a b c d e = b ∨ sn_m5 a b c d e = c ∨ sn_m5 a b c d e = d ∨ sn_m5 a b c d e = e := by
  unfold sn_m5
  omega
theorem sn_m5_lm {t a b c d e : Nat} : t ≤ sn_m5 a b c d e ↔ t ≤ a ∧ t ≤ b ∧ t ≤ c ∧ t ≤ d ∧ t ≤ e := by
  unfold sn_m5
  omega
theorem sn_dm_x6 {x0 x1 x2 x3 x4 x5 : Nat} (h : sn_x6 x0 x1 x2 x3 x4 x5) : sn_x6 (sn_d0 x0 x1 x2 x3 x4 x5) (sn_d1 x0 x1 x2 x3 x4 x5) (sn_d2 x0 x1 x2 x3 x4 x5) (sn_d3 x0 x1 x2 x3 x4 x5) (sn_d4 x0 x1 x2 x3 x4 x5) (sn_d5 x0 x1 x2 x3 x4 x5) := by
  obtain ⟨h0, h1, h2, h3, h4, h5⟩ := h
  exact ⟨Nat.le_trans sn_m5_le.1 h0, Nat.le_trans sn_m5_le.1 h1, Nat.le_trans sn_m5_le.1 h2, Nat.le_trans sn_m5_le.1 h3, Nat.le_trans sn_m5_le.1 h4, Nat.le_trans sn_m5_le.1 h5⟩
/-- the four steps that count, by the six prices: what stands at the end are the five ways -/
theorem sn_fw {x0 x1 x2 x3 x4 x5 y1 y2 y4 z0 z2 z5 u0 u1 u3 v3 v4 v5 : Nat}
    (ey1 : y1 = min x1 (x3 + x0)) (ey2 : y2 = min x2 (x5 + x0)) (ey4 : y4 = min x4 (x3 + x5))
    (ez0 : z0 = min x0 (x3 + y1)) (ez2 : z2 = min y2 (y4 + y1)) (ez5 : z5 = min x5 (x3 + y4))
    (eu0 : u0 = min z0 (z5 + z2)) (eu1 : u1 = min y1 (y4 + z2)) (eu3 : u3 = min x3 (z5 + y4))
    (ev3 : v3 = min u3 (u0 + u1)) (ev4 : v4 = min y4 (u1 + z2)) (ev5 : v5 = min z5 (u0 + z2)) :
    u0 = sn_d0 x0 x1 x2 x3 x4 x5 ∧ u1 = sn_d1 x0 x1 x2 x3 x4 x5 ∧ z2 = sn_d2 x0 x1 x2 x3 x4 x5 ∧ v3 = sn_d3 x0 x1 x2 x3 x4 x5 ∧ v4 = sn_d4 x0 x1 x2 x3 x4 x5 ∧ v5 = sn_d5 x0 x1 x2 x3 x4 x5 := by
  have f5 : z5 = min x5 (x3 + x4) := by omega
  have f0 : z0 = min x0 (x3 + x1) := by omega
  have f2 : z2 = sn_d2 x0 x1 x2 x3 x4 x5 := by
    refine sn_ext fun t => ?_
    rw [ez2, ey2, ey4, ey1, sn_d2, sn_m5_lm]
    simp only [sn_e1, sn_e2, sn_lm]
    constructor
    · intro h
      omega
    · intro h
      omega
  have g2 : z2 = min x2 (min (x5 + x0) (min (x4 + x1) (min (x5 + x3 + x1) (x4 + x3 + x0)))) := f2
  have f01 : u0 = sn_d0 x0 x1 x2 x3 x4 x5 := by
    refine sn_ext fun t => ?_
    rw [eu0, f0, f5, g2, sn_d0, sn_m5_lm]
    simp only [sn_e1, sn_e2, sn_lm]
    constructor
    · intro h
      omega
    · intro h
      omega
  have g0 : u0 = min x0 (min (x3 + x1) (min (x5 + x2) (min (x3 + x4 + x2) (x5 + x4 + x1)))) := f01
  have f1 : u1 = sn_d1 x0 x1 x2 x3 x4 x5 := by
    refine sn_ext fun t => ?_
    rw [eu1, ey4, g2, ey1, sn_d1, sn_m5_lm]
    simp only [sn_e1, sn_e2, sn_lm]
    constructor
    · intro h
      omega
    · intro h
      omega
  have g1 : u1 = min x1 (min (x3 + x0) (min (x4 + x2) (min (x3 + x5 + x2) (x4 + x5 + x0)))) := f1
  refine ⟨f01, f1, f2, ?_, ?_, ?_⟩
  · refine sn_ext fun t => ?_
    rw [ev3, eu3, f5, ey4, g0, g1, sn_d3, sn_m5_lm]
    simp only [sn_e1, sn_e2, sn_lm]
    constructor
    · intro h
      omega
    · intro h
      omega
  · refine sn_ext fun t => ?_
    rw [ev4, ey4, g2, g1, sn_d4, sn_m5_lm]
    simp only [sn_e1, sn_e2, sn_lm]
    constructor
    · intro h
      omega
    · intro h
      omega
  · refine sn_ext fun t => ?_
    rw [ev5, f5, g2, g0, sn_d5, sn_m5_lm]
    simp only [sn_e1, sn_e2, sn_lm]
    constructor
    · intro h
      omega
    · intro h
      omega
/-- the table at the end is closed -/
theorem sn_dm_tr {x0 x1 x2 x3 x4 x5 : Nat} (h : sn_x6 x0 x1 x2 x3 x4 x5) : sn_tr (sn_dm x0 x1 x2 x3 x4 x5) := by
  have hb := sn_dm_x6 h
  have key : ∀ d0 d1 d2 d3 d4 d5 : Nat, sn_x6 d0 d1 d2 d3 d4 d5 → (d0 ≤ d3 + d1 ∧ d0 ≤ d5 + d2 ∧ d1 ≤ d3 + d0 ∧ d1 ≤ d4 + d2 ∧ d2 ≤ d5 + d0 ∧ d2 ≤ d4 + d1 ∧ d3 ≤ d0 + d1 ∧ d3 ≤ d5 + d4 ∧ d4 ≤ d3 + d5 ∧ d4 ≤ d1 + d2 ∧ d5 ≤ d3 + d4 ∧ d5 ≤ d0 + d2) → ∀ i, i < 7 → ∀ j, j < 7 → ∀ k, k < 7 → sn_km d0 d1 d2 d3 d4 d5 i k ≤ sn_km d0 d1 d2 d3 d4 d5 i j + sn_km d0 d1 d2 d3 d4 d5 j k := by
    intro d0 d1 d2 d3 d4 d5 ⟨h0, h1, h2, h3, h4, h5⟩ ⟨t1, t2, t3, t4, t5, t6, t7, t8, t9, t10, t11, t12⟩
    refine sn_c7 ?_ ?_ ?_ ?_ ?_ ?_ ?_ <;> (refine sn_c7 ?_ ?_ ?_ ?_ ?_ ?_ ?_ <;> (refine sn_c7 ?_ ?_ ?_ ?_ ?_ ?_ ?_ <;> (simp [sn_km] <;> omega)))
  have q0 := @sn_m5_le x0 (x3 + x1) (x5 + x2) (x3 + x4 + x2) (x5 + x4 + x1)
  have q1 := @sn_m5_le x1 (x3 + x0) (x4 + x2) (x3 + x5 + x2) (x4 + x5 + x0)
  have q2 := @sn_m5_le x2 (x5 + x0) (x4 + x1) (x5 + x3 + x1) (x4 + x3 + x0)
  have q3 := @sn_m5_le x3 (x0 + x1) (x5 + x4) (x0 + x2 + x4) (x5 + x2 + x1)
  have q4 := @sn_m5_le x4 (x1 + x2) (x3 + x5) (x1 + x0 + x5) (x3 + x0 + x2)
  have q5 := @sn_m5_le x5 (x3 + x4) (x0 + x2) (x0 + x1 + x4) (x3 + x1 + x2)
  have o0 := @sn_m5_or x0 (x3 + x1) (x5 + x2) (x3 + x4 + x2) (x5 + x4 + x1)
  have o1 := @sn_m5_or x1 (x3 + x0) (x4 + x2) (x3 + x5 + x2) (x4 + x5 + x0)
  have o2 := @sn_m5_or x2 (x5 + x0) (x4 + x1) (x5 + x3 + x1) (x4 + x3 + x0)
  have o3 := @sn_m5_or x3 (x0 + x1) (x5 + x4) (x0 + x2 + x4) (x5 + x2 + x1)
  have o4 := @sn_m5_or x4 (x1 + x2) (x3 + x5) (x1 + x0 + x5) (x3 + x0 + x2)
  have o5 := @sn_m5_or x5 (x3 + x4) (x0 + x2) (x0 + x1 + x4) (x3 + x1 + x2)
  intro i j k hi hj hk
  refine key _ _ _ _ _ _ hb ⟨?_, ?_, ?_, ?_, ?_, ?_, ?_, ?_, ?_, ?_, ?_, ?_⟩ i hi j hj k hk
  · simp only [sn_d0, sn_d3, sn_d1]; clear q1 q2 q3 q4 q5 o0 o2 o4 o5; rcases o3 with o3 | o3 | o3 | o3 | o3 <;> rcases o1 with o1 | o1 | o1 | o1 | o1 <;> omega
  · simp only [sn_d0, sn_d5, sn_d2]; clear q1 q2 q3 q4 q5 o0 o1 o3 o4; rcases o5 with o5 | o5 | o5 | o5 | o5 <;> rcases o2 with o2 | o2 | o2 | o2 | o2 <;> omega
  · simp only [sn_d1, sn_d3, sn_d0]; clear q0 q2 q3 q4 q5 o1 o2 o4 o5; rcases o3 with o3 | o3 | o3 | o3 | o3 <;> rcases o0 with o0 | o0 | o0 | o0 | o0 <;> omega
  · simp only [sn_d1, sn_d4, sn_d2]; clear q0 q2 q3 q4 q5 o0 o1 o3 o5; rcases o4 with o4 | o4 | o4 | o4 | o4 <;> rcases o2 with o2 | o2 | o2 | o2 | o2 <;> omega
  · simp only [sn_d2, sn_d5, sn_d0]; clear q0 q1 q3 q4 q5 o1 o2 o3 o4; rcases o5 with o5 | o5 | o5 | o5 | o5 <;> rcases o0 with o0 | o0 | o0 | o0 | o0 <;> omega
  · simp only [sn_d2, sn_d4, sn_d1]; clear q0 q1 q3 q4 q5 o0 o2 o3 o5; rcases o4 with o4 | o4 | o4 | o4 | o4 <;> rcases o1 with o1 | o1 | o1 | o1 | o1 <;> omega
  · simp only [sn_d3, sn_d0, sn_d1]; clear q0 q1 q2 q4 q5 o2 o3 o4 o5; rcases o0 with o0 | o0 | o0 | o0 | o0 <;> rcases o1 with o1 | o1 | o1 | o1 | o1 <;> omega
  · simp only [sn_d3, sn_d5, sn_d4]; clear q0 q1 q2 q4 q5 o0 o1 o2 o3; rcases o5 with o5 | o5 | o5 | o5 | o5 <;> rcases o4 with o4 | o4 | o4 | o4 | o4 <;> omega
  · simp only [sn_d4, sn_d3, sn_d5]; clear q0 q1 q2 q3 q5 o0 o1 o2 o4; rcases o3 with o3 | o3 | o3 | o3 | o3 <;> rcases o5 with o5 | o5 | o5 | o5 | o5 <;> omega
  · simp only [sn_d4, sn_d1, sn_d2]; clear q0 q1 q2 q3 q5 o0 o3 o4 o5; rcases o1 with o1 | o1 | o1 | o1 | o1 <;> rcases o2 with o2 | o2 | o2 | o2 | o2 <;> omega
  · simp only [sn_d5, sn_d3, sn_d4]; clear q0 q1 q2 q3 q4 o0 o1 o2 o5; rcases o3 with o3 | o3 | o3 | o3 | o3 <;> rcases o4 with o4 | o4 | o4 | o4 | o4 <;> omega
  · simp only [sn_d5, sn_d0, sn_d2]; clear q0 q1 q2 q3 q4 o1 o3 o4 o5; rcases o0 with o0 | o0 | o0 | o0 | o0 <;> rcases o2 with o2 | o2 | o2 | o2 | o2 <;> omega
end
section
/-! pure: the rows of the parts -/
/-- the least at p, over the first k points: what the part at p costs, or at another point and the way to p -/
def sn_lo (D : Nat → Nat → Nat) (R : Nat → Nat) (p : Nat) : Nat → Nat
  | 0 => R p
  | q + 1 => min (sn_lo D R p q) (R q + D q p)
def sn_cl (D : Nat → Nat → Nat) (R : Nat → Nat) (p : Nat) : Nat := sn_lo D R p 7
theorem sn_lo_iff {D : Nat → Nat → Nat} {R : Nat → Nat} {p t : Nat} : ∀ k, t ≤ sn_lo D R p k ↔ (t ≤ R p ∧ ∀ q, q < k → t ≤ R q + D q p) := by
  intro k
  induction k with
  | zero => exact ⟨fun h => ⟨h, fun q hq => absurd hq (by omega)⟩, fun h => h.1⟩
  | succ k ih =>
    rw [sn_lo, sn_lm, ih]
    constructor
    · intro h
      refine ⟨h.1.1, fun q hq => ?_⟩
      by_cases e : q = k
      · rw [e]; exact h.2
      · exact h.1.2 q (by omega)
    · intro h
      exact ⟨⟨h.1, fun q hq => h.2 q (by omega)⟩, h.2 k (by omega)⟩
theorem sn_lo_or {D : Nat → Nat → Nat} {R : Nat → Nat} {p : Nat} : ∀ k, sn_lo D R p k = R p ∨ ∃ q, q < k ∧ sn_lo D R p k = R q + D q p := by
  intro k
  induction k with
  | zero => exact Or.inl rfl
  | succ k ih =>
    have e : sn_lo D R p (k + 1) = min (sn_lo D R p k) (R k + D k p) := rfl
    rcases Nat.le_total (sn_lo D R p k) (R k + D k p) with h | h
    · rw [e, Nat.min_eq_left h]
      rcases ih with h2 | ⟨q, hq, h2⟩
      · exact Or.inl h2
      · exact Or.inr ⟨q, by omega, h2⟩
    · rw [e, Nat.min_eq_right h]
      exact Or.inr ⟨k, by omega, rfl⟩
theorem sn_lo_le {D : Nat → Nat → Nat} {R : Nat → Nat} {p : Nat} (k : Nat) : sn_lo D R p k ≤ R p := ((sn_lo_iff k).mp (Nat.le_refl _)).1
theorem sn_cl_iff {D : Nat → Nat → Nat} {R : Nat → Nat} {p t : Nat} : t ≤ sn_cl D R p ↔ (t ≤ R p ∧ ∀ q, q < 7 → t ≤ R q + D q p) := sn_lo_iff 7
theorem sn_cl_le {D : Nat → Nat → Nat} {R : Nat → Nat} {p : Nat} : sn_cl D R p ≤ R p := sn_lo_le 7
theorem sn_cl_leq {D : Nat → Nat → Nat} {R : Nat → Nat} {p q : Nat} (hq : q < 7) : sn_cl D R p ≤ R q + D q p := ((sn_lo_iff 7).mp (Nat.le_refl _)).2 q hq
/-- the row while it is carried on in place, the points below p done -/
def sn_mx (D : Nat → Nat → Nat) (R : Nat → Nat) (p q : Nat) : Nat := if q < p then sn_cl D R q else R q
theorem sn_mx_le {D : Nat → Nat → Nat} {R : Nat → Nat} {p q : Nat} : sn_mx D R p q ≤ R q := by
  unfold sn_mx
  split
  · exact sn_cl_le
  · exact Nat.le_refl _
theorem sn_mx_cl {D : Nat → Nat → Nat} {R : Nat → Nat} {p : Nat} (hD : sn_tr D) (hp : p < 7) : sn_lo D (sn_mx D R p) p 7 = sn_cl D R p := by
  refine sn_ext fun t => ?_
  rw [sn_lo_iff, sn_cl_iff]
  have e : sn_mx D R p p = R p := by unfold sn_mx; exact if_neg (by omega)
  rw [e]
  constructor
  · intro h
    exact ⟨h.1, fun q hq => Nat.le_trans (h.2 q hq) (Nat.add_le_add_right sn_mx_le _)⟩
  · intro h
    refine ⟨h.1, fun q hq => ?_⟩
    by_cases g : q < p
    · have e2 : sn_mx D R p q = sn_cl D R q := if_pos g
      rw [e2]
      rcases sn_lo_or (D := D) (R := R) (p := q) 7 with z | ⟨r, hr, z⟩
      · show t ≤ sn_lo D R q 7 + D q p
        rw [z]
        exact h.2 q hq
      · show t ≤ sn_lo D R q 7 + D q p
        rw [z]
        have h1 := h.2 r hr
        have h2 := hD r q p hr hq hp
        omega
    · have e2 : sn_mx D R p q = R q := if_neg g
      rw [e2]
      exact h.2 q hq
/-- what startPart lays: all far, but nothing at the wanted point whose set this is -/
def sn_sr (w : Nat → Nat) (s : Nat) : Nat → Nat → Nat
  | 0 => fun _ => 100000
  | k + 1 => fun p => if s = 2 ^ k ∧ p = w k then 0 else sn_sr w s k p
theorem sn_sr_le {w : Nat → Nat} {s : Nat} : ∀ k p, sn_sr w s k p ≤ 100000 := by
  intro k
  induction k with
  | zero => exact fun p => Nat.le_refl _
  | succ k ih =>
    intro p
    show (if s = 2 ^ k ∧ p = w k then 0 else sn_sr w s k p) ≤ 100000
    split
    · omega
    · exact ih p
/-- what joinParts makes of the row R of the set s, the halves below h done -/
def sn_jn (P : Nat → Nat → Nat) (R : Nat → Nat) (s : Nat) : Nat → Nat → Nat
  | 0 => R
  | h + 1 => fun p => if 1 ≤ h ∧ h &&& s = h then min (sn_jn P R s h p) (P h p + P (s - h) p) else sn_jn P R s h p
theorem sn_jn_le {P : Nat → Nat → Nat} {R : Nat → Nat} {s : Nat} : ∀ h p, sn_jn P R s h p ≤ R p := by
  intro h
  induction h with
  | zero => exact fun p => Nat.le_refl _
  | succ h ih =>
    intro p
    show (if 1 ≤ h ∧ h &&& s = h then min (sn_jn P R s h p) (P h p + P (s - h) p) else sn_jn P R s h p) ≤ R p
    split
    · exact Nat.le_trans (Nat.min_le_left _ _) (ih p)
    · exact ih p
/-- a wanted point's own row, carried on, is the table's row -/
theorem sn_pt {D : Nat → Nat → Nat} {R : Nat → Nat} {v p : Nat} (hD : sn_bd D) (hv : v < 7) (hp : p < 7) (hR : ∀ q, q < 7 → R q = if q = v then 0 else 100000) : sn_cl D R p = D v p := by
  refine sn_ext fun t => ?_
  rw [sn_cl_iff]
  constructor
  · intro h
    have h1 := h.2 v hv
    rw [hR v hv, if_pos rfl] at h1
    omega
  · intro h
    have hb := hD.1 v p hv hp
    refine ⟨?_, fun q hq => ?_⟩
    · rw [hR p hp]
      split
      · next e =>
        rw [e, hD.2 v hv] at h
        exact h
      · omega
    · rw [hR q hq]
      split
      · next e =>
        rw [e]
        omega
      · omega
theorem sn_cl_cg {D : Nat → Nat → Nat} {R R' : Nat → Nat} {p : Nat} (hp : p < 7) (h : ∀ q, q < 7 → R q = R' q) : sn_cl D R p = sn_cl D R' p := by
  refine sn_ext fun t => ?_
  rw [sn_cl_iff, sn_cl_iff, h p hp]
  constructor
  · intro z
    exact ⟨z.1, fun q hq => by rw [← h q hq]; exact z.2 q hq⟩
  · intro z
    exact ⟨z.1, fun q hq => by rw [h q hq]; exact z.2 q hq⟩
/-! the parts of up to three wanted points, by their sets 1 .. 7 -/
def sn_q2 (D : Nat → Nat → Nat) (u v : Nat) (p : Nat) : Nat := sn_cl D (fun q => min 100000 (D u q + D v q)) p
def sn_q3 (D : Nat → Nat → Nat) (p : Nat) : Nat := sn_cl D (fun q => min 100000 (min (D 0 q + sn_q2 D 1 2 q) (min (D 1 q + sn_q2 D 0 2 q) (sn_q2 D 0 1 q + D 2 q)))) p
def sn_P (D : Nat → Nat → Nat) (w : Nat → Nat) (s p : Nat) : Nat := if s = 1 then D (w 0) p else if s = 2 then D (w 1) p else if s = 3 then sn_q2 D (w 0) (w 1) p else if s = 4 then D (w 2) p else if s = 5 then sn_q2 D (w 0) (w 2) p else if s = 6 then sn_q2 D (w 1) (w 2) p else sn_q3 D p
theorem sn_P_e1 {D : Nat → Nat → Nat} {w : Nat → Nat} {p : Nat} : sn_P D w 1 p = D (w 0) p := by simp [sn_P]
theorem sn_P_e2 {D : Nat → Nat → Nat} {w : Nat → Nat} {p : Nat} : sn_P D w 2 p = D (w 1) p := by simp [sn_P]
theorem sn_P_e3 {D : Nat → Nat → Nat} {w : Nat → Nat} {p : Nat} : sn_P D w 3 p = sn_q2 D (w 0) (w 1) p := by simp [sn_P]
theorem sn_P_e4 {D : Nat → Nat → Nat} {w : Nat → Nat} {p : Nat} : sn_P D w 4 p = D (w 2) p := by simp [sn_P]
theorem sn_P_e5 {D : Nat → Nat → Nat} {w : Nat → Nat} {p : Nat} : sn_P D w 5 p = sn_q2 D (w 0) (w 2) p := by simp [sn_P]
theorem sn_P_e6 {D : Nat → Nat → Nat} {w : Nat → Nat} {p : Nat} : sn_P D w 6 p = sn_q2 D (w 1) (w 2) p := by simp [sn_P]
theorem sn_P_e7 {D : Nat → Nat → Nat} {w : Nat → Nat} {p : Nat} : sn_P D w 7 p = sn_q3 D p := by simp [sn_P]
theorem sn_P_le {D : Nat → Nat → Nat} {w : Nat → Nat} (hD : sn_bd D) (hw : ∀ k, k < 3 → w k < 7) : ∀ s p, s < 8 → p < 7 → sn_P D w s p ≤ 100000 := by
  have q : ∀ u v p, sn_q2 D u v p ≤ 100000 := fun u v p => Nat.le_trans sn_cl_le (Nat.min_le_left _ _)
  have q3 : ∀ p, sn_q3 D p ≤ 100000 := fun p => Nat.le_trans sn_cl_le (Nat.min_le_left _ _)
  intro s p hs hp
  have e : s = 0 ∨ s = 1 ∨ s = 2 ∨ s = 3 ∨ s = 4 ∨ s = 5 ∨ s = 6 ∨ s = 7 := by omega
  rcases e with e | e | e | e | e | e | e | e <;> subst e
  · have z : sn_P D w 0 p = sn_q3 D p := by simp [sn_P]
    rw [z]
    exact q3 p
  · rw [sn_P_e1]
    exact hD.1 _ _ (hw 0 (by omega)) hp
  · rw [sn_P_e2]
    exact hD.1 _ _ (hw 1 (by omega)) hp
  · rw [sn_P_e3]
    exact q _ _ p
  · rw [sn_P_e4]
    exact hD.1 _ _ (hw 2 (by omega)) hp
  · rw [sn_P_e5]
    exact q _ _ p
  · rw [sn_P_e6]
    exact q _ _ p
  · rw [sn_P_e7]
    exact q3 p
/-- each set's row is what the three steps make of it: the wanted points are 0, 1, 2 (or two, or one of them) -/
theorem sn_P_1 {D : Nat → Nat → Nat} {w : Nat → Nat} (hD : sn_bd D) (hw : w 0 < 7) {v : Nat} (hv : v = 1 ∨ v = 2 ∨ v = 3) {p : Nat} (hp : p < 7) : sn_P D w 1 p = sn_cl D (sn_jn (sn_P D w) (sn_sr w 1 v) 1 1) p := by
  rw [sn_P_e1]
  refine (sn_pt hD hw hp fun q hq => ?_).symm
  rcases hv with e | e | e <;> subst e <;> simp [sn_jn, sn_sr]
theorem sn_P_2 {D : Nat → Nat → Nat} {w : Nat → Nat} (hD : sn_bd D) (hw : w 1 < 7) {v : Nat} (hv : v = 2 ∨ v = 3) {p : Nat} (hp : p < 7) : sn_P D w 2 p = sn_cl D (sn_jn (sn_P D w) (sn_sr w 2 v) 2 2) p := by
  rw [sn_P_e2]
  refine (sn_pt hD hw hp fun q hq => ?_).symm
  rcases hv with e | e <;> subst e <;> simp [sn_jn, sn_sr]
theorem sn_P_3 {D : Nat → Nat → Nat} {w : Nat → Nat} {v : Nat} (hv : v = 2 ∨ v = 3) {p : Nat} (hp : p < 7) : sn_P D w 3 p = sn_cl D (sn_jn (sn_P D w) (sn_sr w 3 v) 3 3) p := by
  rw [sn_P_e3]
  unfold sn_q2
  refine sn_cl_cg hp fun q hq => ?_
  rcases hv with e | e <;> subst e <;> simp [sn_jn, sn_sr, sn_P_e1, sn_P_e2, sn_P_e3, sn_P_e4, sn_P_e5, sn_P_e6] <;> omega
theorem sn_P_4 {D : Nat → Nat → Nat} {w : Nat → Nat} (hD : sn_bd D) (hw : w 2 < 7) {p : Nat} (hp : p < 7) : sn_P D w 4 p = sn_cl D (sn_jn (sn_P D w) (sn_sr w 4 3) 4 4) p := by
  rw [sn_P_e4]
  refine (sn_pt hD hw hp fun q hq => ?_).symm
  simp [sn_jn, sn_sr]
theorem sn_P_5 {D : Nat → Nat → Nat} {w : Nat → Nat} {p : Nat} (hp : p < 7) : sn_P D w 5 p = sn_cl D (sn_jn (sn_P D w) (sn_sr w 5 3) 5 5) p := by
  rw [sn_P_e5]
  unfold sn_q2
  refine sn_cl_cg hp fun q hq => ?_
  simp [sn_jn, sn_sr, sn_P_e1, sn_P_e2, sn_P_e3, sn_P_e4, sn_P_e5, sn_P_e6] <;> omega
theorem sn_P_6 {D : Nat → Nat → Nat} {w : Nat → Nat} {p : Nat} (hp : p < 7) : sn_P D w 6 p = sn_cl D (sn_jn (sn_P D w) (sn_sr w 6 3) 6 6) p := by
  rw [sn_P_e6]
  unfold sn_q2
  refine sn_cl_cg hp fun q hq => ?_
  simp [sn_jn, sn_sr, sn_P_e1, sn_P_e2, sn_P_e3, sn_P_e4, sn_P_e5, sn_P_e6] <;> omega
theorem sn_P_7 {D : Nat → Nat → Nat} {w : Nat → Nat} (h0 : w 0 = 0) (h1 : w 1 = 1) (h2 : w 2 = 2) {p : Nat} (hp : p < 7) : sn_P D w 7 p = sn_cl D (sn_jn (sn_P D w) (sn_sr w 7 3) 7 7) p := by
  rw [sn_P_e7]
  unfold sn_q3
  refine sn_cl_cg hp fun q hq => ?_
  simp [sn_jn, sn_sr, sn_P_e1, sn_P_e2, sn_P_e3, sn_P_e4, sn_P_e5, sn_P_e6, h0, h1, h2] <;> omega
/-- the rows of all sets below 2^v -/
theorem sn_P_all {D : Nat → Nat → Nat} {w : Nat → Nat} (hD : sn_bd D) {v : Nat} (hv : v = 1 ∨ v = 2 ∨ v = 3) (hw : ∀ k, k < v → w k < 7) (h3 : v = 3 → w 0 = 0 ∧ w 1 = 1 ∧ w 2 = 2) : ∀ s, 1 ≤ s → s < 2 ^ v → ∀ p, p < 7 → sn_P D w s p = sn_cl D (sn_jn (sn_P D w) (sn_sr w s v) s s) p := by
  intro s hs1 hs2 p hp
  have w0 : w 0 < 7 := hw 0 (by omega)
  rcases hv with e | e | e <;> subst e
  · have e : s = 1 := by omega
    subst e
    exact sn_P_1 hD w0 (by omega) hp
  · have e : s = 1 ∨ s = 2 ∨ s = 3 := by omega
    rcases e with e | e | e <;> subst e
    · exact sn_P_1 hD w0 (by omega) hp
    · exact sn_P_2 hD (hw 1 (by omega)) (by omega) hp
    · exact sn_P_3 (by omega) hp
  · have e : s = 1 ∨ s = 2 ∨ s = 3 ∨ s = 4 ∨ s = 5 ∨ s = 6 ∨ s = 7 := by omega
    obtain ⟨g0, g1, g2⟩ := h3 rfl
    rcases e with e | e | e | e | e | e | e <;> subst e
    · exact sn_P_1 hD w0 (by omega) hp
    · exact sn_P_2 hD (hw 1 (by omega)) (by omega) hp
    · exact sn_P_3 (by omega) hp
    · exact sn_P_4 hD (hw 2 (by omega)) hp
    · exact sn_P_5 hp
    · exact sn_P_6 hp
    · exact sn_P_7 g0 g1 g2 hp
end
section
/-! pure: what the parts answer on the four points -/
/-- the ten trees over the points 0, 1, 2 -/
def sn_M (x0 x1 x2 x3 x4 x5 : Nat) : Nat := min (x0 + x1 + x2) (min (x3 + x4) (min (x4 + x5) (min (x3 + x5) (min (x3 + x0 + x2) (min (x3 + x1 + x2) (min (x4 + x0 + x1) (min (x4 + x0 + x2) (min (x5 + x0 + x1) (x5 + x1 + x2)))))))))
def sn_T (x0 x1 x2 x3 x4 x5 : Nat) : Nat := min 100000 (sn_M x0 x1 x2 x3 x4 x5)
theorem sn_T_iff {t x0 x1 x2 x3 x4 x5 : Nat} : t ≤ sn_T x0 x1 x2 x3 x4 x5 ↔ t ≤ 100000 ∧ t ≤ x0 + x1 + x2 ∧ t ≤ x3 + x4 ∧ t ≤ x4 + x5 ∧ t ≤ x3 + x5 ∧ t ≤ x3 + x0 + x2 ∧ t ≤ x3 + x1 + x2 ∧ t ≤ x4 + x0 + x1 ∧ t ≤ x4 + x0 + x2 ∧ t ≤ x5 + x0 + x1 ∧ t ≤ x5 + x1 + x2 := by
  unfold sn_T sn_M
  simp only [sn_lm]
theorem sn_cl7 {D : Nat → Nat → Nat} {R : Nat → Nat} {p t : Nat} : t ≤ sn_cl D R p ↔ (t ≤ R p ∧ t ≤ R 0 + D 0 p ∧ t ≤ R 1 + D 1 p ∧ t ≤ R 2 + D 2 p ∧ t ≤ R 3 + D 3 p ∧ t ≤ R 4 + D 4 p ∧ t ≤ R 5 + D 5 p ∧ t ≤ R 6 + D 6 p) := by
  rw [sn_cl_iff]
  constructor
  · intro h
    exact ⟨h.1, h.2 0 (by omega), h.2 1 (by omega), h.2 2 (by omega), h.2 3 (by omega), h.2 4 (by omega), h.2 5 (by omega), h.2 6 (by omega)⟩
  · intro ⟨h, h0, h1, h2, h3, h4, h5, h6⟩
    exact ⟨h, sn_c7 h0 h1 h2 h3 h4 h5 h6⟩
theorem sn_q2_iff {d0 d1 d2 d3 d4 d5 t : Nat} (h : sn_x6 d0 d1 d2 d3 d4 d5) : t ≤ sn_q2 (sn_km d0 d1 d2 d3 d4 d5) 0 1 2 ↔ t ≤ 100000 ∧ t ≤ d3 + d5 ∧ t ≤ d3 + d4 ∧ t ≤ d5 + d4 ∧ t ≤ d0 + d1 + d2 := by
  obtain ⟨h0, h1, h2, h3, h4, h5⟩ := h
  unfold sn_q2
  rw [sn_cl7]
  simp only [sn_km, sn_lm, sn_e1, sn_e2]
  constructor
  · intro z
    omega
  · intro z
    simp
    omega
theorem sn_T_eq {x0 x1 x2 x3 x4 x5 : Nat} (h : sn_x6 x0 x1 x2 x3 x4 x5) : sn_q2 (sn_dm x0 x1 x2 x3 x4 x5) 0 1 2 = sn_T x0 x1 x2 x3 x4 x5 := by
  refine sn_ext fun t => ?_
  unfold sn_dm
  rw [sn_q2_iff (sn_dm_x6 h), sn_T_iff]
  constructor
  · intro ⟨z, z1, z2, z3, z4⟩
    have q0 : sn_d0 x0 x1 x2 x3 x4 x5 ≤ _ ∧ _ := @sn_m5_le x0 (x3 + x1) (x5 + x2) (x3 + x4 + x2) (x5 + x4 + x1)
    have q1 : sn_d1 x0 x1 x2 x3 x4 x5 ≤ _ ∧ _ := @sn_m5_le x1 (x3 + x0) (x4 + x2) (x3 + x5 + x2) (x4 + x5 + x0)
    have q2 : sn_d2 x0 x1 x2 x3 x4 x5 ≤ _ ∧ _ := @sn_m5_le x2 (x5 + x0) (x4 + x1) (x5 + x3 + x1) (x4 + x3 + x0)
    have q3 : sn_d3 x0 x1 x2 x3 x4 x5 ≤ x3 ∧ sn_d3 x0 x1 x2 x3 x4 x5 ≤ x0 + x1 ∧ _ := @sn_m5_le x3 (x0 + x1) (x5 + x4) (x0 + x2 + x4) (x5 + x2 + x1)
    have q4 : sn_d4 x0 x1 x2 x3 x4 x5 ≤ x4 ∧ sn_d4 x0 x1 x2 x3 x4 x5 ≤ x1 + x2 ∧ _ := @sn_m5_le x4 (x1 + x2) (x3 + x5) (x1 + x0 + x5) (x3 + x0 + x2)
    have q5 : sn_d5 x0 x1 x2 x3 x4 x5 ≤ x5 ∧ _ ∧ sn_d5 x0 x1 x2 x3 x4 x5 ≤ x0 + x2 ∧ _ := @sn_m5_le x5 (x3 + x4) (x0 + x2) (x0 + x1 + x4) (x3 + x1 + x2)
    have r0 := q0.1
    have r1 := q1.1
    have r2 := q2.1
    have r3 := q3.1
    have r4 := q4.1
    have r5 := q5.1
    have s3 := q3.2.1
    have s4 := q4.2.1
    have s5 := q5.2.2.1
    clear q0 q1 q2 q3 q4 q5
    generalize sn_d0 x0 x1 x2 x3 x4 x5 = d0 at *
    generalize sn_d1 x0 x1 x2 x3 x4 x5 = d1 at *
    generalize sn_d2 x0 x1 x2 x3 x4 x5 = d2 at *
    generalize sn_d3 x0 x1 x2 x3 x4 x5 = d3 at *
    generalize sn_d4 x0 x1 x2 x3 x4 x5 = d4 at *
    generalize sn_d5 x0 x1 x2 x3 x4 x5 = d5 at *
    refine ⟨?_, ?_, ?_, ?_, ?_, ?_, ?_, ?_, ?_, ?_, ?_⟩ <;> omega
  · intro ⟨z, z1, z2, z3, z4, z5, z6, z7, z8, z9, z10⟩
    simp only [sn_d0, sn_d1, sn_d2, sn_d3, sn_d4, sn_d5, sn_m5, sn_e1, sn_e2, sn_lm]
    repeat' apply And.intro
    all_goals omega
/-! four wanted points on the star -/
theorem sn_star_d {a b c : Nat} (ha : a ≤ 100) (hb : b ≤ 100) (hc : c ≤ 100) : sn_dm a b c 100000 100000 100000 = sn_km a b c (a + b) (b + c) (a + c) := by
  have e0 : sn_d0 a b c 100000 100000 100000 = a := by unfold sn_d0 sn_m5; omega
  have e1 : sn_d1 a b c 100000 100000 100000 = b := by unfold sn_d1 sn_m5; omega
  have e2 : sn_d2 a b c 100000 100000 100000 = c := by unfold sn_d2 sn_m5; omega
  have e3 : sn_d3 a b c 100000 100000 100000 = a + b := by unfold sn_d3 sn_m5; omega
  have e4 : sn_d4 a b c 100000 100000 100000 = b + c := by unfold sn_d4 sn_m5; omega
  have e5 : sn_d5 a b c 100000 100000 100000 = a + c := by unfold sn_d5 sn_m5; omega
  unfold sn_dm
  rw [e0, e1, e2, e3, e4, e5]
theorem sn_q2_ge {D : Nat → Nat → Nat} {u v q t : Nat} (hD : sn_bd D) (hq : q < 7) (h0 : t ≤ 100000) (h : ∀ r, r < 7 → t ≤ D u r + D v r + D r q) : t ≤ sn_q2 D u v q := by
  unfold sn_q2
  rw [sn_cl_iff]
  refine ⟨?_, fun r hr => ?_⟩
  · have h1 := h q hq
    rw [hD.2 q hq] at h1
    exact sn_lm.mpr ⟨h0, by omega⟩
  · have h1 := h r hr
    have h2 : min 100000 (D u r + D v r) + D r q = min (100000 + D r q) (D u r + D v r + D r q) := sn_e1
    show t ≤ min 100000 (D u r + D v r) + D r q
    rw [h2]
    exact sn_lm.mpr ⟨by omega, h1⟩
theorem sn_star_bd {a b c : Nat} (ha : a ≤ 100) (hb : b ≤ 100) (hc : c ≤ 100) : sn_bd (sn_km a b c (a + b) (b + c) (a + c)) := sn_km_bd ⟨by omega, by omega, by omega, by omega, by omega, by omega⟩
theorem sn_star_12 {a b c : Nat} (ha : a ≤ 100) (hb : b ≤ 100) (hc : c ≤ 100) : a + b + c ≤ sn_q2 (sn_km a b c (a + b) (b + c) (a + c)) 1 2 0 ∧ b + c ≤ sn_q2 (sn_km a b c (a + b) (b + c) (a + c)) 1 2 1 ∧ b + c ≤ sn_q2 (sn_km a b c (a + b) (b + c) (a + c)) 1 2 2 ∧ b + c ≤ sn_q2 (sn_km a b c (a + b) (b + c) (a + c)) 1 2 3 := by
  have hD := sn_star_bd ha hb hc
  refine ⟨sn_q2_ge hD (by omega) (by omega) ?_, sn_q2_ge hD (by omega) (by omega) ?_, sn_q2_ge hD (by omega) (by omega) ?_, sn_q2_ge hD (by omega) (by omega) ?_⟩
  all_goals (refine sn_c7 ?_ ?_ ?_ ?_ ?_ ?_ ?_ <;> (simp [sn_km] <;> omega))
theorem sn_star_02 {a b c : Nat} (ha : a ≤ 100) (hb : b ≤ 100) (hc : c ≤ 100) : a + c ≤ sn_q2 (sn_km a b c (a + b) (b + c) (a + c)) 0 2 0 ∧ a + b + c ≤ sn_q2 (sn_km a b c (a + b) (b + c) (a + c)) 0 2 1 ∧ a + c ≤ sn_q2 (sn_km a b c (a + b) (b + c) (a + c)) 0 2 2 ∧ a + c ≤ sn_q2 (sn_km a b c (a + b) (b + c) (a + c)) 0 2 3 := by
  have hD := sn_star_bd ha hb hc
  refine ⟨sn_q2_ge hD (by omega) (by omega) ?_, sn_q2_ge hD (by omega) (by omega) ?_, sn_q2_ge hD (by omega) (by omega) ?_, sn_q2_ge hD (by omega) (by omega) ?_⟩
  all_goals (refine sn_c7 ?_ ?_ ?_ ?_ ?_ ?_ ?_ <;> (simp [sn_km] <;> omega))
theorem sn_star_01 {a b c : Nat} (ha : a ≤ 100) (hb : b ≤ 100) (hc : c ≤ 100) : a + b ≤ sn_q2 (sn_km a b c (a + b) (b + c) (a + c)) 0 1 0 ∧ a + b ≤ sn_q2 (sn_km a b c (a + b) (b + c) (a + c)) 0 1 1 ∧ a + b + c ≤ sn_q2 (sn_km a b c (a + b) (b + c) (a + c)) 0 1 2 ∧ a + b ≤ sn_q2 (sn_km a b c (a + b) (b + c) (a + c)) 0 1 3 := by
  have hD := sn_star_bd ha hb hc
  refine ⟨sn_q2_ge hD (by omega) (by omega) ?_, sn_q2_ge hD (by omega) (by omega) ?_, sn_q2_ge hD (by omega) (by omega) ?_, sn_q2_ge hD (by omega) (by omega) ?_⟩
  all_goals (refine sn_c7 ?_ ?_ ?_ ?_ ?_ ?_ ?_ <;> (simp [sn_km] <;> omega))
/-- three halves at a point: the least of them, or far -/
theorem sn_q3_ge {D : Nat → Nat → Nat} {q t : Nat} (hD : sn_bd D) (hq : q < 7) (h0 : t ≤ 100000) (h : ∀ r, r < 7 → 100000 ≤ D r q ∨ (t ≤ D 0 r + sn_q2 D 1 2 r + D r q ∧ t ≤ D 1 r + sn_q2 D 0 2 r + D r q ∧ t ≤ sn_q2 D 0 1 r + D 2 r + D r q)) : t ≤ sn_q3 D q := by
  have key : ∀ x y z w : Nat, (100000 ≤ w ∨ (t ≤ x + w ∧ t ≤ y + w ∧ t ≤ z + w)) → t ≤ min 100000 (min x (min y z)) + w := by
    intro x y z w h
    omega
  unfold sn_q3
  rw [sn_cl_iff]
  refine ⟨?_, fun r hr => key _ _ _ _ (h r hr)⟩
  have h1 := key _ _ _ _ (h q hq)
  rw [hD.2 q hq, Nat.add_zero] at h1
  exact h1
theorem sn_star {a b c : Nat} (ha : a ≤ 100) (hb : b ≤ 100) (hc : c ≤ 100) : sn_q3 (sn_dm a b c 100000 100000 100000) 3 = a + b + c := by
  rw [sn_star_d ha hb hc]
  obtain ⟨a0, a1, a2, a3⟩ := sn_star_12 ha hb hc
  obtain ⟨b0, b1, b2, b3⟩ := sn_star_02 ha hb hc
  obtain ⟨c0, c1, c2, c3⟩ := sn_star_01 ha hb hc
  have l12 : sn_q2 (sn_km a b c (a + b) (b + c) (a + c)) 1 2 3 ≤ b + c := Nat.le_trans sn_cl_le (Nat.min_le_right _ _)
  refine Nat.le_antisymm ?_ ?_
  · refine Nat.le_trans (Nat.le_trans sn_cl_le (Nat.le_trans (Nat.min_le_right _ _) (Nat.min_le_left _ _))) ?_
    have e : sn_km a b c (a + b) (b + c) (a + c) 0 3 = a := rfl
    rw [e]
    omega
  · refine sn_q3_ge (sn_star_bd ha hb hc) (by omega) (by omega) (sn_c7 (Or.inr ?_) (Or.inr ?_) (Or.inr ?_) (Or.inr ?_) (Or.inl (Nat.le_refl _)) (Or.inl (Nat.le_refl _)) (Or.inl (Nat.le_refl _)))
    · simp only [sn_km]
      omega
    · simp only [sn_km]
      omega
    · simp only [sn_km]
      omega
    · simp only [sn_km]
      omega
/-- the point 4 is out of reach -/
theorem sn_far4 {d0 d1 d2 d3 d4 d5 : Nat} (h : sn_x6 d0 d1 d2 d3 d4 d5) : 100000 ≤ sn_q3 (sn_km d0 d1 d2 d3 d4 d5) 4 := by
  have e0 : sn_km d0 d1 d2 d3 d4 d5 0 4 = 100000 := rfl
  have e1 : sn_km d0 d1 d2 d3 d4 d5 1 4 = 100000 := rfl
  have e2 : sn_km d0 d1 d2 d3 d4 d5 2 4 = 100000 := rfl
  have e4 : sn_km d0 d1 d2 d3 d4 d5 4 4 = 0 := rfl
  refine sn_q3_ge (sn_km_bd h) (by omega) (Nat.le_refl _) (sn_c7 (Or.inl (Nat.le_refl _)) (Or.inl (Nat.le_refl _)) (Or.inl (Nat.le_refl _)) (Or.inl (Nat.le_refl _)) (Or.inr ?_) (Or.inl (Nat.le_refl _)) (Or.inl (Nat.le_refl _)))
  rw [e0, e1, e2, e4]
  omega
/-! in each price the answer is the less of a constant and a sum -/
def sn_up (C : Nat → Nat) (k v : Nat) : Nat → Nat := fun j => if j = k then v else C j
def sn_TC (C : Nat → Nat) : Nat := sn_T (C 0) (C 1) (C 2) (C 3) (C 4) (C 5)
theorem sn_T_s0 {x0 x1 x2 x3 x4 x5 v : Nat} : sn_T v x1 x2 x3 x4 x5 = min (min 100000 (min (x3 + x4) (min (x4 + x5) (min (x3 + x5) (min (x3 + x1 + x2) (x5 + x1 + x2)))))) (min (x1 + x2) (min (x3 + x2) (min (x4 + x1) (min (x4 + x2) (x5 + x1)))) + v) := by
  refine sn_ext fun t => ?_
  rw [sn_T_iff]
  simp only [sn_e1, sn_lm]
  constructor
  · intro h
    repeat' apply And.intro
    all_goals omega
  · intro h
    repeat' apply And.intro
    all_goals omega
theorem sn_T_s1 {x0 x1 x2 x3 x4 x5 v : Nat} : sn_T x0 v x2 x3 x4 x5 = min (min 100000 (min (x3 + x4) (min (x4 + x5) (min (x3 + x5) (min (x3 + x0 + x2) (x4 + x0 + x2)))))) (min (x0 + x2) (min (x3 + x2) (min (x4 + x0) (min (x5 + x0) (x5 + x2)))) + v) := by
  refine sn_ext fun t => ?_
  rw [sn_T_iff]
  simp only [sn_e1, sn_lm]
  constructor
  · intro h
    repeat' apply And.intro
    all_goals omega
  · intro h
    repeat' apply And.intro
    all_goals omega
theorem sn_T_s2 {x0 x1 x2 x3 x4 x5 v : Nat} : sn_T x0 x1 v x3 x4 x5 = min (min 100000 (min (x3 + x4) (min (x4 + x5) (min (x3 + x5) (min (x4 + x0 + x1) (x5 + x0 + x1)))))) (min (x0 + x1) (min (x3 + x0) (min (x3 + x1) (min (x4 + x0) (x5 + x1)))) + v) := by
  refine sn_ext fun t => ?_
  rw [sn_T_iff]
  simp only [sn_e1, sn_lm]
  constructor
  · intro h
    repeat' apply And.intro
    all_goals omega
  · intro h
    repeat' apply And.intro
    all_goals omega
theorem sn_T_s3 {x0 x1 x2 x3 x4 x5 v : Nat} : sn_T x0 x1 x2 v x4 x5 = min (min 100000 (min (x0 + x1 + x2) (min (x4 + x5) (min (x4 + x0 + x1) (min (x4 + x0 + x2) (min (x5 + x0 + x1) (x5 + x1 + x2))))))) (min x4 (min x5 (min (x0 + x2) (x1 + x2))) + v) := by
  refine sn_ext fun t => ?_
  rw [sn_T_iff]
  simp only [sn_e1, sn_lm]
  constructor
  · intro h
    repeat' apply And.intro
    all_goals omega
  · intro h
    repeat' apply And.intro
    all_goals omega
theorem sn_T_s4 {x0 x1 x2 x3 x4 x5 v : Nat} : sn_T x0 x1 x2 x3 v x5 = min (min 100000 (min (x0 + x1 + x2) (min (x3 + x5) (min (x3 + x0 + x2) (min (x3 + x1 + x2) (min (x5 + x0 + x1) (x5 + x1 + x2))))))) (min x3 (min x5 (min (x0 + x1) (x0 + x2))) + v) := by
  refine sn_ext fun t => ?_
  rw [sn_T_iff]
  simp only [sn_e1, sn_lm]
  constructor
  · intro h
    repeat' apply And.intro
    all_goals omega
  · intro h
    repeat' apply And.intro
    all_goals omega
theorem sn_T_s5 {x0 x1 x2 x3 x4 x5 v : Nat} : sn_T x0 x1 x2 x3 x4 v = min (min 100000 (min (x0 + x1 + x2) (min (x3 + x4) (min (x3 + x0 + x2) (min (x3 + x1 + x2) (min (x4 + x0 + x1) (x4 + x0 + x2))))))) (min x4 (min x3 (min (x0 + x1) (x1 + x2))) + v) := by
  refine sn_ext fun t => ?_
  rw [sn_T_iff]
  simp only [sn_e1, sn_lm]
  constructor
  · intro h
    repeat' apply And.intro
    all_goals omega
  · intro h
    repeat' apply And.intro
    all_goals omega
theorem sn_TC_slope (C : Nat → Nat) : ∀ k, k < 6 → ∃ A B, ∀ v, sn_TC (sn_up C k v) = min A (B + v) := by
  intro k hk
  have e : k = 0 ∨ k = 1 ∨ k = 2 ∨ k = 3 ∨ k = 4 ∨ k = 5 := by omega
  rcases e with e | e | e | e | e | e <;> subst e
  · exact ⟨_, _, fun v => sn_T_s0 (x0 := C 0) (x1 := C 1) (x2 := C 2) (x3 := C 3) (x4 := C 4) (x5 := C 5) (v := v)⟩
  · exact ⟨_, _, fun v => sn_T_s1 (x0 := C 0) (x1 := C 1) (x2 := C 2) (x3 := C 3) (x4 := C 4) (x5 := C 5) (v := v)⟩
  · exact ⟨_, _, fun v => sn_T_s2 (x0 := C 0) (x1 := C 1) (x2 := C 2) (x3 := C 3) (x4 := C 4) (x5 := C 5) (v := v)⟩
  · exact ⟨_, _, fun v => sn_T_s3 (x0 := C 0) (x1 := C 1) (x2 := C 2) (x3 := C 3) (x4 := C 4) (x5 := C 5) (v := v)⟩
  · exact ⟨_, _, fun v => sn_T_s4 (x0 := C 0) (x1 := C 1) (x2 := C 2) (x3 := C 3) (x4 := C 4) (x5 := C 5) (v := v)⟩
  · exact ⟨_, _, fun v => sn_T_s5 (x0 := C 0) (x1 := C 1) (x2 := C 2) (x3 := C 3) (x4 := C 4) (x5 := C 5) (v := v)⟩
theorem sn_TC_le (C : Nat → Nat) : sn_TC C ≤ 100000 := Nat.min_le_left _ _
theorem sn_up_self (C : Nat → Nat) (k : Nat) : sn_up C k (C k) = C := by
  funext j
  unfold sn_up
  split
  · next e => rw [e]
  · rfl
/-- a line that can't be left out at the same price is in: without its price the rest costs that much less -/
theorem sn_TC_step {C : Nat → Nat} {k : Nat} (hk : k < 6) (hC : C k ≤ 100000) (hL : sn_TC C < 100000) (hn : sn_TC (sn_up C k 100000) ≠ sn_TC C) : sn_TC (sn_up C k 0) + C k = sn_TC C := by
  obtain ⟨A, B, h⟩ := sn_TC_slope C k hk
  have h1 := h (C k)
  rw [sn_up_self] at h1
  have h2 := h 100000
  have h3 := h 0
  omega
/-- when every line is in or out, the rest costs nothing -/
theorem sn_T_end {x0 x1 x2 x3 x4 x5 : Nat} (h0 : x0 = 0 ∨ x0 = 100000) (h1 : x1 = 0 ∨ x1 = 100000) (h2 : x2 = 0 ∨ x2 = 100000) (h3 : x3 = 0 ∨ x3 = 100000) (h4 : x4 = 0 ∨ x4 = 100000) (h5 : x5 = 0 ∨ x5 = 100000) (h : sn_T x0 x1 x2 x3 x4 x5 < 100000) : sn_T x0 x1 x2 x3 x4 x5 = 0 := by
  revert h
  rcases h0 with e | e <;> subst e <;> rcases h1 with e | e <;> subst e <;> rcases h2 with e | e <;> subst e <;> rcases h3 with e | e <;> subst e <;> rcases h4 with e | e <;> subst e <;> rcases h5 with e | e <;> subst e <;> decide
/-! the sum of the lines that are in -/
def sn_sum (P : Nat → Nat) (b : Nat) : Nat := b % 2 * P 0 + b / 2 % 2 * P 1 + b / 4 % 2 * P 2 + b / 8 % 2 * P 3 + b / 16 % 2 * P 4 + b / 32 % 2 * P 5
theorem sn_sum_0 (P : Nat → Nat) : sn_sum P 0 = 0 := by simp [sn_sum]
theorem sn_sum_add {P : Nat → Nat} {b k : Nat} (hk : k < 6) (hb : b % 2 ^ (k + 1) = 0) : sn_sum P (b + 2 ^ k) = sn_sum P b + P k := by
  have e : k = 0 ∨ k = 1 ∨ k = 2 ∨ k = 3 ∨ k = 4 ∨ k = 5 := by omega
  rcases e with e | e | e | e | e | e <;> subst e <;> unfold sn_sum
  · have q0 : (b + 2 ^ 0) % 2 = 1 := by omega
    have r0 : b % 2 = 0 := by omega
    have q1 : (b + 2 ^ 0) / 2 % 2 = b / 2 % 2 := by omega
    have q2 : (b + 2 ^ 0) / 4 % 2 = b / 4 % 2 := by omega
    have q3 : (b + 2 ^ 0) / 8 % 2 = b / 8 % 2 := by omega
    have q4 : (b + 2 ^ 0) / 16 % 2 = b / 16 % 2 := by omega
    have q5 : (b + 2 ^ 0) / 32 % 2 = b / 32 % 2 := by omega
    rw [q0, q1, q2, q3, q4, q5, r0]
    omega
  · have q0 : (b + 2 ^ 1) % 2 = b % 2 := by omega
    have q1 : (b + 2 ^ 1) / 2 % 2 = 1 := by omega
    have r0 : b / 2 % 2 = 0 := by omega
    have q2 : (b + 2 ^ 1) / 4 % 2 = b / 4 % 2 := by omega
    have q3 : (b + 2 ^ 1) / 8 % 2 = b / 8 % 2 := by omega
    have q4 : (b + 2 ^ 1) / 16 % 2 = b / 16 % 2 := by omega
    have q5 : (b + 2 ^ 1) / 32 % 2 = b / 32 % 2 := by omega
    rw [q0, q1, q2, q3, q4, q5, r0]
    omega
  · have q0 : (b + 2 ^ 2) % 2 = b % 2 := by omega
    have q1 : (b + 2 ^ 2) / 2 % 2 = b / 2 % 2 := by omega
    have q2 : (b + 2 ^ 2) / 4 % 2 = 1 := by omega
    have r0 : b / 4 % 2 = 0 := by omega
    have q3 : (b + 2 ^ 2) / 8 % 2 = b / 8 % 2 := by omega
    have q4 : (b + 2 ^ 2) / 16 % 2 = b / 16 % 2 := by omega
    have q5 : (b + 2 ^ 2) / 32 % 2 = b / 32 % 2 := by omega
    rw [q0, q1, q2, q3, q4, q5, r0]
    omega
  · have q0 : (b + 2 ^ 3) % 2 = b % 2 := by omega
    have q1 : (b + 2 ^ 3) / 2 % 2 = b / 2 % 2 := by omega
    have q2 : (b + 2 ^ 3) / 4 % 2 = b / 4 % 2 := by omega
    have q3 : (b + 2 ^ 3) / 8 % 2 = 1 := by omega
    have r0 : b / 8 % 2 = 0 := by omega
    have q4 : (b + 2 ^ 3) / 16 % 2 = b / 16 % 2 := by omega
    have q5 : (b + 2 ^ 3) / 32 % 2 = b / 32 % 2 := by omega
    rw [q0, q1, q2, q3, q4, q5, r0]
    omega
  · have q0 : (b + 2 ^ 4) % 2 = b % 2 := by omega
    have q1 : (b + 2 ^ 4) / 2 % 2 = b / 2 % 2 := by omega
    have q2 : (b + 2 ^ 4) / 4 % 2 = b / 4 % 2 := by omega
    have q3 : (b + 2 ^ 4) / 8 % 2 = b / 8 % 2 := by omega
    have q4 : (b + 2 ^ 4) / 16 % 2 = 1 := by omega
    have r0 : b / 16 % 2 = 0 := by omega
    have q5 : (b + 2 ^ 4) / 32 % 2 = b / 32 % 2 := by omega
    rw [q0, q1, q2, q3, q4, q5, r0]
    omega
  · have q0 : (b + 2 ^ 5) % 2 = b % 2 := by omega
    have q1 : (b + 2 ^ 5) / 2 % 2 = b / 2 % 2 := by omega
    have q2 : (b + 2 ^ 5) / 4 % 2 = b / 4 % 2 := by omega
    have q3 : (b + 2 ^ 5) / 8 % 2 = b / 8 % 2 := by omega
    have q4 : (b + 2 ^ 5) / 16 % 2 = b / 16 % 2 := by omega
    have q5 : (b + 2 ^ 5) / 32 % 2 = 1 := by omega
    have r0 : b / 32 % 2 = 0 := by omega
    rw [q0, q1, q2, q3, q4, q5, r0]
    omega
end
section
/-! the walks: countAll, shortenOver, findWays -/
def sn_is (a : Nat → Int32) (f : Nat → Nat) : Prop := ∀ j, j < 10 → a j = nI (f j)
def sn_mt (a : Nat → Int32) (W : Nat → Nat → Nat) : Prop := ∀ i j, i < 7 → j < 7 → a (7 * i + j) = nI (W i j)
theorem sn_ix (a b : Nat) : (7 : Int32) * nI a + nI b = nI (7 * a + b) := by
  rw [← nI_add, ← pk_mul]
  rfl
theorem sn_at {a : Nat → Int32} {W : Nat → Nat → Nat} {i j : Nat} (h : sn_mt a W) (hi : i < 7) (hj : j < 7) : a ((7 : Int32) * nI i + nI j).toNatClampNeg = nI (W i j) := by
  rw [pk_cl (7 * i + j) (sn_ix i j)]
  exact h i j hi hj
theorem sn_mt_cg {a : Nat → Int32} {W W' : Nat → Nat → Nat} (h : sn_mt a W) (e : ∀ i, i < 7 → ∀ j, j < 7 → W i j = W' i j) : sn_mt a W' := by
  intro i j hi hj
  rw [h i j hi hj, e i hi j hj]
theorem sn_mt_upd {s : Nat → Int32} {V V' : Nat → Nat → Nat} {a b v : Nat} (hs : sn_mt s V) (hb : b < 7) (hv : V' a b = v) (ho : ∀ i, i < 7 → ∀ j, j < 7 → ¬ (i = a ∧ j = b) → V' i j = V i j) : sn_mt (upd s (7 * a + b) (nI v)) V' := by
  intro i j hi hj
  by_cases e : i = a ∧ j = b
  · obtain ⟨e1, e2⟩ := e
    subst e1 e2
    rw [pk_us, hv]
  · rw [pk_un (by omega), hs i j hi hj, ho i hi j hj e]
/-- what countAll lays -/
def sn_ct (P : Nat → Nat) (j : Nat) : Nat := if P j = 0 then 100000 else P j
theorem sn_countAll {post : St2 → Prop} {f1 f2 f3 f4 f5 : Int32} {a1 a2 a3 a4 a5 a6 a7 : Nat → Int32} {P : Nat → Nat} (h3 : sn_is a3 P) (hP : ∀ j, j < 10 → P j ≤ 100)
    (H : ∀ a4', sn_is a4' (sn_ct P) → post (f1, f2, f3, f4, f5, a1, a2, a3, a4', a5, a6, a7)) : wpX_countAll post (f1, f2, f3, f4, f5, a1, a2, a3, a4, a5, a6, a7) := by
  refine pk_loop (fun n i s => wX_countAll_2 post f1 f2 f3 f4 f5 n (nI i) a1 a2 a3 s a5 a6 a7) (fun i s => ∀ j, j < i → s j = nI (sn_ct P j)) 10 0 a4 (by omega) (fun j hj => absurd hj (by omega)) ?_ ?_
  · intro n s h
    exact pk_le 10 10 (fun _ => H s h) (fun z => absurd z (by omega))
  · intro n i s hi h hw
    have hcl : (nI i).toNatClampNeg = i := nI_clamp (by omega)
    have hPi := hP i hi
    have st : ∀ v, v = sn_ct P i → ∀ j, j < i + 1 → upd s i (nI v) j = nI (sn_ct P j) := by
      intro v hv j hj
      by_cases e : j = i
      · rw [e, pk_us, hv]
      · rw [pk_un e]
        exact h j (by omega)
    refine pk_le 10 i (fun z => absurd z (by omega)) (fun _ => ⟨pk_in i 10 hi, pk_eq (P i) 0 (fun z => ⟨pk_in i 10 hi, ?_⟩) (fun z => ⟨pk_in i 10 hi, pk_in i 10 hi, ?_⟩) (by rw [hcl, h3 i hi]) rfl (by omega) (by omega)⟩)
    · exact nm_r (e' := upd s i (nI 100000)) (by rw [hcl]; rfl) (nm_r (nI_1 i) (hw _ (st 100000 (by unfold sn_ct; rw [if_pos z]))))
    · exact nm_r (e' := upd s i (nI (P i))) (by rw [hcl, h3 i hi]) (nm_r (nI_1 i) (hw _ (st (P i) (by unfold sn_ct; rw [if_neg z]))))
/-- the table while it is shortened over m: the rows below a, and row a's places below b, are done -/
def sn_pv (m : Nat) (W : Nat → Nat → Nat) (a b i j : Nat) : Nat := if i < a ∨ (i = a ∧ j < b) then sn_sh m W i j else W i j
theorem sn_pv_am {m a b i : Nat} {W : Nat → Nat → Nat} (hd : W m m = 0) : sn_pv m W a b i m = W i m := by
  unfold sn_pv
  split
  · unfold sn_sh
    rw [hd]
    omega
  · rfl
theorem sn_pv_mb {m a b j : Nat} {W : Nat → Nat → Nat} (hd : W m m = 0) : sn_pv m W a b m j = W m j := by
  unfold sn_pv
  split
  · unfold sn_sh
    rw [hd]
    omega
  · rfl
theorem sn_pv_ab {m a b : Nat} {W : Nat → Nat → Nat} : sn_pv m W a b a b = W a b := if_neg (by omega)
theorem sn_pv_s {m a b : Nat} {W : Nat → Nat → Nat} : sn_pv m W a (b + 1) a b = sn_sh m W a b := if_pos (by omega)
theorem sn_pv_o {m a b i j : Nat} {W : Nat → Nat → Nat} (h : ¬ (i = a ∧ j = b)) : sn_pv m W a (b + 1) i j = sn_pv m W a b i j := by
  unfold sn_pv
  by_cases c : i < a ∨ (i = a ∧ j < b)
  · rw [if_pos c, if_pos (by omega)]
  · rw [if_neg c, if_neg (by omega)]
theorem sn_pv_end {m a i j : Nat} {W : Nat → Nat → Nat} (hj : j < 7) : sn_pv m W a 7 i j = sn_pv m W (a + 1) 0 i j := by
  unfold sn_pv
  by_cases c : i < a ∨ (i = a ∧ j < 7)
  · rw [if_pos c, if_pos (by omega)]
  · rw [if_neg c, if_neg (by omega)]
theorem sn_so10 {post : St2 → Prop} {J : Int32 → (Nat → Int32) → (Nat → Int32) → (Nat → Int32) → (Nat → Int32) → (Nat → Int32) → (Nat → Int32) → (Nat → Int32) → Prop} {f1 f2 f3 f4 f5 : Int32} {a1 a2 a3 a4 a5 a6 a7 : Nat → Int32} {W : Nat → Nat → Nat} {m a : Nat} (hm : m < 7) (ha : a < 7) (hW : sn_bd W) (h : sn_mt a5 (sn_pv m W a 0))
    (H : ∀ s, sn_mt s (sn_pv m W (a + 1) 0) → J (nI (a + 1)) a1 a2 a3 a4 s a6 a7) : ∃ n, wX_shortenOver_10 post J (nI m) (nI a) f1 f2 f3 f4 f5 n 0 a1 a2 a3 a4 a5 a6 a7 := by
  refine pk_loop (fun n b s => wX_shortenOver_10 post J (nI m) (nI a) f1 f2 f3 f4 f5 n (nI b) a1 a2 a3 a4 s a6 a7) (fun b s => sn_mt s (sn_pv m W a b)) 7 0 a5 (by omega) h ?_ ?_
  · intro n s hs
    exact pk_le 7 7 (fun _ => nm_r (nI_1 a) (H s (sn_mt_cg hs (fun i hi j hj => sn_pv_end hj)))) (fun z => absurd z (by omega))
  · intro n b s hb hs hw
    have hd := hW.2 m hm
    have b1 := hW.1 a m ha hm
    have b2 := hW.1 m b hm hb
    have b3 := hW.1 a b ha hb
    have e1 : s ((7 : Int32) * nI a + nI m).toNatClampNeg = nI (W a m) := by rw [sn_at hs ha hm, sn_pv_am hd]
    have e2 : s ((7 : Int32) * nI m + nI b).toNatClampNeg = nI (W m b) := by rw [sn_at hs hm hb, sn_pv_mb hd]
    have e3 : s ((7 : Int32) * nI a + nI b).toNatClampNeg = nI (W a b) := by rw [sn_at hs ha hb, sn_pv_ab]
    refine pk_le 7 b (fun z => absurd z (by omega)) (fun _ => ⟨pk_in (7 * a + m) 49 (by omega) (sn_ix a m), pk_in (7 * m + b) 49 (by omega) (sn_ix m b), nm_r (e' := nI (W a m + W m b)) (by rw [e1, e2, nI_add]) ⟨pk_in (7 * a + b) 49 (by omega) (sn_ix a b), pk_le (W a b) (W a m + W m b) (fun z => ?_) (fun z => ?_) e3 rfl (by omega) (by omega)⟩⟩)
    · refine nm_r (nI_1 b) (hw s (sn_mt_cg hs (fun i hi j hj => ?_)))
      by_cases e : i = a ∧ j = b
      · rw [e.1, e.2, sn_pv_ab, sn_pv_s]
        unfold sn_sh
        omega
      · rw [sn_pv_o e]
    · refine ⟨pk_in (7 * a + b) 49 (by omega) (sn_ix a b), nm_r (e' := upd s (7 * a + b) (nI (W a m + W m b))) (by rw [pk_cl (7 * a + b) (sn_ix a b)]) (nm_r (nI_1 b) (hw _ (sn_mt_upd hs hb ?_ (fun i hi j hj e => sn_pv_o e))))⟩
      rw [sn_pv_s]
      unfold sn_sh
      omega
theorem sn_shorten {post : St2 → Prop} {f1 f2 f3 f4 f5 : Int32} {a1 a2 a3 a4 a5 a6 a7 : Nat → Int32} {W : Nat → Nat → Nat} {m : Nat} (hm : m < 7) (hW : sn_bd W) (h : sn_mt a5 W)
    (H : ∀ s, sn_mt s (sn_sh m W) → post (f1, f2, f3, f4, f5, a1, a2, a3, a4, s, a6, a7)) : wpX_shortenOver post (f1, f2, f3, f4, f5, a1, a2, a3, a4, a5, a6, a7) (nI m) := by
  refine pk_loop (fun n a s => wX_shortenOver_2 post (nI m) f1 f2 f3 f4 f5 n (nI a) a1 a2 a3 a4 s a6 a7) (fun a s => sn_mt s (sn_pv m W a 0)) 7 0 a5 (by omega) ?_ ?_ ?_
  · exact sn_mt_cg h (fun i hi j hj => (if_neg (by omega)).symm)
  · intro n s hs
    exact pk_le 7 7 (fun _ => H s (sn_mt_cg hs (fun i hi j hj => if_pos (by omega)))) (fun z => absurd z (by omega))
  · intro n a s ha hs hw
    exact pk_le 7 a (fun z => absurd z (by omega)) (fun _ => sn_so10 hm ha hW hs (fun s' h' => hw s' h'))
theorem sn_fw134 {post : St2 → Prop} {f1 f2 f3 f4 f5 : Int32} {a1 a2 a3 a4 a5 a6 a7 : Nat → Int32} {W W' : Nat → Nat → Nat} {n m : Nat} (hm : m < 7) (hW : sn_bd W) (e : ∀ i, i < 7 → ∀ j, j < 7 → sn_sh m W i j = W' i j) (h : sn_mt a5 W)
    (H : ∀ s, sn_mt s W' → wX_findWays_134 post n (nI (m + 1)) f1 f2 f3 f4 f5 a1 a2 a3 a4 s a6 a7) : wX_findWays_134 post (n + 1) (nI m) f1 f2 f3 f4 f5 a1 a2 a3 a4 a5 a6 a7 :=
  pk_le 7 m (fun z => absurd z (by omega)) (fun _ => sn_shorten hm hW h (fun s hs => nm_r (nI_1 m) (H s (sn_mt_cg hs e))))
theorem sn_fw52 {post : St2 → Prop} {f1 f2 f3 f4 f5 : Int32} {a1 a2 a3 a4 s a6 a7 : Nat → Int32} {V V' : Nat → Nat → Nat} {n k A B c : Nat} (hk : k < 10) (hA : A < 7) (hB : B < 7) (hc : c ≤ 100000) (h1 : a1 k = nI A) (h2 : a2 k = nI B) (h4 : a4 k = nI c) (hV : V A B = 100000) (hV2 : V B A = 100000) (h' : V' A B = c) (h'' : V' B A = c)
    (ho : ∀ i, i < 7 → ∀ j, j < 7 → ¬ (i = A ∧ j = B) → ¬ (i = B ∧ j = A) → V' i j = V i j) (hs : sn_mt s V)
    (H : ∀ s', sn_mt s' V' → wX_findWays_52 post f1 f2 f3 f4 f5 n (nI (k + 1)) a1 a2 a3 a4 s' a6 a7) : wX_findWays_52 post f1 f2 f3 f4 f5 (n + 1) (nI k) a1 a2 a3 a4 s a6 a7 := by
  have hcl : (nI k).toNatClampNeg = k := nI_clamp (by omega)
  have e1 : a1 (nI k).toNatClampNeg = nI A := by rw [hcl, h1]
  have e2 : a2 (nI k).toNatClampNeg = nI B := by rw [hcl, h2]
  have e4 : a4 (nI k).toNatClampNeg = nI c := by rw [hcl, h4]
  refine pk_le 10 k (fun z => absurd z (by omega)) (fun _ => ⟨pk_in k 10 hk, nm_r e1 ⟨pk_in k 10 hk, nm_r e2 ⟨pk_in k 10 hk, pk_in (7 * A + B) 49 (by omega) (sn_ix A B), pk_le 100000 c (fun z => ?_) (fun z => ?_) (by rw [sn_at hs hA hB, hV]) e4 (by omega) (by omega)⟩⟩⟩)
  · refine nm_r (nI_1 k) (H s (sn_mt_cg hs (fun i hi j hj => ?_)))
    by_cases g : i = A ∧ j = B
    · rw [g.1, g.2, hV, h']
      omega
    · by_cases g2 : i = B ∧ j = A
      · rw [g2.1, g2.2, hV2, h'']
        omega
      · exact (ho i hi j hj g g2).symm
  · have t : sn_mt (upd s (7 * A + B) (nI c)) (fun i j => if i = A ∧ j = B then c else V i j) := sn_mt_upd hs hB (if_pos ⟨rfl, rfl⟩) (fun i hi j hj e => if_neg e)
    refine ⟨pk_in k 10 hk, pk_in (7 * A + B) 49 (by omega) (sn_ix A B), nm_r (e' := upd s (7 * A + B) (nI c)) (by rw [pk_cl (7 * A + B) (sn_ix A B), e4]) ⟨pk_in k 10 hk, pk_in (7 * B + A) 49 (by omega) (sn_ix B A), nm_r (e' := upd (upd s (7 * A + B) (nI c)) (7 * B + A) (nI c)) (by rw [pk_cl (7 * B + A) (sn_ix B A), e4]) (nm_r (nI_1 k) (H _ (sn_mt_upd t hA h'' (fun i hi j hj e => ?_))))⟩⟩
    show V' i j = if i = A ∧ j = B then c else V i j
    split
    · next g => rw [g.1, g.2, h']
    · next g => exact ho i hi j hj g e
theorem sn_fw52s {post : St2 → Prop} {f1 f2 f3 f4 f5 : Int32} {a1 a2 a3 a4 s a6 a7 : Nat → Int32} {V : Nat → Nat → Nat} {n k A B c : Nat} (hk : k < 10) (hA : A < 7) (hB : B < 7) (hc : c ≤ 100000) (h1 : a1 k = nI A) (h2 : a2 k = nI B) (h4 : a4 k = nI c) (hV : V A B = 0) (hs : sn_mt s V)
    (H : wX_findWays_52 post f1 f2 f3 f4 f5 n (nI (k + 1)) a1 a2 a3 a4 s a6 a7) : wX_findWays_52 post f1 f2 f3 f4 f5 (n + 1) (nI k) a1 a2 a3 a4 s a6 a7 := by
  have hcl : (nI k).toNatClampNeg = k := nI_clamp (by omega)
  have e1 : a1 (nI k).toNatClampNeg = nI A := by rw [hcl, h1]
  have e2 : a2 (nI k).toNatClampNeg = nI B := by rw [hcl, h2]
  have e4 : a4 (nI k).toNatClampNeg = nI c := by rw [hcl, h4]
  exact pk_le 10 k (fun z => absurd z (by omega)) (fun _ => ⟨pk_in k 10 hk, nm_r e1 ⟨pk_in k 10 hk, nm_r e2 ⟨pk_in k 10 hk, pk_in (7 * A + B) 49 (by omega) (sn_ix A B), pk_le 0 c (fun z => nm_r (nI_1 k) H) (fun z => absurd z (by omega)) (by rw [sn_at hs hA hB, hV]) e4 (by omega) (by omega)⟩⟩⟩)
/-- the ends of the lines -/
def sn_eA : Nat → Nat
  | 0 => 0
  | 1 => 1
  | 2 => 3
  | 3 => 0
  | 4 => 2
  | 5 => 2
  | _ => 0
def sn_eB : Nat → Nat
  | 0 => 3
  | 1 => 3
  | 2 => 2
  | 3 => 1
  | 4 => 1
  | 5 => 0
  | _ => 0
/-- the empty table -/
theorem sn_fw10 {post : St2 → Prop} {J : Int32 → (Nat → Int32) → (Nat → Int32) → (Nat → Int32) → (Nat → Int32) → (Nat → Int32) → (Nat → Int32) → (Nat → Int32) → Prop} {f1 f2 f3 f4 f5 : Int32} {a1 a2 a3 a4 a5 a6 a7 : Nat → Int32} {a : Nat} (ha : a < 7) (h : ∀ i j, j < 7 → i < a → a5 (7 * i + j) = nI (if i = j then 0 else 100000))
    (H : ∀ s, (∀ i j, j < 7 → i < a + 1 → s (7 * i + j) = nI (if i = j then 0 else 100000)) → J (nI (a + 1)) a1 a2 a3 a4 s a6 a7) : ∃ n, wX_findWays_10 post J (nI a) f1 f2 f3 f4 f5 n 0 a1 a2 a3 a4 a5 a6 a7 := by
  refine pk_loop (fun n b s => wX_findWays_10 post J (nI a) f1 f2 f3 f4 f5 n (nI b) a1 a2 a3 a4 s a6 a7) (fun b s => ∀ i j, j < 7 → (i < a ∨ (i = a ∧ j < b)) → s (7 * i + j) = nI (if i = j then 0 else 100000)) 7 0 a5 (by omega) (fun i j hj hi => h i j hj (by omega)) ?_ ?_
  · intro n s hs
    exact pk_le 7 7 (fun _ => nm_r (nI_1 a) (H s (fun i j hj hi => hs i j hj (by omega)))) (fun z => absurd z (by omega))
  · intro n b s hb hs hw
    have st : ∀ v, v = (if a = b then 0 else 100000) → ∀ i j, j < 7 → (i < a ∨ (i = a ∧ j < b + 1)) → upd s (7 * a + b) (nI v) (7 * i + j) = nI (if i = j then 0 else 100000) := by
      intro v hv i j hj hi
      by_cases e : i = a ∧ j = b
      · rw [e.1, e.2, pk_us, hv]
      · rw [pk_un (by omega)]
        exact hs i j hj (by omega)
    refine pk_le 7 b (fun z => absurd z (by omega)) (fun _ => pk_eq a b (fun z => ⟨pk_in (7 * a + b) 49 (by omega) (sn_ix a b), ?_⟩) (fun z => ⟨pk_in (7 * a + b) 49 (by omega) (sn_ix a b), ?_⟩))
    · exact nm_r (e' := upd s (7 * a + b) (nI 0)) (by rw [pk_cl (7 * a + b) (sn_ix a b)]; rfl) (nm_r (nI_1 b) (hw _ (st 0 (by rw [if_pos z]))))
    · exact nm_r (e' := upd s (7 * a + b) (nI 100000)) (by rw [pk_cl (7 * a + b) (sn_ix a b)]; rfl) (nm_r (nI_1 b) (hw _ (st 100000 (by rw [if_neg z]))))
theorem sn_fw2 {post : St2 → Prop} {f1 f2 f3 f4 f5 : Int32} {a1 a2 a3 a4 a5 a6 a7 : Nat → Int32}
    (H : ∀ s, sn_mt s (sn_km 100000 100000 100000 100000 100000 100000) → ∃ n, wX_findWays_52 post f1 f2 f3 f4 f5 n 0 a1 a2 a3 a4 s a6 a7) : wpX_findWays post (f1, f2, f3, f4, f5, a1, a2, a3, a4, a5, a6, a7) := by
  refine pk_loop (fun n a s => wX_findWays_2 post f1 f2 f3 f4 f5 n (nI a) a1 a2 a3 a4 s a6 a7) (fun a s => ∀ i j, j < 7 → i < a → s (7 * i + j) = nI (if i = j then 0 else 100000)) 7 0 a5 (by omega) (fun i j hj hi => absurd hi (by omega)) ?_ ?_
  · intro n s hs
    refine pk_le 7 7 (fun _ => H s (fun i j hi hj => ?_)) (fun z => absurd z (by omega))
    rw [hs i j hj hi]
    have e : ∀ i, i < 7 → ∀ j, j < 7 → (if i = j then 0 else 100000) = sn_km 100000 100000 100000 100000 100000 100000 i j := by decide
    rw [e i hi j hj]
  · intro n a s ha hs hw
    exact pk_le 7 a (fun z => absurd z (by omega)) (fun _ => sn_fw10 ha hs (fun s' h' => hw s' h'))
theorem sn_findWays {post : St2 → Prop} {f1 f2 f3 f4 f5 : Int32} {a1 a2 a3 a4 a5 a6 a7 : Nat → Int32} {C : Nat → Nat} (h1 : sn_is a1 sn_eA) (h2 : sn_is a2 sn_eB) (h4 : sn_is a4 C) (hC : ∀ j, j < 10 → C j ≤ 100000)
    (H : ∀ s, sn_mt s (sn_dm (C 0) (C 1) (C 2) (C 3) (C 4) (C 5)) → post (f1, f2, f3, f4, f5, a1, a2, a3, a4, s, a6, a7)) : wpX_findWays post (f1, f2, f3, f4, f5, a1, a2, a3, a4, a5, a6, a7) := by
  have c0 := hC 0 (by omega)
  have c1 := hC 1 (by omega)
  have c2 := hC 2 (by omega)
  have c3 := hC 3 (by omega)
  have c4 := hC 4 (by omega)
  have c5 := hC 5 (by omega)
  have c6 := hC 6 (by omega)
  have c7 := hC 7 (by omega)
  have c8 := hC 8 (by omega)
  have c9 := hC 9 (by omega)
  refine sn_fw2 fun s0 g0 => ⟨11, ?_⟩
  refine sn_fw52 (n := 10) (k := 0) (A := 0) (B := 3) (V' := sn_km (C 0) 100000 100000 100000 100000 100000) (by omega) (by omega) (by omega) c0 (h1 0 (by omega)) (h2 0 (by omega)) (h4 0 (by omega)) rfl rfl rfl rfl ?_ g0 fun s1 g1 => ?_
  · refine sn_c7 ?_ ?_ ?_ ?_ ?_ ?_ ?_ <;> (refine sn_c7 ?_ ?_ ?_ ?_ ?_ ?_ ?_ <;> first | exact fun _ _ => rfl | exact fun z _ => absurd (by decide) z | exact fun _ z => absurd (by decide) z)
  refine sn_fw52 (n := 9) (k := 1) (A := 1) (B := 3) (V' := sn_km (C 0) (C 1) 100000 100000 100000 100000) (by omega) (by omega) (by omega) c1 (h1 1 (by omega)) (h2 1 (by omega)) (h4 1 (by omega)) rfl rfl rfl rfl ?_ g1 fun s2 g2 => ?_
  · refine sn_c7 ?_ ?_ ?_ ?_ ?_ ?_ ?_ <;> (refine sn_c7 ?_ ?_ ?_ ?_ ?_ ?_ ?_ <;> first | exact fun _ _ => rfl | exact fun z _ => absurd (by decide) z | exact fun _ z => absurd (by decide) z)
  refine sn_fw52 (n := 8) (k := 2) (A := 3) (B := 2) (V' := sn_km (C 0) (C 1) (C 2) 100000 100000 100000) (by omega) (by omega) (by omega) c2 (h1 2 (by omega)) (h2 2 (by omega)) (h4 2 (by omega)) rfl rfl rfl rfl ?_ g2 fun s3 g3 => ?_
  · refine sn_c7 ?_ ?_ ?_ ?_ ?_ ?_ ?_ <;> (refine sn_c7 ?_ ?_ ?_ ?_ ?_ ?_ ?_ <;> first | exact fun _ _ => rfl | exact fun z _ => absurd (by decide) z | exact fun _ z => absurd (by decide) z)
  refine sn_fw52 (n := 7) (k := 3) (A := 0) (B := 1) (V' := sn_km (C 0) (C 1) (C 2) (C 3) 100000 100000) (by omega) (by omega) (by omega) c3 (h1 3 (by omega)) (h2 3 (by omega)) (h4 3 (by omega)) rfl rfl rfl rfl ?_ g3 fun s4 g4 => ?_
  · refine sn_c7 ?_ ?_ ?_ ?_ ?_ ?_ ?_ <;> (refine sn_c7 ?_ ?_ ?_ ?_ ?_ ?_ ?_ <;> first | exact fun _ _ => rfl | exact fun z _ => absurd (by decide) z | exact fun _ z => absurd (by decide) z)
  refine sn_fw52 (n := 6) (k := 4) (A := 2) (B := 1) (V' := sn_km (C 0) (C 1) (C 2) (C 3) (C 4) 100000) (by omega) (by omega) (by omega) c4 (h1 4 (by omega)) (h2 4 (by omega)) (h4 4 (by omega)) rfl rfl rfl rfl ?_ g4 fun s5 g5 => ?_
  · refine sn_c7 ?_ ?_ ?_ ?_ ?_ ?_ ?_ <;> (refine sn_c7 ?_ ?_ ?_ ?_ ?_ ?_ ?_ <;> first | exact fun _ _ => rfl | exact fun z _ => absurd (by decide) z | exact fun _ z => absurd (by decide) z)
  refine sn_fw52 (n := 5) (k := 5) (A := 2) (B := 0) (V' := sn_km (C 0) (C 1) (C 2) (C 3) (C 4) (C 5)) (by omega) (by omega) (by omega) c5 (h1 5 (by omega)) (h2 5 (by omega)) (h4 5 (by omega)) rfl rfl rfl rfl ?_ g5 fun s6 g6 => ?_
  · refine sn_c7 ?_ ?_ ?_ ?_ ?_ ?_ ?_ <;> (refine sn_c7 ?_ ?_ ?_ ?_ ?_ ?_ ?_ <;> first | exact fun _ _ => rfl | exact fun z _ => absurd (by decide) z | exact fun _ z => absurd (by decide) z)
  refine sn_fw52s (n := 4) (k := 6) (A := 0) (B := 0) (by omega) (by omega) (by omega) c6 (h1 6 (by omega)) (h2 6 (by omega)) (h4 6 (by omega)) rfl g6 ?_
  refine sn_fw52s (n := 3) (k := 7) (A := 0) (B := 0) (by omega) (by omega) (by omega) c7 (h1 7 (by omega)) (h2 7 (by omega)) (h4 7 (by omega)) rfl g6 ?_
  refine sn_fw52s (n := 2) (k := 8) (A := 0) (B := 0) (by omega) (by omega) (by omega) c8 (h1 8 (by omega)) (h2 8 (by omega)) (h4 8 (by omega)) rfl g6 ?_
  refine sn_fw52s (n := 1) (k := 9) (A := 0) (B := 0) (by omega) (by omega) (by omega) c9 (h1 9 (by omega)) (h2 9 (by omega)) (h4 9 (by omega)) rfl g6 ?_
  refine pk_le 10 10 (fun _ => ⟨8, ?_⟩) (fun z => absurd z (by omega))
  generalize C 0 = x0 at *
  generalize C 1 = x1 at *
  generalize C 2 = x2 at *
  generalize C 3 = x3 at *
  generalize C 4 = x4 at *
  generalize C 5 = x5 at *
  have b0 : sn_x6 x0 x1 x2 x3 x4 x5 := ⟨c0, c1, c2, c3, c4, c5⟩
  refine sn_fw134 (n := 7) (m := 0) (by omega) (sn_km_bd b0) sn_k0 g6 fun s7 g7 => ?_
  have b1 : sn_x6 x0 (min x1 (x3 + x0)) (min x2 (x5 + x0)) x3 (min x4 (x3 + x5)) x5 := by unfold sn_x6; omega
  generalize ey1 : min x1 (x3 + x0) = y1 at *
  generalize ey2 : min x2 (x5 + x0) = y2 at *
  generalize ey4 : min x4 (x3 + x5) = y4 at *
  refine sn_fw134 (n := 6) (m := 1) (by omega) (sn_km_bd b1) sn_k1 g7 fun s8 g8 => ?_
  have b2 : sn_x6 (min x0 (x3 + y1)) y1 (min y2 (y4 + y1)) x3 y4 (min x5 (x3 + y4)) := by unfold sn_x6 at *; omega
  generalize ez0 : min x0 (x3 + y1) = z0 at *
  generalize ez2 : min y2 (y4 + y1) = z2 at *
  generalize ez5 : min x5 (x3 + y4) = z5 at *
  refine sn_fw134 (n := 5) (m := 2) (by omega) (sn_km_bd b2) sn_k2 g8 fun s9 g9 => ?_
  have b3 : sn_x6 (min z0 (z5 + z2)) (min y1 (y4 + z2)) z2 (min x3 (z5 + y4)) y4 z5 := by unfold sn_x6 at *; omega
  generalize eu0 : min z0 (z5 + z2) = u0 at *
  generalize eu1 : min y1 (y4 + z2) = u1 at *
  generalize eu3 : min x3 (z5 + y4) = u3 at *
  refine sn_fw134 (n := 4) (m := 3) (by omega) (sn_km_bd b3) sn_k3 g9 fun s10 g10 => ?_
  obtain ⟨q0, q1, q2, q3, q4, q5⟩ := sn_fw ey1.symm ey2.symm ey4.symm ez0.symm ez2.symm ez5.symm eu0.symm eu1.symm eu3.symm rfl rfl rfl
  rw [q3, q4, q5, q0, q1, q2] at g10
  have b4 := sn_dm_x6 b0
  refine sn_fw134 (n := 3) (m := 4) (by omega) (sn_km_bd b4) (sn_k456 b4 (by omega)) g10 fun s11 g11 => ?_
  refine sn_fw134 (n := 2) (m := 5) (by omega) (sn_km_bd b4) (sn_k456 b4 (by omega)) g11 fun s12 g12 => ?_
  refine sn_fw134 (n := 1) (m := 6) (by omega) (sn_km_bd b4) (sn_k456 b4 (by omega)) g12 fun s13 g13 => ?_
  exact pk_le 7 7 (fun _ => H s13 g13) (fun z => absurd z (by omega))
end
section
/-! the walks: startPart, joinParts, carryPart -/
def sn_rw (a : Nat → Int32) (s : Nat) (R : Nat → Nat) : Prop := ∀ p, p < 7 → a (7 * s + p) = nI (R p)
/-- nothing but the row s has changed -/
def sn_ou (a a' : Nat → Int32) (s : Nat) : Prop := ∀ j, (j < 7 * s ∨ 7 * s + 7 ≤ j) → a' j = a j
theorem sn_ou_rfl {a : Nat → Int32} {s : Nat} : sn_ou a a s := fun _ _ => rfl
theorem sn_ou_tr {a b c : Nat → Int32} {s : Nat} (h : sn_ou a b s) (h' : sn_ou b c s) : sn_ou a c s := fun j hj => (h' j hj).trans (h j hj)
theorem sn_ou_upd {a b : Nat → Int32} {s p : Nat} {x : Int32} (hp : p < 7) (h : sn_ou a b s) : sn_ou a (upd b (7 * s + p) x) s := by
  intro j hj
  rw [pk_un (by omega)]
  exact h j hj
theorem sn_ou_rw {a b : Nat → Int32} {s t : Nat} {R : Nat → Nat} (h : sn_ou a b s) (ht : t ≠ s) (hr : sn_rw a t R) : sn_rw b t R := by
  intro p hp
  rw [h (7 * t + p) (by omega)]
  exact hr p hp
theorem sn_rw_at {a : Nat → Int32} {s p : Nat} {R : Nat → Nat} (h : sn_rw a s R) (hs : s < 8) (hp : p < 7) : a ((7 : Int32) * nI s + nI p).toNatClampNeg = nI (R p) := by
  rw [pk_cl (7 * s + p) (sn_ix s p)]
  exact h p hp
theorem sn_rw_cg {a : Nat → Int32} {s : Nat} {R R' : Nat → Nat} (h : sn_rw a s R) (e : ∀ p, p < 7 → R p = R' p) : sn_rw a s R' := by
  intro p hp
  rw [h p hp, e p hp]
theorem sn_rw_upd {a : Nat → Int32} {s p v : Nat} {R R' : Nat → Nat} (h : sn_rw a s R) (hv : R' p = v) (ho : ∀ q, q < 7 → q ≠ p → R' q = R q) : sn_rw (upd a (7 * s + p) (nI v)) s R' := by
  intro q hq
  by_cases e : q = p
  · rw [e, pk_us, hv]
  · rw [pk_un (by omega), h q hq, ho q hq e]
/-! startPart -/
theorem sn_bit : ∀ s, s < 8 → ∀ k, k < 3 → (nI s = ((1 : Int32) <<< (nI k &&& 31)) ↔ s = 2 ^ k) := by decide +kernel
theorem sn_sp29 {post : St2 → Prop} {f1 f3 f4 f5 : Int32} {a1 a2 a3 a4 a5 a6 a7 : Nat → Int32} {w : Nat → Nat} {s v : Nat} (hs : s < 8) (hv : v ≤ 3) (h7 : ∀ k, k < v → a7 k = nI (w k) ∧ w k < 7) (h : sn_rw a6 s (sn_sr w s 0))
    (H : ∀ b, sn_rw b s (sn_sr w s v) → sn_ou a6 b s → post (f1, nI (v + 1), f3, f4, f5, a1, a2, a3, a4, a5, b, a7)) : ∃ n, wX_startPart_29 post (nI s) f1 (nI (v + 1)) f3 f4 f5 n 0 a1 a2 a3 a4 a5 a6 a7 := by
  refine pk_loop (fun n k b => wX_startPart_29 post (nI s) f1 (nI (v + 1)) f3 f4 f5 n (nI k) a1 a2 a3 a4 a5 b a7) (fun k b => sn_rw b s (sn_sr w s k) ∧ sn_ou a6 b s) v 0 a6 (by omega) ⟨h, sn_ou_rfl⟩ ?_ ?_
  · intro n b hb
    exact pk_le v v (fun _ => H b hb.1 hb.2) (fun z => absurd z (by omega)) (nI_pred v)
  · intro n k b hk hb hw
    obtain ⟨e7, w7⟩ := h7 k hk
    have hcl : (nI k).toNatClampNeg = k := nI_clamp (by omega)
    have e7' : a7 (nI k).toNatClampNeg = nI (w k) := by rw [hcl, e7]
    refine pk_le v k (fun z => absurd z (by omega)) (fun _ => ek_if (sn_bit s hs k (by omega)) (fun z => ⟨pk_in k 7 (by omega), pk_in (7 * s + w k) 448 (by omega) (by rw [e7']; exact sn_ix s (w k)), ?_⟩) (fun z => ?_)) (nI_pred v)
    · refine nm_r (e' := upd b (7 * s + w k) (nI 0)) (by rw [e7', pk_cl (7 * s + w k) (sn_ix s (w k))]; rfl) (nm_r (nI_1 k) (hw _ ⟨sn_rw_upd hb.1 (if_pos ⟨z, rfl⟩) (fun q hq e => if_neg (fun g => e g.2)), sn_ou_upd w7 hb.2⟩))
    · exact nm_r (nI_1 k) (hw b ⟨sn_rw_cg hb.1 (fun q hq => (if_neg (fun g => z g.1)).symm), hb.2⟩)
theorem sn_startPart {post : St2 → Prop} {f1 f3 f4 f5 : Int32} {a1 a2 a3 a4 a5 a6 a7 : Nat → Int32} {w : Nat → Nat} {s v : Nat} (hs : s < 8) (hv : v ≤ 3) (h7 : ∀ k, k < v → a7 k = nI (w k) ∧ w k < 7)
    (H : ∀ b, sn_rw b s (sn_sr w s v) → sn_ou a6 b s → post (f1, nI (v + 1), f3, f4, f5, a1, a2, a3, a4, a5, b, a7)) : wpX_startPart post (f1, nI (v + 1), f3, f4, f5, a1, a2, a3, a4, a5, a6, a7) (nI s) := by
  refine pk_loop (fun n p b => wX_startPart_2 post (nI s) f1 (nI (v + 1)) f3 f4 f5 n (nI p) a1 a2 a3 a4 a5 b a7) (fun p b => (∀ q, q < p → b (7 * s + q) = nI 100000) ∧ sn_ou a6 b s) 7 0 a6 (by omega) ⟨fun q hq => absurd hq (by omega), sn_ou_rfl⟩ ?_ ?_
  · intro n b hb
    exact pk_le 7 7 (fun _ => sn_sp29 hs hv h7 (fun q hq => hb.1 q hq) (fun c hc hc' => H c hc (sn_ou_tr hb.2 hc'))) (fun z => absurd z (by omega))
  · intro n p b hp hb hw
    refine pk_le 7 p (fun z => absurd z (by omega)) (fun _ => ⟨pk_in (7 * s + p) 448 (by omega) (sn_ix s p), nm_r (e' := upd b (7 * s + p) (nI 100000)) (by rw [pk_cl (7 * s + p) (sn_ix s p)]; rfl) (nm_r (nI_1 p) (hw _ ⟨fun q hq => ?_, sn_ou_upd hp hb.2⟩))⟩)
    by_cases e : q = p
    · rw [e, pk_us]
    · rw [pk_un (by omega)]
      exact hb.1 q (by omega)
/-! joinParts -/
theorem sn_sub : ∀ s, s < 8 → ∀ h, h < 8 → ((nI h &&& (nI s ^^^ (-1))) = 0 ↔ h &&& s = h) := by decide +kernel
theorem sn_oth : ∀ s, s < 8 → ∀ h, h < s → h &&& s = h → (nI s &&& (nI h ^^^ (-1))) = nI (s - h) := by decide +kernel
/-- the row while two parts are joined at the points below p -/
def sn_jv (X Y R : Nat → Nat) (p q : Nat) : Nat := if q < p then min (R q) (X q + Y q) else R q
theorem sn_jp24 {post : St2 → Prop} {J : Int32 → (Nat → Int32) → (Nat → Int32) → (Nat → Int32) → (Nat → Int32) → (Nat → Int32) → (Nat → Int32) → (Nat → Int32) → Prop} {f1 f2 f3 f4 f5 : Int32} {a1 a2 a3 a4 a5 a6 a7 : Nat → Int32} {X Y R : Nat → Nat} {s h o : Nat} (hs : s < 8) (hh : h < 8) (hho : h ≠ s) (ho : o < 8) (hos : o ≠ s) (hX : sn_rw a6 h X) (hY : sn_rw a6 o Y) (hR : sn_rw a6 s R) (bX : ∀ p, p < 7 → X p ≤ 100000) (bY : ∀ p, p < 7 → Y p ≤ 100000) (bR : ∀ p, p < 7 → R p ≤ 100000)
    (H : ∀ b, sn_rw b s (fun q => min (R q) (X q + Y q)) → sn_ou a6 b s → J (nI (h + 1)) a1 a2 a3 a4 a5 b a7) : ∃ n, wX_joinParts_24 post J (nI s) (nI h) (nI o) f1 f2 f3 f4 f5 n 0 a1 a2 a3 a4 a5 a6 a7 := by
  refine pk_loop (fun n p b => wX_joinParts_24 post J (nI s) (nI h) (nI o) f1 f2 f3 f4 f5 n (nI p) a1 a2 a3 a4 a5 b a7) (fun p b => sn_rw b s (sn_jv X Y R p) ∧ sn_ou a6 b s) 7 0 a6 (by omega) ⟨sn_rw_cg hR (fun q hq => (if_neg (by omega)).symm), sn_ou_rfl⟩ ?_ ?_
  · intro n b hb
    exact pk_le 7 7 (fun _ => nm_r (nI_1 h) (H b (sn_rw_cg hb.1 (fun q hq => if_pos hq)) hb.2)) (fun z => absurd z (by omega))
  · intro n p b hp hb hw
    have x1 := bX p hp
    have y1 := bY p hp
    have r1 := bR p hp
    have e1 : b ((7 : Int32) * nI h + nI p).toNatClampNeg = nI (X p) := sn_rw_at (sn_ou_rw hb.2 hho hX) hh hp
    have e2 : b ((7 : Int32) * nI o + nI p).toNatClampNeg = nI (Y p) := sn_rw_at (sn_ou_rw hb.2 hos hY) ho hp
    have e3 : b ((7 : Int32) * nI s + nI p).toNatClampNeg = nI (R p) := by
      rw [sn_rw_at hb.1 hs hp]
      exact congrArg nI (if_neg (by omega))
    have q1 : sn_jv X Y R (p + 1) p = min (R p) (X p + Y p) := if_pos (by omega)
    have q2 : ∀ q, q < 7 → q ≠ p → sn_jv X Y R (p + 1) q = sn_jv X Y R p q := by
      intro q _ hq
      unfold sn_jv
      by_cases c : q < p
      · rw [if_pos c, if_pos (by omega)]
      · rw [if_neg c, if_neg (by omega)]
    have q3 : sn_jv X Y R p p = R p := if_neg (by omega)
    refine pk_le 7 p (fun z => absurd z (by omega)) (fun _ => ⟨pk_in (7 * h + p) 448 (by omega) (sn_ix h p), pk_in (7 * o + p) 448 (by omega) (sn_ix o p), nm_r (e' := nI (X p + Y p)) (by rw [e1, e2, nI_add]) ⟨pk_in (7 * s + p) 448 (by omega) (sn_ix s p), pk_le (R p) (X p + Y p) (fun z => ?_) (fun z => ?_) e3 rfl (by omega) (by omega)⟩⟩)
    · refine nm_r (nI_1 p) (hw b ⟨sn_rw_cg hb.1 (fun q hq => ?_), hb.2⟩)
      by_cases e : q = p
      · rw [e, q1, q3]
        omega
      · exact (q2 q hq e).symm
    · exact ⟨pk_in (7 * s + p) 448 (by omega) (sn_ix s p), nm_r (e' := upd b (7 * s + p) (nI (X p + Y p))) (by rw [pk_cl (7 * s + p) (sn_ix s p)]) (nm_r (nI_1 p) (hw _ ⟨sn_rw_upd hb.1 (by rw [q1]; omega) q2, sn_ou_upd hp hb.2⟩))⟩
theorem sn_jn_1 {P : Nat → Nat → Nat} {R : Nat → Nat} {s q : Nat} : sn_jn P R s 1 q = R q := by simp [sn_jn]
theorem sn_joinParts {post : St2 → Prop} {f1 f2 f3 f4 f5 : Int32} {a1 a2 a3 a4 a5 a6 a7 : Nat → Int32} {P : Nat → Nat → Nat} {R : Nat → Nat} {s : Nat} (hs1 : 1 ≤ s) (hs : s < 8) (hP : ∀ h, 1 ≤ h → h < s → sn_rw a6 h (P h)) (bP : ∀ h p, h < 8 → p < 7 → P h p ≤ 100000) (hR : sn_rw a6 s R) (bR : ∀ p, p < 7 → R p ≤ 100000)
    (H : ∀ b, sn_rw b s (sn_jn P R s s) → sn_ou a6 b s → post (f1, f2, f3, f4, f5, a1, a2, a3, a4, a5, b, a7)) : wpX_joinParts post (f1, f2, f3, f4, f5, a1, a2, a3, a4, a5, a6, a7) (nI s) := by
  refine pk_loop (fun n h b => wX_joinParts_2 post (nI s) f1 f2 f3 f4 f5 n (nI h) a1 a2 a3 a4 a5 b a7) (fun h b => 1 ≤ h ∧ sn_rw b s (sn_jn P R s h) ∧ sn_ou a6 b s) s 1 a6 hs1 ⟨by omega, sn_rw_cg hR (fun q hq => sn_jn_1.symm), sn_ou_rfl⟩ ?_ ?_
  · intro n b hb
    exact pk_le s s (fun _ => H b hb.2.1 hb.2.2) (fun z => absurd z (by omega))
  · intro n h b hh hb hw
    obtain ⟨h1, hb1, hb2⟩ := hb
    refine pk_le s h (fun z => absurd z (by omega)) (fun _ => ek_if (sn_sub s hs h (by omega)) (fun z => nm_r (sn_oth s hs h hh z) ?_) (fun z => nm_r (nI_1 h) (hw b ⟨by omega, sn_rw_cg hb1 (fun q hq => (if_neg (fun g => z g.2)).symm), hb2⟩)))
    refine sn_jp24 (X := P h) (Y := P (s - h)) (R := sn_jn P R s h) hs (by omega) (by omega) (by omega) (by omega) (sn_ou_rw hb2 (by omega) (hP h h1 hh)) (sn_ou_rw hb2 (by omega) (hP (s - h) (by omega) (by omega))) hb1 (fun p hp => bP h p (by omega) hp) (fun p hp => bP (s - h) p (by omega) hp) (fun p hp => Nat.le_trans (sn_jn_le h p) (bR p hp)) (fun c hc hc' => hw c ⟨by omega, sn_rw_cg hc (fun q hq => (if_pos ⟨h1, z⟩).symm), sn_ou_tr hb2 hc'⟩)
/-! carryPart -/
theorem sn_ct15 {post : St2 → Prop} {f1 f2 f3 f4 f5 : Int32} {a1 a2 a3 a4 a5 a6 a7 : Nat → Int32} {D : Nat → Nat → Nat} {R : Nat → Nat} {s p : Nat} (hs : s < 8) (hp : p < 7) (hD : sn_mt a5 D) (bD : sn_bd D) (hR : sn_rw a6 s R) (bR : ∀ q, q < 7 → R q ≤ 100000)
    (H : post (f1, f2, f3, f4, f5, a1, a2, a3, a4, a5, upd a6 (7 * s + p) (nI (sn_lo D R p 7)), a7)) : wpX_carryTo post (f1, f2, f3, f4, f5, a1, a2, a3, a4, a5, a6, a7) (nI s) (nI p) := by
  refine ⟨pk_in (7 * s + p) 448 (by omega) (sn_ix s p), nm_r (e' := nI (R p)) (sn_rw_at hR hs hp) ?_⟩
  refine pk_loop (fun n q (x : Int32) => wX_carryTo_15 post (nI s) (nI p) f1 f2 f3 f4 f5 a1 a2 a3 a4 a5 a6 a7 n x (nI q)) (fun q x => x = nI (sn_lo D R p q)) 7 0 (nI (R p)) (by omega) rfl ?_ ?_
  · intro n x hx
    subst hx
    exact pk_le 7 7 (fun _ => ⟨pk_in (7 * s + p) 448 (by omega) (sn_ix s p), nm_r (e' := upd a6 (7 * s + p) (nI (sn_lo D R p 7))) (by rw [pk_cl (7 * s + p) (sn_ix s p)]) H⟩) (fun z => absurd z (by omega))
  · intro n q x hq hx hw
    subst hx
    have r1 := bR q hq
    have r2 := bD.1 q p hq hp
    have r3 := bR p hp
    have r4 := sn_lo_le (D := D) (R := R) (p := p) q
    have e1 : a6 ((7 : Int32) * nI s + nI q).toNatClampNeg = nI (R q) := sn_rw_at hR hs hq
    have e2 : a5 ((7 : Int32) * nI q + nI p).toNatClampNeg = nI (D q p) := sn_at hD hq hp
    refine pk_le 7 q (fun z => absurd z (by omega)) (fun _ => ⟨pk_in (7 * s + q) 448 (by omega) (sn_ix s q), pk_in (7 * q + p) 49 (by omega) (sn_ix q p), nm_r (e' := nI (R q + D q p)) (by rw [e1, e2, nI_add]) (pk_le (sn_lo D R p q) (R q + D q p) (fun z => ?_) (fun z => ?_) rfl rfl (by omega) (by omega))⟩)
    · exact nm_r (nI_1 q) (hw _ (congrArg nI (Nat.min_eq_left z).symm))
    · exact nm_r (nI_1 q) (hw _ (congrArg nI (Nat.min_eq_right (Nat.le_of_lt z)).symm))
theorem sn_carryPart {post : St2 → Prop} {f1 f2 f3 f4 f5 : Int32} {a1 a2 a3 a4 a5 a6 a7 : Nat → Int32} {D : Nat → Nat → Nat} {R : Nat → Nat} {s : Nat} (hs : s < 8) (hD : sn_mt a5 D) (bD : sn_bd D) (tD : sn_tr D) (hR : sn_rw a6 s R) (bR : ∀ q, q < 7 → R q ≤ 100000)
    (H : ∀ b, sn_rw b s (sn_cl D R) → sn_ou a6 b s → post (f1, f2, f3, f4, f5, a1, a2, a3, a4, a5, b, a7)) : wpX_carryPart post (f1, f2, f3, f4, f5, a1, a2, a3, a4, a5, a6, a7) (nI s) := by
  refine pk_loop (fun n p b => wX_carryPart_2 post (nI s) n (nI p) f1 f2 f3 f4 f5 a1 a2 a3 a4 a5 b a7) (fun p b => sn_rw b s (sn_mx D R p) ∧ sn_ou a6 b s) 7 0 a6 (by omega) ⟨sn_rw_cg hR (fun q hq => (if_neg (by omega)).symm), sn_ou_rfl⟩ ?_ ?_
  · intro n b hb
    exact pk_le 7 7 (fun _ => H b (sn_rw_cg hb.1 (fun q hq => if_pos hq)) hb.2) (fun z => absurd z (by omega))
  · intro n p b hp hb hw
    refine pk_le 7 p (fun z => absurd z (by omega)) (fun _ => sn_ct15 hs hp hD bD hb.1 (fun q hq => Nat.le_trans sn_mx_le (bR q hq)) (nm_r (nI_1 p) (hw _ ⟨?_, sn_ou_upd hp hb.2⟩)))
    rw [sn_mx_cl tD hp]
    refine sn_rw_upd hb.1 (if_pos (by omega)) (fun q hq e => ?_)
    unfold sn_mx
    by_cases c : q < p
    · rw [if_pos c, if_pos (by omega)]
    · rw [if_neg c, if_neg (by omega)]
/-! the three, for one set -/
theorem sn_set {post : Int32 → St2 → Prop} {f1 f3 f4 f5 x2 : Int32} {a1 a2 a3 a4 a5 a6 a7 : Nat → Int32} {D P : Nat → Nat → Nat} {w : Nat → Nat} {s v S n : Nat} (hs1 : 1 ≤ s) (hs : s < 8) (hsS : s < S) (hS : S < 9) (hx2 : x2 = nI S) (hv : v ≤ 3) (h7 : ∀ k, k < v → a7 k = nI (w k) ∧ w k < 7) (hD : sn_mt a5 D) (bD : sn_bd D) (tD : sn_tr D) (hP : ∀ h, 1 ≤ h → h < s → sn_rw a6 h (P h)) (bP : ∀ h p, h < 8 → p < 7 → P h p ≤ 100000) (eP : ∀ p, p < 7 → P s p = sn_cl D (sn_jn P (sn_sr w s v) s s) p)
    (H : ∀ b, (∀ h, 1 ≤ h → h < s + 1 → sn_rw b h (P h)) → wX_leastFor_72 post x2 n (nI (s + 1)) f1 (nI (v + 1)) f3 f4 f5 a1 a2 a3 a4 a5 b a7) : wX_leastFor_72 post x2 (n + 1) (nI s) f1 (nI (v + 1)) f3 f4 f5 a1 a2 a3 a4 a5 a6 a7 := by
  subst hx2
  refine pk_le S s (fun z => absurd z (by omega)) (fun _ => ?_)
  refine sn_startPart hs hv h7 (fun b1 r1 o1 => ?_)
  refine sn_joinParts (P := P) hs1 hs (fun h h1 hh => sn_ou_rw o1 (by omega) (hP h h1 hh)) bP r1 (fun p _ => sn_sr_le v p) (fun b2 r2 o2 => ?_)
  refine sn_carryPart hs hD bD tD r2 (fun p _ => Nat.le_trans (sn_jn_le s p) (sn_sr_le v p)) (fun b3 r3 o3 => nm_r (nI_1 s) (H b3 (fun h h1 hh => ?_)))
  by_cases e : h = s
  · rw [e]
    exact sn_rw_cg r3 (fun p hp => (eP p hp).symm)
  · exact sn_ou_rw o3 e (sn_ou_rw o2 e (sn_ou_rw o1 e (hP h h1 (by omega))))
end
section
/-! the walk: leastFor -/
theorem sn_72 {post : Int32 → St2 → Prop} {f1 f3 f4 f5 : Int32} {a1 a2 a3 a4 a5 a6 a7 : Nat → Int32} {D P : Nat → Nat → Nat} {w : Nat → Nat} {v S : Nat} (hS1 : 1 ≤ S) (hS : S < 8) (hv : v ≤ 3) (h7 : ∀ k, k < v → a7 k = nI (w k) ∧ w k < 7) (h7v : a7 v = nI (w v)) (hwv : w v < 7) (hD : sn_mt a5 D) (bD : sn_bd D) (tD : sn_tr D) (bP : ∀ h p, h < 8 → p < 7 → P h p ≤ 100000) (eP : ∀ s, 1 ≤ s → s < S + 1 → ∀ p, p < 7 → P s p = sn_cl D (sn_jn P (sn_sr w s v) s s) p)
    (H : ∀ b, post (nI (P S (w v))) (f1, nI (v + 1), f3, f4, f5, a1, a2, a3, a4, a5, b, a7)) : ∃ n, wX_leastFor_72 post (nI (S + 1)) n 1 f1 (nI (v + 1)) f3 f4 f5 a1 a2 a3 a4 a5 a6 a7 := by
  refine pk_loop (fun n s b => wX_leastFor_72 post (nI (S + 1)) n (nI s) f1 (nI (v + 1)) f3 f4 f5 a1 a2 a3 a4 a5 b a7) (fun s b => 1 ≤ s ∧ ∀ h, 1 ≤ h → h < s → sn_rw b h (P h)) (S + 1) 1 a6 (by omega) ⟨by omega, fun h h1 h2 => absurd h2 (by omega)⟩ ?_ ?_
  · intro n b hb
    have e1 : nI (v + 1) - 1 = nI v := nI_pred v
    have e2 : (nI (v + 1) - 1).toNatClampNeg = v := pk_cl v e1
    have e3 : (7 : Int32) * (nI (S + 1) - 1) + a7 (nI (v + 1) - 1).toNatClampNeg = nI (7 * S + w v) := by
      rw [e2, h7v, nI_pred]
      exact sn_ix S (w v)
    refine pk_le (S + 1) (S + 1) (fun _ => ⟨pk_in v 7 (by omega) e1, pk_in (7 * S + w v) 448 (by omega) e3, ?_⟩) (fun z => absurd z (by omega))
    rw [pk_cl (7 * S + w v) e3, hb.2 S hS1 (by omega) (w v) hwv]
    exact H b
  · intro n s b hs hb hw
    exact sn_set hb.1 (by omega) hs (by omega) rfl hv h7 hD bD tD hb.2 bP (eP s hb.1 hs) (fun c hc => hw c ⟨by omega, hc⟩)
theorem sn_l7s {post : Int32 → St2 → Prop} {x1 f1 f3 f4 f5 wc : Int32} {a1 a2 a3 a4 a5 a6 a7 : Nat → Int32} {n i : Nat} (hi : i < 7) (hb : ((x1.toUInt32 >>> ((nI i).toUInt32 &&& Int32.toUInt32 31)).toInt32) &&& 1 = 0) (H : wX_leastFor_7 post x1 f1 f3 f4 f5 n (nI (i + 1)) wc a1 a2 a3 a4 a5 a6 a7) : wX_leastFor_7 post x1 f1 f3 f4 f5 (n + 1) (nI i) wc a1 a2 a3 a4 a5 a6 a7 :=
  pk_le 7 i (fun z => absurd z (by omega)) (fun _ => br_t hb (nm_r (nI_1 i) H))
theorem sn_l7t {post : Int32 → St2 → Prop} {x1 f1 f3 f4 f5 : Int32} {a1 a2 a3 a4 a5 a6 a7 : Nat → Int32} {n i c : Nat} (hi : i < 7) (hc : c < 7) (hb : ¬ ((x1.toUInt32 >>> ((nI i).toUInt32 &&& Int32.toUInt32 31)).toInt32) &&& 1 = 0) (H : wX_leastFor_7 post x1 f1 f3 f4 f5 n (nI (i + 1)) (nI (c + 1)) a1 a2 a3 a4 a5 a6 (upd a7 c (nI i))) : wX_leastFor_7 post x1 f1 f3 f4 f5 (n + 1) (nI i) (nI c) a1 a2 a3 a4 a5 a6 a7 :=
  pk_le 7 i (fun z => absurd z (by omega)) (fun _ => br_f hb ⟨pk_in c 7 hc, nm_r (e' := upd a7 c (nI i)) (by rw [nI_clamp (by omega)]) (nm_r (nI_1 c) (nm_r (nI_1 i) H))⟩)
theorem sn_two : ∀ v, v < 4 → ((1 : Int32) <<< ((nI (v + 1) - 1) &&& 31)) = nI (2 ^ v - 1 + 1) := by decide +kernel
theorem sn_l7e {post : Int32 → St2 → Prop} {x1 f1 f3 f4 f5 : Int32} {a1 a2 a3 a4 a5 a6 a7 : Nat → Int32} {C w : Nat → Nat} {n v : Nat} (h1 : sn_is a1 sn_eA) (h2 : sn_is a2 sn_eB) (h4 : sn_is a4 C) (hC : ∀ j, j < 10 → C j ≤ 100000) (hv : v = 1 ∨ v = 2 ∨ v = 3) (h7 : ∀ k, k < v + 1 → a7 k = nI (w k)) (hw : ∀ k, w k < 7) (h3 : v = 3 → w 0 = 0 ∧ w 1 = 1 ∧ w 2 = 2)
    (H : ∀ b5 b6, post (nI (sn_P (sn_dm (C 0) (C 1) (C 2) (C 3) (C 4) (C 5)) w (2 ^ v - 1) (w v))) (f1, nI (v + 1), f3, f4, f5, a1, a2, a3, a4, b5, b6, a7)) : wX_leastFor_7 post x1 f1 f3 f4 f5 (n + 1) (nI 7) (nI (v + 1)) a1 a2 a3 a4 a5 a6 a7 := by
  have hx : sn_x6 (C 0) (C 1) (C 2) (C 3) (C 4) (C 5) := ⟨hC 0 (by omega), hC 1 (by omega), hC 2 (by omega), hC 3 (by omega), hC 4 (by omega), hC 5 (by omega)⟩
  have bD : sn_bd (sn_dm (C 0) (C 1) (C 2) (C 3) (C 4) (C 5)) := sn_km_bd (sn_dm_x6 hx)
  have p1 : 1 ≤ 2 ^ v - 1 ∧ 2 ^ v - 1 < 8 ∧ 2 ^ v - 1 + 1 = 2 ^ v := by rcases hv with e | e | e <;> subst e <;> decide
  refine pk_le 7 7 (fun _ => pk_le 2 (v + 1) (fun _ => ?_) (fun z => absurd z (by omega))) (fun z => absurd z (by omega))
  refine sn_findWays h1 h2 h4 hC (fun b5 g5 => nm_r (sn_two v (by omega)) ?_)
  refine sn_72 (P := sn_P (sn_dm (C 0) (C 1) (C 2) (C 3) (C 4) (C 5)) w) p1.1 p1.2.1 (by omega) (fun k hk => ⟨h7 k (by omega), hw k⟩) (h7 v (by omega)) (hw v) g5 bD (sn_dm_tr hx) (sn_P_le bD (fun k _ => hw k)) (fun s hs1 hs2 => ?_) (fun b6 => H b5 b6)
  rw [p1.2.2] at hs2
  exact sn_P_all bD hv (fun k _ => hw k) h3 s hs1 hs2
/-- what leastFor answers for the points of the mask mk -/
def sn_LF (mk : Int32) (g : (Nat → Nat) → Nat) : Prop := ∀ (post : Int32 → St2 → Prop) (f1 f2 f3 f4 f5 : Int32) (a1 a2 a3 a4 a5 a6 a7 : Nat → Int32) (C : Nat → Nat), sn_is a1 sn_eA → sn_is a2 sn_eB → sn_is a4 C → (∀ j, j < 10 → C j ≤ 100000) → (∀ wc b5 b6 b7, post (nI (g C)) (f1, wc, f3, f4, f5, a1, a2, a3, a4, b5, b6, b7)) → wpX_leastFor post (f1, f2, f3, f4, f5, a1, a2, a3, a4, a5, a6, a7) mk
theorem sn_LF5 : sn_LF (nI 5) (fun C => sn_d5 (C 0) (C 1) (C 2) (C 3) (C 4) (C 5)) := by
  intro post f1 f2 f3 f4 f5 a1 a2 a3 a4 a5 a6 a7 C h1 h2 h4 hC H
  refine ⟨8, ?_⟩
  refine sn_l7t (n := 7) (i := 0) (c := 0) (by omega) (by omega) (by decide) ?_
  refine sn_l7s (n := 6) (i := 1) (by omega) (by decide) ?_
  refine sn_l7t (n := 5) (i := 2) (c := 1) (by omega) (by omega) (by decide) ?_
  refine sn_l7s (n := 4) (i := 3) (by omega) (by decide) ?_
  refine sn_l7s (n := 3) (i := 4) (by omega) (by decide) ?_
  refine sn_l7s (n := 2) (i := 5) (by omega) (by decide) ?_
  refine sn_l7s (n := 1) (i := 6) (by omega) (by decide) ?_
  refine sn_l7e (n := 0) (v := 1) (w := fun k => if k = 0 then 0 else 2) h1 h2 h4 hC (by omega) (fun k hk => ?_) (fun k => ?_) (fun z => absurd z (by omega)) (fun b5 b6 => ?_)
  · have e : k = 0 ∨ k = 1 := by omega
    rcases e with e | e <;> subst e <;> rfl
  · show (if k = 0 then 0 else 2) < 7
    split <;> omega
  · have e : sn_P (sn_dm (C 0) (C 1) (C 2) (C 3) (C 4) (C 5)) (fun k => if k = 0 then 0 else 2) (2 ^ 1 - 1) ((fun k => if k = 0 then 0 else 2) 1) = sn_d5 (C 0) (C 1) (C 2) (C 3) (C 4) (C 5) := sn_P_e1
    rw [e]
    exact H _ b5 b6 _
theorem sn_LF7 : sn_LF (nI 7) sn_TC := by
  intro post f1 f2 f3 f4 f5 a1 a2 a3 a4 a5 a6 a7 C h1 h2 h4 hC H
  have hx : sn_x6 (C 0) (C 1) (C 2) (C 3) (C 4) (C 5) := ⟨hC 0 (by omega), hC 1 (by omega), hC 2 (by omega), hC 3 (by omega), hC 4 (by omega), hC 5 (by omega)⟩
  refine ⟨8, ?_⟩
  refine sn_l7t (n := 7) (i := 0) (c := 0) (by omega) (by omega) (by decide) ?_
  refine sn_l7t (n := 6) (i := 1) (c := 1) (by omega) (by omega) (by decide) ?_
  refine sn_l7t (n := 5) (i := 2) (c := 2) (by omega) (by omega) (by decide) ?_
  refine sn_l7s (n := 4) (i := 3) (by omega) (by decide) ?_
  refine sn_l7s (n := 3) (i := 4) (by omega) (by decide) ?_
  refine sn_l7s (n := 2) (i := 5) (by omega) (by decide) ?_
  refine sn_l7s (n := 1) (i := 6) (by omega) (by decide) ?_
  refine sn_l7e (n := 0) (v := 2) (w := fun k => if k < 3 then k else 3) h1 h2 h4 hC (by omega) (fun k hk => ?_) (fun k => ?_) (fun z => absurd z (by omega)) (fun b5 b6 => ?_)
  · have e : k = 0 ∨ k = 1 ∨ k = 2 := by omega
    rcases e with e | e | e <;> subst e <;> rfl
  · show (if k < 3 then k else 3) < 7
    split <;> omega
  · have e : sn_P (sn_dm (C 0) (C 1) (C 2) (C 3) (C 4) (C 5)) (fun k => if k < 3 then k else 3) (2 ^ 2 - 1) ((fun k => if k < 3 then k else 3) 2) = sn_q2 (sn_dm (C 0) (C 1) (C 2) (C 3) (C 4) (C 5)) 0 1 2 := sn_P_e3
    rw [e, sn_T_eq hx]
    exact H _ b5 b6 _
theorem sn_LF15 : sn_LF (nI 15) (fun C => sn_q3 (sn_dm (C 0) (C 1) (C 2) (C 3) (C 4) (C 5)) 3) := by
  intro post f1 f2 f3 f4 f5 a1 a2 a3 a4 a5 a6 a7 C h1 h2 h4 hC H
  refine ⟨8, ?_⟩
  refine sn_l7t (n := 7) (i := 0) (c := 0) (by omega) (by omega) (by decide) ?_
  refine sn_l7t (n := 6) (i := 1) (c := 1) (by omega) (by omega) (by decide) ?_
  refine sn_l7t (n := 5) (i := 2) (c := 2) (by omega) (by omega) (by decide) ?_
  refine sn_l7t (n := 4) (i := 3) (c := 3) (by omega) (by omega) (by decide) ?_
  refine sn_l7s (n := 3) (i := 4) (by omega) (by decide) ?_
  refine sn_l7s (n := 2) (i := 5) (by omega) (by decide) ?_
  refine sn_l7s (n := 1) (i := 6) (by omega) (by decide) ?_
  refine sn_l7e (n := 0) (v := 3) (w := fun k => if k < 3 then k else 3) h1 h2 h4 hC (by omega) (fun k hk => ?_) (fun k => ?_) (fun _ => ⟨rfl, rfl, rfl⟩) (fun b5 b6 => ?_)
  · have e : k = 0 ∨ k = 1 ∨ k = 2 ∨ k = 3 := by omega
    rcases e with e | e | e | e <;> subst e <;> rfl
  · show (if k < 3 then k else 3) < 7
    split <;> omega
  · have e : sn_P (sn_dm (C 0) (C 1) (C 2) (C 3) (C 4) (C 5)) (fun k => if k < 3 then k else 3) (2 ^ 3 - 1) ((fun k => if k < 3 then k else 3) 3) = sn_q3 (sn_dm (C 0) (C 1) (C 2) (C 3) (C 4) (C 5)) 3 := sn_P_e7
    rw [e]
    exact H _ b5 b6 _
theorem sn_LF23 : sn_LF (nI 23) (fun C => sn_q3 (sn_dm (C 0) (C 1) (C 2) (C 3) (C 4) (C 5)) 4) := by
  intro post f1 f2 f3 f4 f5 a1 a2 a3 a4 a5 a6 a7 C h1 h2 h4 hC H
  refine ⟨8, ?_⟩
  refine sn_l7t (n := 7) (i := 0) (c := 0) (by omega) (by omega) (by decide) ?_
  refine sn_l7t (n := 6) (i := 1) (c := 1) (by omega) (by omega) (by decide) ?_
  refine sn_l7t (n := 5) (i := 2) (c := 2) (by omega) (by omega) (by decide) ?_
  refine sn_l7s (n := 4) (i := 3) (by omega) (by decide) ?_
  refine sn_l7t (n := 3) (i := 4) (c := 3) (by omega) (by omega) (by decide) ?_
  refine sn_l7s (n := 2) (i := 5) (by omega) (by decide) ?_
  refine sn_l7s (n := 1) (i := 6) (by omega) (by decide) ?_
  refine sn_l7e (n := 0) (v := 3) (w := fun k => if k < 3 then k else 4) h1 h2 h4 hC (by omega) (fun k hk => ?_) (fun k => ?_) (fun _ => ⟨rfl, rfl, rfl⟩) (fun b5 b6 => ?_)
  · have e : k = 0 ∨ k = 1 ∨ k = 2 ∨ k = 3 := by omega
    rcases e with e | e | e | e <;> subst e <;> rfl
  · show (if k < 3 then k else 4) < 7
    split <;> omega
  · have e : sn_P (sn_dm (C 0) (C 1) (C 2) (C 3) (C 4) (C 5)) (fun k => if k < 3 then k else 4) (2 ^ 3 - 1) ((fun k => if k < 3 then k else 4) 3) = sn_q3 (sn_dm (C 0) (C 1) (C 2) (C 3) (C 4) (C 5)) 4 := sn_P_e7
    rw [e]
    exact H _ b5 b6 _
end
section
/-! the walk: findBest -/
theorem sn_is_up {a : Nat → Int32} {C : Nat → Nat} {k v : Nat} (h : sn_is a C) : sn_is (upd a k (nI v)) (sn_up C k v) := by
  intro j hj
  unfold sn_up
  by_cases e : j = k
  · rw [e, pk_us, if_pos rfl]
  · rw [pk_un e, if_neg e]
    exact h j hj
theorem sn_up_le {C : Nat → Nat} {k v : Nat} (h : ∀ j, j < 10 → C j ≤ 100000) (hv : v ≤ 100000) : ∀ j, j < 10 → sn_up C k v j ≤ 100000 := by
  intro j hj
  unfold sn_up
  split
  · exact hv
  · exact h j hj
theorem sn_ct_le {P : Nat → Nat} (h : ∀ j, j < 10 → P j ≤ 100) : ∀ j, j < 10 → sn_ct P j ≤ 100000 := by
  intro j hj
  have := h j hj
  unfold sn_ct
  split <;> omega
theorem sn_fb58 {mk best f3 f4 : Int32} {g : (Nat → Nat) → Nat} (hLF : sn_LF mk g) {post : St2 → Prop} {a1 a2 a3 : Nat → Int32} {P : Nat → Nat} (h1 : sn_is a1 sn_eA) (h2 : sn_is a2 sn_eB) (h3 : sn_is a3 P) (hP : ∀ j, j < 10 → P j ≤ 100) (I : Nat → (Nat → Nat) → Int32 → Int32 → Prop)
    (I0 : ∀ i C tk bs, i < 10 → P i = 0 → I (i + 1) C tk bs → I i C tk bs)
    (I1 : ∀ i C tk bs, i < 10 → P i ≠ 0 → I (i + 1) C tk bs → nI (g (sn_up C i 100000)) + tk = best → I i (sn_up C i 100000) tk bs)
    (I2 : ∀ i C tk bs, i < 10 → P i ≠ 0 → I (i + 1) C tk bs → ¬ nI (g (sn_up C i 100000)) + tk = best → I i (sn_up C i 0) (tk + nI (P i)) (bs ||| ((1 : Int32) <<< (nI i &&& 31))))
    (H : ∀ C tk wc bs a4 a5 a6 a7, I 0 C tk bs → post (mk, wc, f3, f4, bs, a1, a2, a3, a4, a5, a6, a7)) :
    ∀ i, i ≤ 10 → ∀ (x3 : Int32) (C : Nat → Nat) (tk wc bs : Int32) (a4 a5 a6 a7 : Nat → Int32), x3 = nI i + (-1) → sn_is a4 C → (∀ j, j < 10 → C j ≤ 100000) → I i C tk bs → wX_findBest_58 post best (i + 1) tk x3 mk wc f3 f4 bs a1 a2 a3 a4 a5 a6 a7 := by
  intro i
  induction i with
  | zero =>
    intro _ x3 C tk wc bs a4 a5 a6 a7 hx h4 hC hI
    subst hx
    exact br_t (by decide) (H C tk wc bs a4 a5 a6 a7 hI)
  | succ i ih =>
    intro hi x3 C tk wc bs a4 a5 a6 a7 hx h4 hC hI
    rw [pk_m1] at hx
    subst hx
    have hi' : i < 10 := by omega
    have hPi := hP i hi'
    have hcl : (nI i).toNatClampNeg = i := nI_clamp (by omega)
    have e3 : a3 (nI i).toNatClampNeg = nI (P i) := by rw [hcl, h3 i hi']
    refine br_f (nI_pos (by omega)) ⟨pk_in i 10 hi', pk_le (P i) 0 (fun z => ?_) (fun z => ?_) e3 rfl (by omega) (by omega)⟩
    · exact nm_e (ih (by omega) _ C tk wc bs a4 a5 a6 a7 rfl h4 hC (I0 i C tk bs hi' (by omega) hI))
    · refine ⟨pk_in i 10 hi', nm_r (e' := upd a4 i (nI 100000)) (by rw [hcl]; rfl) ?_⟩
      refine hLF _ _ _ _ _ _ _ _ _ _ _ _ _ (sn_up C i 100000) h1 h2 (sn_is_up h4) (sn_up_le hC (Nat.le_refl _)) (fun wc' b5 b6 b7 => br_c (fun z1 => ?_) (fun z1 => ?_))
      · exact nm_e (ih (by omega) _ (sn_up C i 100000) tk wc' bs _ b5 b6 b7 rfl (sn_is_up h4) (sn_up_le hC (Nat.le_refl _)) (I1 i C tk bs hi' (by omega) hI z1))
      · have q : sn_is (upd (upd a4 i (nI 100000)) i (nI 0)) (sn_up C i 0) := by
          intro j hj
          by_cases e : j = i
          · rw [e, pk_us]
            unfold sn_up
            rw [if_pos rfl]
          · rw [pk_un e, pk_un e]
            unfold sn_up
            rw [if_neg e]
            exact h4 j hj
        refine ⟨pk_in i 10 hi', nm_r (e' := upd (upd a4 i (nI 100000)) i (nI 0)) (by rw [hcl]; rfl) ⟨pk_in i 10 hi', nm_r (e' := tk + nI (P i)) (by rw [e3]) (nm_e (nm_e ?_))⟩⟩
        exact ih (by omega) _ (sn_up C i 0) (tk + nI (P i)) wc' _ _ b5 b6 b7 rfl q (sn_up_le hC (by omega)) (I2 i C tk bs hi' (by omega) hI z1)
theorem sn_findBest {mk f2 f4 f5 : Int32} {g : (Nat → Nat) → Nat} (hLF : sn_LF mk g) {post : St2 → Prop} {a1 a2 a3 a4 a5 a6 a7 : Nat → Int32} {P : Nat → Nat} (h1 : sn_is a1 sn_eA) (h2 : sn_is a2 sn_eB) (h3 : sn_is a3 P) (hP : ∀ j, j < 10 → P j ≤ 100) (hg : g (sn_ct P) < 100000) (I : Nat → (Nat → Nat) → Int32 → Int32 → Prop)
    (I0 : ∀ i C tk bs, i < 10 → P i = 0 → I (i + 1) C tk bs → I i C tk bs)
    (I1 : ∀ i C tk bs, i < 10 → P i ≠ 0 → I (i + 1) C tk bs → nI (g (sn_up C i 100000)) + tk = nI (g (sn_ct P)) → I i (sn_up C i 100000) tk bs)
    (I2 : ∀ i C tk bs, i < 10 → P i ≠ 0 → I (i + 1) C tk bs → ¬ nI (g (sn_up C i 100000)) + tk = nI (g (sn_ct P)) → I i (sn_up C i 0) (tk + nI (P i)) (bs ||| ((1 : Int32) <<< (nI i &&& 31))))
    (Is : I 10 (sn_ct P) 0 0)
    (H : ∀ C tk wc bs b4 b5 b6 b7, I 0 C tk bs → post (mk, wc, 1, nI (g (sn_ct P)), bs, a1, a2, a3, b4, b5, b6, b7)) : wpX_findBest post (mk, f2, 0, f4, f5, a1, a2, a3, a4, a5, a6, a7) := by
  refine br_t rfl (sn_countAll h3 hP (fun b4 g4 => ?_))
  have hl : nI (g (sn_ct P)) < (100000 : Int32) := nI_lt (b := 100000) hg (by decide)
  refine hLF _ _ _ _ _ _ _ _ _ _ _ _ _ (sn_ct P) h1 h2 g4 (sn_ct_le hP) (fun wc b5 b6 b7 => br_t hl (br_t hl ⟨11, ?_⟩))
  exact sn_fb58 hLF h1 h2 h3 hP I I0 I1 I2 H 10 (Nat.le_refl _) 9 (sn_ct P) 0 wc 0 b4 b5 b6 b7 (by decide) g4 (sn_ct_le hP) Is
/-- the points 0 and 2: only the price counts -/
theorem sn_least5 {f2 f4 f5 : Int32} {post : Int32 → St2 → Prop} {a1 a2 a3 a4 a5 a6 a7 : Nat → Int32} {P : Nat → Nat} {L : Nat} (h1 : sn_is a1 sn_eA) (h2 : sn_is a2 sn_eB) (h3 : sn_is a3 P) (hP : ∀ j, j < 10 → P j ≤ 100) (hL : sn_d5 (sn_ct P 0) (sn_ct P 1) (sn_ct P 2) (sn_ct P 3) (sn_ct P 4) (sn_ct P 5) = L) (hL2 : L < 100000)
    (H : ∀ wc bs b4 b5 b6 b7, post (nI L) (nI 5, wc, 1, nI L, bs, a1, a2, a3, b4, b5, b6, b7)) : wpX_least post (nI 5, f2, 0, f4, f5, a1, a2, a3, a4, a5, a6, a7) := by
  subst hL
  exact sn_findBest sn_LF5 h1 h2 h3 hP hL2 (fun _ _ _ _ => True) (fun _ _ _ _ _ _ _ => trivial) (fun _ _ _ _ _ _ _ _ => trivial) (fun _ _ _ _ _ _ _ _ => trivial) trivial (fun C tk wc bs b4 b5 b6 b7 _ => H wc bs b4 b5 b6 b7)
theorem sn_bits : ∀ i, i < 6 → ∀ b, b < 64 → b % 2 ^ (i + 1) = 0 → b + 2 ^ i < 64 ∧ (b + 2 ^ i) % 2 ^ i = 0 ∧ nI b ||| ((1 : Int32) <<< (nI i &&& 31)) = nI (b + 2 ^ i) := by decide +kernel
theorem sn_half {b i : Nat} (h : b % 2 ^ (i + 1) = 0) : b % 2 ^ i = 0 := Nat.mod_eq_zero_of_dvd (Nat.dvd_trans (Nat.pow_dvd_pow 2 (Nat.le_succ i)) (Nat.dvd_of_mod_eq_zero h))
theorem sn_sum_le {P : Nat → Nat} (hP : ∀ j, j < 10 → P j ≤ 100) (b : Nat) : sn_sum P b ≤ 600 := by
  have key : ∀ y z : Nat, z ≤ 100 → y % 2 * z ≤ 100 := by
    intro y z hz
    have : y % 2 = 0 ∨ y % 2 = 1 := by omega
    rcases this with e | e <;> rw [e] <;> omega
  unfold sn_sum
  have k0 := key b _ (hP 0 (by omega))
  have k1 := key (b / 2) _ (hP 1 (by omega))
  have k2 := key (b / 4) _ (hP 2 (by omega))
  have k3 := key (b / 8) _ (hP 3 (by omega))
  have k4 := key (b / 16) _ (hP 4 (by omega))
  have k5 := key (b / 32) _ (hP 5 (by omega))
  omega
/-- the invariant of the choice: what is taken and what the rest costs are the least price together -/
def sn_I (P : Nat → Nat) (i : Nat) (C : Nat → Nat) (tk bs : Int32) : Prop := ∃ t b : Nat, tk = nI t ∧ bs = nI b ∧ b < 64 ∧ b % 2 ^ i = 0 ∧ t = sn_sum P b ∧ sn_TC C + t = sn_TC (sn_ct P) ∧ (∀ j, j < 6 → j < i → C j = sn_ct P j) ∧ (∀ j, j < 6 → i ≤ j → C j = 0 ∨ C j = 100000)
theorem sn_choice {f2 f4 f5 : Int32} {post : St2 → Prop} {a1 a2 a3 a4 a5 a6 a7 : Nat → Int32} {P : Nat → Nat} {L : Nat} (h1 : sn_is a1 sn_eA) (h2 : sn_is a2 sn_eB) (h3 : sn_is a3 P) (hP : ∀ j, j < 10 → P j ≤ 100) (hP6 : ∀ j, 6 ≤ j → P j = 0) (hL : sn_TC (sn_ct P) = L) (hL2 : L < 100000)
    (H : ∀ b wc b4 b5 b6 b7, b < 64 → sn_sum P b = L → post (nI 7, wc, 1, nI L, nI b, a1, a2, a3, b4, b5, b6, b7)) : wpX_findBest post (nI 7, f2, 0, f4, f5, a1, a2, a3, a4, a5, a6, a7) := by
  subst hL
  have hC := sn_ct_le hP
  refine sn_findBest sn_LF7 h1 h2 h3 hP hL2 (sn_I P) ?_ ?_ ?_ ?_ ?_
  · rintro i C tk bs hi hPi ⟨t, b, e1, e2, hb, hbi, et, eT, k1, k2⟩
    refine ⟨t, b, e1, e2, hb, sn_half hbi, et, eT, fun j hj hji => k1 j hj (by omega), fun j hj hji => ?_⟩
    by_cases e : j = i
    · refine Or.inr ?_
      rw [k1 j hj (by omega), e]
      unfold sn_ct
      rw [if_pos hPi]
    · exact k2 j hj (by omega)
  · rintro i C tk bs hi hPi ⟨t, b, e1, e2, hb, hbi, et, eT, k1, k2⟩ z
    have hi6 : i < 6 := by
      rcases Nat.lt_or_ge i 6 with h | h
      · exact h
      · exact absurd (hP6 i h) hPi
    have s1 := sn_sum_le hP b
    have s2 := sn_TC_le (sn_up C i 100000)
    rw [e1, nI_add, nI_eq (by omega) (by omega)] at z
    refine ⟨t, b, e1, e2, hb, sn_half hbi, et, z, fun j hj hji => ?_, fun j hj hji => ?_⟩
    · have n : j ≠ i := by omega
      unfold sn_up
      rw [if_neg n]
      exact k1 j hj (by omega)
    · unfold sn_up
      by_cases e : j = i
      · rw [if_pos e]
        exact Or.inr rfl
      · rw [if_neg e]
        exact k2 j hj (by omega)
  · rintro i C tk bs hi hPi ⟨t, b, e1, e2, hb, hbi, et, eT, k1, k2⟩ z
    have hi6 : i < 6 := by
      rcases Nat.lt_or_ge i 6 with h | h
      · exact h
      · exact absurd (hP6 i h) hPi
    have s1 := sn_sum_le hP b
    have s2 := sn_TC_le (sn_up C i 100000)
    have eC : C i = P i := by
      rw [k1 i hi6 (by omega)]
      unfold sn_ct
      rw [if_neg hPi]
    have hPi2 := hP i hi
    rw [e1, nI_add, nI_eq (by omega) (by omega)] at z
    have st := sn_TC_step (C := C) hi6 (by omega) (by omega) (by omega)
    obtain ⟨q1, q2, q3⟩ := sn_bits i hi6 b hb hbi
    refine ⟨t + P i, b + 2 ^ i, by rw [e1, nI_add], by rw [e2, q3], q1, q2, by rw [sn_sum_add hi6 hbi, et], by omega, fun j hj hji => ?_, fun j hj hji => ?_⟩
    · have n : j ≠ i := by omega
      unfold sn_up
      rw [if_neg n]
      exact k1 j hj (by omega)
    · unfold sn_up
      by_cases e : j = i
      · rw [if_pos e]
        exact Or.inl rfl
      · rw [if_neg e]
        exact k2 j hj (by omega)
  · exact ⟨0, 0, rfl, rfl, by omega, by omega, (sn_sum_0 P).symm, by omega, fun j _ _ => rfl, fun j hj h => absurd h (by omega)⟩
  · rintro C tk wc bs b4 b5 b6 b7 ⟨t, b, e1, e2, hb, hbi, et, eT, k1, k2⟩
    have z : sn_TC C = 0 := sn_T_end (k2 0 (by omega) (by omega)) (k2 1 (by omega) (by omega)) (k2 2 (by omega) (by omega)) (k2 3 (by omega) (by omega)) (k2 4 (by omega) (by omega)) (k2 5 (by omega) (by omega)) (by
      have : sn_TC C < 100000 := by omega
      exact this)
    rw [e2]
    exact H b wc b4 b5 b6 b7 hb (by omega)
end
section
/-! the walk: the calls that the law makes -/
theorem sn_10 : ¬ (1 : Int32) = 0 := by decide
theorem sn_isPoint {post : Int32 → Prop} {k : Nat} (hk : k < 7) (H : post 1) : wpX_isPoint post () (nI k) :=
  br_f (nI_pos (by omega)) (br_f (nI_nlt (a := 6) (by omega) (by decide)) H)
theorem sn_line {post : Int32 → St2 → Prop} {f1 f2 f3 f4 f5 : Int32} {a1 a2 a3 a4 a5 a6 a7 : Nat → Int32} {k A B p : Nat} (hk : k < 10) (hA : A < 7) (hB : B < 7) (hAB : A ≠ B) (p1 : 1 ≤ p) (p2 : p ≤ 100)
    (H : post 0 (f1, f2, 0, f4, f5, upd a1 k (nI A), upd a2 k (nI B), upd a3 k (nI p), a4, a5, a6, a7)) : wpX_line post (f1, f2, f3, f4, f5, a1, a2, a3, a4, a5, a6, a7) (nI k) (nI A) (nI B) (nI p) := by
  have hcl : (nI k).toNatClampNeg = k := nI_clamp (by omega)
  refine br_f (nI_pos (by omega)) (br_f (nI_nlt (a := 9) (by omega) (by decide)) (sn_isPoint hA (br_f (by decide) (sn_isPoint hB (br_f (by decide) (pk_eq A B (fun z => absurd z hAB) (fun _ => pk_lt p 1 (fun z => absurd z (by omega)) (fun _ => pk_le p 100 (fun _ => ⟨pk_in k 10 hk, ?_⟩) (fun z => absurd z (by omega))))))))))
  exact nm_r (e' := upd a1 k (nI A)) (by rw [hcl]) ⟨pk_in k 10 hk, nm_r (e' := upd a2 k (nI B)) (by rw [hcl]) ⟨pk_in k 10 hk, nm_r (e' := upd a3 k (nI p)) (by rw [hcl]) H⟩⟩
theorem sn_mark {post : Int32 → St2 → Prop} {f1 f2 f3 f4 f5 r m : Int32} {a1 a2 a3 a4 a5 a6 a7 : Nat → Int32} {k : Nat} (hk : k < 7) (hr : ((f1.toUInt32 >>> ((nI k).toUInt32 &&& Int32.toUInt32 31)).toInt32) &&& 1 = r) (hm : f1 ||| ((1 : Int32) <<< (nI k &&& 31)) = m)
    (H : post r (m, f2, 0, f4, f5, a1, a2, a3, a4, a5, a6, a7)) : wpX_mark post (f1, f2, f3, f4, f5, a1, a2, a3, a4, a5, a6, a7) (nI k) 1 := by
  unfold wpX_mark
  refine sn_isPoint hk ?_
  refine br_f sn_10 ?_
  exact nm_r hr (br_f sn_10 (nm_r hm H))
theorem sn_between {post : Int32 → St2 → Prop} {f1 f2 f3 f4 f5 m : Int32} {g : (Nat → Nat) → Nat} (hLF : sn_LF m g) {a1 a2 a3 a4 a5 a6 a7 : Nat → Int32} {P : Nat → Nat} {u v L : Nat} (hu : u < 7) (hv : v < 7) (hm : ((1 : Int32) <<< (nI u &&& 31)) ||| ((1 : Int32) <<< (nI v &&& 31)) = m) (h1 : sn_is a1 sn_eA) (h2 : sn_is a2 sn_eB) (h3 : sn_is a3 P) (hP : ∀ j, j < 10 → P j ≤ 100) (hL : g (sn_ct P) = L) (hL2 : L < 100000)
    (H : ∀ wc b4 b5 b6 b7, post (nI L) (f1, wc, f3, f4, f5, a1, a2, a3, b4, b5, b6, b7)) : wpX_between post (f1, f2, f3, f4, f5, a1, a2, a3, a4, a5, a6, a7) (nI u) (nI v) := by
  subst hL hm
  unfold wpX_between
  refine sn_isPoint hu ?_
  refine br_f sn_10 ?_
  refine sn_isPoint hv ?_
  refine br_f sn_10 ?_
  refine sn_countAll h3 hP (fun b4 g4 => ?_)
  exact hLF _ _ _ _ _ _ _ _ _ _ _ _ _ (sn_ct P) h1 h2 g4 (sn_ct_le hP) (fun wc b5 b6 b7 => br_t (nI_lt (b := 100000) hL2 (by decide)) (H wc b4 b5 b6 b7))
theorem sn_including {post : Int32 → St2 → Prop} {f1 f2 f3 f4 f5 m : Int32} {g : (Nat → Nat) → Nat} (hLF : sn_LF m g) {a1 a2 a3 a4 a5 a6 a7 : Nat → Int32} {P : Nat → Nat} {u L : Nat} (hu : u < 7) (hm : f1 ||| ((1 : Int32) <<< (nI u &&& 31)) = m) (h1 : sn_is a1 sn_eA) (h2 : sn_is a2 sn_eB) (h3 : sn_is a3 P) (hP : ∀ j, j < 10 → P j ≤ 100) (hL : g (sn_ct P) = L) (hL2 : L < 100000)
    (H : ∀ wc b4 b5 b6 b7, post (nI L) (f1, wc, f3, f4, f5, a1, a2, a3, b4, b5, b6, b7)) : wpX_including post (f1, f2, f3, f4, f5, a1, a2, a3, a4, a5, a6, a7) (nI u) := by
  subst hL hm
  unfold wpX_including
  refine sn_isPoint hu ?_
  refine br_f sn_10 ?_
  refine sn_countAll h3 hP (fun b4 g4 => ?_)
  exact hLF _ _ _ _ _ _ _ _ _ _ _ _ _ (sn_ct P) h1 h2 g4 (sn_ct_le hP) (fun wc b5 b6 b7 => br_t (nI_lt (b := 100000) hL2 (by decide)) (H wc b4 b5 b6 b7))
theorem sn_including_far {post : Int32 → St2 → Prop} {f1 f2 f3 f4 f5 m : Int32} {g : (Nat → Nat) → Nat} (hLF : sn_LF m g) {a1 a2 a3 a4 a5 a6 a7 : Nat → Int32} {P : Nat → Nat} {u L : Nat} (hu : u < 7) (hm : f1 ||| ((1 : Int32) <<< (nI u &&& 31)) = m) (h1 : sn_is a1 sn_eA) (h2 : sn_is a2 sn_eB) (h3 : sn_is a3 P) (hP : ∀ j, j < 10 → P j ≤ 100) (hL : g (sn_ct P) = L) (hL2 : 100000 ≤ L) (hL3 : L < 2 ^ 31)
    (H : ∀ wc b4 b5 b6 b7, post (-1) (f1, wc, f3, f4, f5, a1, a2, a3, b4, b5, b6, b7)) : wpX_including post (f1, f2, f3, f4, f5, a1, a2, a3, a4, a5, a6, a7) (nI u) := by
  subst hL hm
  unfold wpX_including
  refine sn_isPoint hu ?_
  refine br_f sn_10 ?_
  refine sn_countAll h3 hP (fun b4 g4 => ?_)
  exact hLF _ _ _ _ _ _ _ _ _ _ _ _ _ (sn_ct P) h1 h2 g4 (sn_ct_le hP) (fun wc b5 b6 b7 => br_f (nI_nlt (b := 100000) hL2 hL3) (H wc b4 b5 b6 b7))
theorem sn_isLine {post : Int32 → Prop} {f1 f2 f3 f4 f5 : Int32} {a1 a2 a3 a4 a5 a6 a7 : Nat → Int32} {P : Nat → Nat} {k : Nat} (hk : k < 10) (h3 : sn_is a3 P) (hP : ∀ j, j < 10 → P j ≤ 100) (hk1 : 1 ≤ P k) (H : post 1) : wpX_isLine post (f1, f2, f3, f4, f5, a1, a2, a3, a4, a5, a6, a7) (nI k) := by
  have hPk := hP k hk
  have e3 : a3 (nI k).toNatClampNeg = nI (P k) := by rw [nI_clamp (by omega), h3 k hk]
  exact br_f (nI_pos (by omega)) (br_f (nI_nlt (a := 9) (by omega) (by decide)) ⟨pk_in k 10 hk, pk_le (P k) 0 (fun z => absurd z (by omega)) (fun _ => H) e3 rfl (by omega) (by omega)⟩)
theorem sn_noLine {post : Int32 → Prop} {f1 f2 f3 f4 f5 : Int32} {a1 a2 a3 a4 a5 a6 a7 : Nat → Int32} {P : Nat → Nat} {k : Nat} (hk : k < 10) (h3 : sn_is a3 P) (hk1 : P k = 0) (H : post 0) : wpX_isLine post (f1, f2, f3, f4, f5, a1, a2, a3, a4, a5, a6, a7) (nI k) := by
  have e3 : a3 (nI k).toNatClampNeg = nI 0 := by rw [nI_clamp (by omega), h3 k hk, hk1]
  exact br_f (nI_pos (by omega)) (br_f (nI_nlt (a := 9) (by omega) (by decide)) ⟨pk_in k 10 hk, pk_le 0 0 (fun _ => H) (fun z => absurd z (by omega)) e3 rfl (by omega) (by omega)⟩)
theorem sn_bitOf : ∀ b, b < 64 → ∀ k, k < 6 → (((nI b).toUInt32 >>> ((nI k).toUInt32 &&& Int32.toUInt32 31)).toInt32) &&& 1 = nI (b / 2 ^ k % 2) := by decide +kernel
/-- a choice that is known already -/
theorem sn_chosen {post : Int32 → St2 → Prop} {f1 f2 : Int32} {a1 a2 a3 a4 a5 a6 a7 : Nat → Int32} {P : Nat → Nat} {k L b : Nat} (hk : k < 6) (h3 : sn_is a3 P) (hP : ∀ j, j < 10 → P j ≤ 100) (hk1 : 1 ≤ P k) (hL : L < 100000) (hb : b < 64)
    (H : post (nI (b / 2 ^ k % 2)) (f1, f2, 1, nI L, nI b, a1, a2, a3, a4, a5, a6, a7)) : wpX_chosen post (f1, f2, 1, nI L, nI b, a1, a2, a3, a4, a5, a6, a7) (nI k) := by
  unfold wpX_chosen
  refine sn_isLine (by omega) h3 hP hk1 ?_
  refine br_f sn_10 ?_
  refine br_f sn_10 ?_
  refine br_t (nI_pos' (by omega)) ?_
  rw [sn_bitOf b hb k hk]
  exact H
theorem sn_chosen_no {post : Int32 → St2 → Prop} {f1 f2 f3 f4 f5 : Int32} {a1 a2 a3 a4 a5 a6 a7 : Nat → Int32} {P : Nat → Nat} {k : Nat} (hk : k < 10) (h3 : sn_is a3 P) (hk1 : P k = 0)
    (H : post (-2) (f1, f2, f3, f4, f5, a1, a2, a3, a4, a5, a6, a7)) : wpX_chosen post (f1, f2, f3, f4, f5, a1, a2, a3, a4, a5, a6, a7) (nI k) := by
  unfold wpX_chosen
  refine sn_noLine hk h3 hk1 ?_
  exact br_t rfl H
theorem sn_cut {post : Int32 → St2 → Prop} {f1 f2 f3 f4 f5 : Int32} {a1 a2 a3 a4 a5 a6 a7 : Nat → Int32} {P : Nat → Nat} {k : Nat} (hk : k < 10) (h3 : sn_is a3 P) (hP : ∀ j, j < 10 → P j ≤ 100) (hk1 : 1 ≤ P k)
    (H : post 0 (f1, f2, 0, f4, f5, a1, a2, upd a3 k (nI 0), a4, a5, a6, a7)) : wpX_cut post (f1, f2, f3, f4, f5, a1, a2, a3, a4, a5, a6, a7) (nI k) := by
  unfold wpX_cut
  refine sn_isLine hk h3 hP hk1 ?_
  refine br_f sn_10 ?_
  exact ⟨pk_in k 10 hk, nm_r (e' := upd a3 k (nI 0)) (by rw [nI_clamp (by omega)]; rfl) H⟩
theorem sn_with {post : Int32 → St2 → Prop} {f1 f2 f3 f4 f5 : Int32} {g : (Nat → Nat) → Nat} (hLF : sn_LF f1 g) {a1 a2 a3 a4 a5 a6 a7 : Nat → Int32} {P : Nat → Nat} {k L : Nat} (hk : k < 10) (h1 : sn_is a1 sn_eA) (h2 : sn_is a2 sn_eB) (h3 : sn_is a3 P) (hP : ∀ j, j < 10 → P j ≤ 100) (hk1 : 1 ≤ P k) (hL : g (sn_up (sn_ct P) k 0) = L) (hL2 : L < 100000)
    (H : ∀ wc b4 b5 b6 b7, post (nI (L + P k)) (f1, wc, f3, f4, f5, a1, a2, a3, b4, b5, b6, b7)) : wpX_with post (f1, f2, f3, f4, f5, a1, a2, a3, a4, a5, a6, a7) (nI k) := by
  subst hL
  have hcl : (nI k).toNatClampNeg = k := nI_clamp (by omega)
  unfold wpX_with
  refine sn_isLine hk h3 hP hk1 ?_
  refine br_f sn_10 ?_
  refine sn_countAll h3 hP (fun b4 g4 => ?_)
  refine ⟨pk_in k 10 hk, nm_r (e' := upd b4 k (nI 0)) (by rw [hcl]; rfl) ?_⟩
  refine hLF _ _ _ _ _ _ _ _ _ _ _ _ _ (sn_up (sn_ct P) k 0) h1 h2 (sn_is_up g4) (sn_up_le (sn_ct_le hP) (by omega)) (fun wc b5 b6 b7 => br_t (nI_lt (b := 100000) hL2 (by decide)) ⟨pk_in k 10 hk, ?_⟩)
  rw [hcl, h3 k hk, nI_add]
  exact H wc _ b5 b6 b7
theorem sn_without {post : Int32 → St2 → Prop} {f1 f2 f3 f4 f5 : Int32} {g : (Nat → Nat) → Nat} (hLF : sn_LF f1 g) {a1 a2 a3 a4 a5 a6 a7 : Nat → Int32} {P : Nat → Nat} {k L : Nat} (hk : k < 10) (h1 : sn_is a1 sn_eA) (h2 : sn_is a2 sn_eB) (h3 : sn_is a3 P) (hP : ∀ j, j < 10 → P j ≤ 100) (hk1 : 1 ≤ P k) (hL : g (sn_up (sn_ct P) k 100000) = L) (hL2 : 100000 ≤ L) (hL3 : L < 2 ^ 31)
    (H : ∀ wc b4 b5 b6 b7, post (-1) (f1, wc, f3, f4, f5, a1, a2, a3, b4, b5, b6, b7)) : wpX_without post (f1, f2, f3, f4, f5, a1, a2, a3, a4, a5, a6, a7) (nI k) := by
  subst hL
  have hcl : (nI k).toNatClampNeg = k := nI_clamp (by omega)
  unfold wpX_without
  refine sn_isLine hk h3 hP hk1 ?_
  refine br_f sn_10 ?_
  refine sn_countAll h3 hP (fun b4 g4 => ?_)
  refine ⟨pk_in k 10 hk, nm_r (e' := upd b4 k (nI 100000)) (by rw [hcl]; rfl) ?_⟩
  exact hLF _ _ _ _ _ _ _ _ _ _ _ _ _ (sn_up (sn_ct P) k 100000) h1 h2 (sn_is_up g4) (sn_up_le (sn_ct_le hP) (Nat.le_refl _)) (fun wc b5 b6 b7 => br_f (nI_nlt (b := 100000) hL2 hL3) (H wc _ b5 b6 b7))
theorem sn_least7 {f2 f4 f5 : Int32} {post : Int32 → St2 → Prop} {a1 a2 a3 a4 a5 a6 a7 : Nat → Int32} {P : Nat → Nat} {L : Nat} (h1 : sn_is a1 sn_eA) (h2 : sn_is a2 sn_eB) (h3 : sn_is a3 P) (hP : ∀ j, j < 10 → P j ≤ 100) (hP6 : ∀ j, 6 ≤ j → P j = 0) (hL : sn_TC (sn_ct P) = L) (hL2 : L < 100000)
    (H : ∀ b wc b4 b5 b6 b7, b < 64 → sn_sum P b = L → post (nI L) (nI 7, wc, 1, nI L, nI b, a1, a2, a3, b4, b5, b6, b7)) : wpX_least post (nI 7, f2, 0, f4, f5, a1, a2, a3, a4, a5, a6, a7) :=
  sn_choice h1 h2 h3 hP hP6 hL hL2 H
theorem sn_price {post : Int32 → Prop} {p : Int32} (H : ∀ n, 1 ≤ n → n ≤ 100 → post (nI n)) : wpL_price post () p := by
  obtain ⟨j, hj, e⟩ := pk_andE p (m := 255) 8 (by decide)
  have e2 : (1 : Int32) + ((p &&& 255) - (p &&& 255) / 100 * 100) = nI (1 + j % 100) := by
    rw [e]
    have r : nI j - nI j / nI 100 * nI 100 = nI (j % 100) := pk_rem (by omega) (by omega) (by omega)
    rw [← nI_add, ← r]
    rfl
  refine ⟨by decide, ?_⟩
  rw [e2]
  exact H _ (by omega) (by omega)
theorem sn_min {post : Int32 → Prop} {x y : Int32} (a b : Nat) (hx : x = nI a) (hy : y = nI b) (ha : a < 1000000) (hb : b < 1000000) (H : post (nI (min a b))) : wpL_min post () x y := by
  refine pk_le b a (fun z => ?_) (fun z => ?_) hy hx (by omega) (by omega)
  · rw [Nat.min_eq_right z] at H
    rw [hy]
    exact H
  · rw [Nat.min_eq_left (by omega)] at H
    rw [hx]
    exact H
/-- the prices of the lines -/
def sn_pr (a b c d e f : Nat) : Nat → Nat
  | 0 => a
  | 1 => b
  | 2 => c
  | 3 => d
  | 4 => e
  | 5 => f
  | _ => 0
theorem sn_c10 {P : Nat → Prop} (h0 : P 0) (h1 : P 1) (h2 : P 2) (h3 : P 3) (h4 : P 4) (h5 : P 5) (h6 : P 6) (h7 : P 7) (h8 : P 8) (h9 : P 9) : ∀ i, i < 10 → P i := by
  intro i hi
  have e : i = 0 ∨ i = 1 ∨ i = 2 ∨ i = 3 ∨ i = 4 ∨ i = 5 ∨ i = 6 ∨ i = 7 ∨ i = 8 ∨ i = 9 := by omega
  rcases e with e | e | e | e | e | e | e | e | e | e <;> (subst e; assumption)
theorem sn_pr_le {a b c d e f : Nat} (ha : a ≤ 100) (hb : b ≤ 100) (hc : c ≤ 100) (hd : d ≤ 100) (he : e ≤ 100) (hf : f ≤ 100) : ∀ j, j < 10 → sn_pr a b c d e f j ≤ 100 :=
  sn_c10 ha hb hc hd he hf (Nat.zero_le _) (Nat.zero_le _) (Nat.zero_le _) (Nat.zero_le _)
theorem sn_pr_6 {a b c d e f : Nat} : ∀ j, 6 ≤ j → sn_pr a b c d e f j = 0 := by
  intro j hj
  obtain ⟨k, rfl⟩ : ∃ k, j = k + 6 := ⟨j - 6, by omega⟩
  rfl
end
section
/-! the law -/
theorem sn_is_A : sn_is (upd (upd (upd (upd (upd (upd (fun _ => 0) 0 (nI 0)) 1 (nI 1)) 2 (nI 3)) 3 (nI 0)) 4 (nI 2)) 5 (nI 2)) sn_eA :=
  sn_c10 rfl rfl rfl rfl rfl rfl rfl rfl rfl rfl
theorem sn_is_B : sn_is (upd (upd (upd (upd (upd (upd (fun _ => 0) 0 (nI 3)) 1 (nI 3)) 2 (nI 2)) 3 (nI 1)) 4 (nI 1)) 5 (nI 0)) sn_eB :=
  sn_c10 rfl rfl rfl rfl rfl rfl rfl rfl rfl rfl
theorem sn_is_P (a b c d e f : Nat) : sn_is (upd (upd (upd (upd (upd (upd (fun _ => 0) 0 (nI a)) 1 (nI b)) 2 (nI c)) 3 (nI d)) 4 (nI e)) 5 (nI f)) (sn_pr a b c d e f) :=
  sn_c10 rfl rfl rfl rfl rfl rfl rfl rfl rfl rfl
theorem sn_cut3 {x : Nat → Int32} {a b c d e f : Nat} (h : sn_is x (sn_pr a b c d e f)) : sn_is (upd x 3 (nI 0)) (sn_pr a b c 0 e f) :=
  sn_c10 (h 0 (by omega)) (h 1 (by omega)) (h 2 (by omega)) rfl (h 4 (by omega)) (h 5 (by omega)) (h 6 (by omega)) (h 7 (by omega)) (h 8 (by omega)) (h 9 (by omega))
theorem sn_cut4 {x : Nat → Int32} {a b c d e f : Nat} (h : sn_is x (sn_pr a b c d e f)) : sn_is (upd x 4 (nI 0)) (sn_pr a b c d 0 f) :=
  sn_c10 (h 0 (by omega)) (h 1 (by omega)) (h 2 (by omega)) (h 3 (by omega)) rfl (h 5 (by omega)) (h 6 (by omega)) (h 7 (by omega)) (h 8 (by omega)) (h 9 (by omega))
theorem sn_cut5 {x : Nat → Int32} {a b c d e f : Nat} (h : sn_is x (sn_pr a b c d e f)) : sn_is (upd x 5 (nI 0)) (sn_pr a b c d e 0) :=
  sn_c10 (h 0 (by omega)) (h 1 (by omega)) (h 2 (by omega)) (h 3 (by omega)) (h 4 (by omega)) rfl (h 6 (by omega)) (h 7 (by omega)) (h 8 (by omega)) (h 9 (by omega))
theorem sn_ct_pos {P : Nat → Nat} {k v : Nat} (h : P k = v) (hv : 1 ≤ v) : sn_ct P k = v := by
  unfold sn_ct
  rw [h, if_neg (by omega)]
theorem sn_ct_zero {P : Nat → Nat} {k : Nat} (h : P k = 0) : sn_ct P k = 100000 := by
  unfold sn_ct
  rw [if_pos h]
theorem sn_v5 {a b c d e f : Nat} : min (min (min (min (d + e) (a + c)) f) (a + b + e)) (d + b + c) = sn_d5 a b c d e f := by
  unfold sn_d5 sn_m5
  omega
theorem sn_v7 {a b c d e f : Nat} (ha : a ≤ 100) (hb : b ≤ 100) (hc : c ≤ 100) : min (min (min (min (min (min (a + b + c) (d + e)) (e + f)) (d + f)) (d + min (a + c) (b + c))) (e + min (a + b) (a + c))) (f + min (a + b) (b + c)) = sn_T a b c d e f := by
  refine sn_ext fun t => ?_
  rw [sn_T_iff]
  simp only [sn_e2, sn_lm]
  constructor
  · intro h
    repeat' apply And.intro
    all_goals omega
  · intro h
    repeat' apply And.intro
    all_goals omega
theorem sn_T_lt {a b c d e f : Nat} (ha : a ≤ 100) (hb : b ≤ 100) (hc : c ≤ 100) : sn_T a b c d e f < 1000 := by
  have h := ((sn_T_iff (t := sn_T a b c d e f)).mp (Nat.le_refl _)).2.1
  omega
theorem sn_T_cut {a b c : Nat} (ha : a ≤ 100) (hb : b ≤ 100) (hc : c ≤ 100) : sn_T a b c 100000 100000 100000 = a + b + c := by
  unfold sn_T sn_M
  omega
theorem sn_T_out {a c : Nat} : sn_T a 100000 c 100000 100000 100000 = 100000 := by
  unfold sn_T sn_M
  omega
theorem sn_all {a b c q : Nat} (hb : 1 ≤ b) (hc : 1 ≤ c) (h : sn_sum (sn_pr a b c 0 0 0) q = a + b + c) : q / 2 ^ 2 % 2 = 1 := by
  have e : sn_sum (sn_pr a b c 0 0 0) q = q % 2 * a + q / 2 % 2 * b + q / 4 % 2 * c + q / 8 % 2 * 0 + q / 16 % 2 * 0 + q / 32 % 2 * 0 := rfl
  rw [e] at h
  have g : q / 2 ^ 2 % 2 = q / 4 % 2 := rfl
  rw [g]
  have c0 : q % 2 = 0 ∨ q % 2 = 1 := by omega
  have c1 : q / 2 % 2 = 0 ∨ q / 2 % 2 = 1 := by omega
  have c2 : q / 4 % 2 = 0 ∨ q / 4 % 2 = 1 := by omega
  rcases c2 with c2 | c2
  · exfalso
    rw [c2] at h
    rcases c0 with c0 | c0 <;> rw [c0] at h <;> rcases c1 with c1 | c1 <;> rw [c1] at h <;> omega
  · exact c2
theorem sn_lawOf {post : Int32 → St0 → Prop} {p0 p1 p2 p3 p4 p5 : Int32} (H : post 1 ()) : wpL_lawOf post 296 4720 () p0 p1 p2 p3 p4 p5 := by
  unfold wpL_lawOf
  refine sn_price fun a a1 a2 => ?_
  refine sn_price fun b b1 b2 => ?_
  refine sn_price fun c c1 c2 => ?_
  refine sn_price fun d d1 d2 => ?_
  refine sn_price fun e e1 e2 => ?_
  refine sn_price fun f f1 f2 => ?_
  refine ⟨by omega, by omega, 7, 544, by omega, by omega, ?_⟩
  refine ⟨by omega, by omega, by omega, by omega, by omega, by omega, by omega, by omega, by omega, by omega, by omega, by omega, by omega, by omega, ?_⟩
  refine sn_line (k := 0) (A := 0) (B := 3) (by omega) (by omega) (by omega) (by omega) a1 a2 ?_
  refine sn_line (k := 1) (A := 1) (B := 3) (by omega) (by omega) (by omega) (by omega) b1 b2 ?_
  refine sn_line (k := 2) (A := 3) (B := 2) (by omega) (by omega) (by omega) (by omega) c1 c2 ?_
  refine sn_line (k := 3) (A := 0) (B := 1) (by omega) (by omega) (by omega) (by omega) d1 d2 ?_
  refine sn_line (k := 4) (A := 2) (B := 1) (by omega) (by omega) (by omega) (by omega) e1 e2 ?_
  refine sn_line (k := 5) (A := 2) (B := 0) (by omega) (by omega) (by omega) (by omega) f1 f2 ?_
  refine br_t rfl ?_
  refine sn_mark (k := 0) (r := 0) (m := nI 1) (by omega) (by decide) (by decide) ?_
  refine br_t rfl ?_
  refine sn_mark (k := 2) (r := 0) (m := nI 5) (by omega) (by decide) (by decide) ?_
  refine br_t rfl ?_
  have hA := sn_is_A
  have hB := sn_is_B
  have hQ := sn_is_P a b c d e f
  have hP : ∀ j, j < 10 → sn_pr a b c d e f j ≤ 100 := sn_pr_le a2 b2 c2 d2 e2 f2
  have k0 : sn_ct (sn_pr a b c d e f) 0 = a := sn_ct_pos rfl a1
  have k1 : sn_ct (sn_pr a b c d e f) 1 = b := sn_ct_pos rfl b1
  have k2 : sn_ct (sn_pr a b c d e f) 2 = c := sn_ct_pos rfl c1
  have k3 : sn_ct (sn_pr a b c d e f) 3 = d := sn_ct_pos rfl d1
  have k4 : sn_ct (sn_pr a b c d e f) 4 = e := sn_ct_pos rfl e1
  have k5 : sn_ct (sn_pr a b c d e f) 5 = f := sn_ct_pos rfl f1
  have L5 : sn_d5 (sn_ct (sn_pr a b c d e f) 0) (sn_ct (sn_pr a b c d e f) 1) (sn_ct (sn_pr a b c d e f) 2) (sn_ct (sn_pr a b c d e f) 3) (sn_ct (sn_pr a b c d e f) 4) (sn_ct (sn_pr a b c d e f) 5) = sn_d5 a b c d e f := by rw [k0, k1, k2, k3, k4, k5]
  have L5' : sn_d5 a b c d e f < 100000 := Nat.lt_of_le_of_lt sn_m5_le.1 (by omega)
  have L7 : sn_TC (sn_ct (sn_pr a b c d e f)) = sn_T a b c d e f := by unfold sn_TC; rw [k0, k1, k2, k3, k4, k5]
  have L7' : sn_T a b c d e f < 1000 := sn_T_lt a2 b2 c2
  refine nm_r (nI_add d e) ?_
  refine nm_r (nI_add a c) ?_
  refine sn_min (d + e) (a + c) rfl rfl (by omega) (by omega) ?_
  refine sn_min (min (d + e) (a + c)) f rfl rfl (by omega) (by omega) ?_
  refine nm_r (e' := nI (a + b + e)) (by rw [nI_add, nI_add]) ?_
  refine nm_r (e' := nI (d + b + c)) (by rw [nI_add, nI_add]) ?_
  refine sn_min (min (min (d + e) (a + c)) f) (a + b + e) rfl rfl (by omega) (by omega) ?_
  refine sn_min (min (min (min (d + e) (a + c)) f) (a + b + e)) (d + b + c) rfl rfl (by omega) (by omega) ?_
  rw [sn_v5]
  refine sn_least5 hA hB hQ hP L5 L5' fun w1 s1 g4 g5 g6 g7 => ?_
  refine br_t rfl ?_
  refine sn_between (u := 2) (v := 0) sn_LF5 (by omega) (by omega) (by decide) hA hB hQ hP L5 L5' fun w2 g4 g5 g6 g7 => ?_
  refine br_t rfl ?_
  refine sn_including (u := 0) sn_LF5 (by omega) (by decide) hA hB hQ hP L5 L5' fun w3 g4 g5 g6 g7 => ?_
  refine br_t rfl ?_
  refine sn_mark (k := 1) (r := 0) (m := nI 7) (by omega) (by decide) (by decide) ?_
  refine br_t rfl ?_
  refine sn_mark (k := 1) (r := 1) (m := nI 7) (by omega) (by decide) (by decide) ?_
  refine br_t rfl ?_
  refine nm_r (e' := nI (a + b + c)) (by rw [nI_add, nI_add]) ?_
  refine nm_r (nI_add d e) ?_
  refine sn_min (a + b + c) (d + e) rfl rfl (by omega) (by omega) ?_
  refine nm_r (nI_add e f) ?_
  refine sn_min (min (a + b + c) (d + e)) (e + f) rfl rfl (by omega) (by omega) ?_
  refine nm_r (nI_add d f) ?_
  refine sn_min (min (min (a + b + c) (d + e)) (e + f)) (d + f) rfl rfl (by omega) (by omega) ?_
  refine sn_min (a + c) (b + c) (nI_add a c) (nI_add b c) (by omega) (by omega) ?_
  refine sn_min (min (min (min (a + b + c) (d + e)) (e + f)) (d + f)) (d + min (a + c) (b + c)) rfl (nI_add _ _) (by omega) (by omega) ?_
  refine sn_min (a + b) (a + c) (nI_add a b) (nI_add a c) (by omega) (by omega) ?_
  refine sn_min (min (min (min (min (a + b + c) (d + e)) (e + f)) (d + f)) (d + min (a + c) (b + c))) (e + min (a + b) (a + c)) rfl (nI_add _ _) (by omega) (by omega) ?_
  refine sn_min (a + b) (b + c) (nI_add a b) (nI_add b c) (by omega) (by omega) ?_
  refine sn_min (min (min (min (min (min (a + b + c) (d + e)) (e + f)) (d + f)) (d + min (a + c) (b + c))) (e + min (a + b) (a + c))) (f + min (a + b) (b + c)) rfl (nI_add _ _) (by omega) (by omega) ?_
  rw [sn_v7 a2 b2 c2]
  have x6 : sn_x6 (sn_ct (sn_pr a b c d e f) 0) (sn_ct (sn_pr a b c d e f) 1) (sn_ct (sn_pr a b c d e f) 2) (sn_ct (sn_pr a b c d e f) 3) (sn_ct (sn_pr a b c d e f) 4) (sn_ct (sn_pr a b c d e f) 5) := ⟨sn_ct_le hP 0 (by omega), sn_ct_le hP 1 (by omega), sn_ct_le hP 2 (by omega), sn_ct_le hP 3 (by omega), sn_ct_le hP 4 (by omega), sn_ct_le hP 5 (by omega)⟩
  refine sn_least7 hA hB hQ hP sn_pr_6 L7 (by omega) fun q w4 g4 g5 g6 g7 hq hs => ?_
  refine br_t rfl ?_
  refine sn_including_far (u := 4) sn_LF23 (by omega) (by decide) hA hB hQ hP rfl (sn_far4 (sn_dm_x6 x6)) (Nat.lt_of_le_of_lt (Nat.le_trans sn_cl_le (Nat.min_le_left _ _)) (by decide)) fun w5 g4 g5 g6 g7 => ?_
  refine br_t rfl ?_
  refine sn_including (u := 2) sn_LF7 (by omega) (by decide) hA hB hQ hP L7 (by omega) fun w6 g4 g5 g6 g7 => ?_
  refine br_t rfl ?_
  refine sn_chosen (k := 0) (by omega) hQ hP a1 (by omega) hq ?_
  refine sn_chosen (k := 1) (by omega) hQ hP b1 (by omega) hq ?_
  refine sn_chosen (k := 2) (by omega) hQ hP c1 (by omega) hq ?_
  refine sn_chosen (k := 3) (by omega) hQ hP d1 (by omega) hq ?_
  refine sn_chosen (k := 4) (by omega) hQ hP e1 (by omega) hq ?_
  refine sn_chosen (k := 5) (by omega) hQ hP f1 (by omega) hq ?_
  have es : sn_sum (sn_pr a b c d e f) q = q / 2 ^ 0 % 2 * a + q / 2 ^ 1 % 2 * b + q / 2 ^ 2 % 2 * c + q / 2 ^ 3 % 2 * d + q / 2 ^ 4 % 2 * e + q / 2 ^ 5 % 2 * f := by
    have t0 : q / 2 ^ 0 % 2 = q % 2 := by omega
    have t1 : q / 2 ^ 1 % 2 = q / 2 % 2 := by omega
    have t2 : q / 2 ^ 2 % 2 = q / 4 % 2 := by omega
    have t3 : q / 2 ^ 3 % 2 = q / 8 % 2 := by omega
    have t4 : q / 2 ^ 4 % 2 = q / 16 % 2 := by omega
    have t5 : q / 2 ^ 5 % 2 = q / 32 % 2 := by omega
    rw [t0, t1, t2, t3, t4, t5]
    rfl
  refine nm_r (e' := nI (sn_T a b c d e f)) (by rw [pk_mul, pk_mul, pk_mul, pk_mul, pk_mul, pk_mul, nI_add, nI_add, nI_add, nI_add, nI_add, ← es, hs]) ?_
  refine br_t rfl ?_
  refine sn_chosen_no (k := 6) (by omega) hQ rfl ?_
  refine br_t rfl ?_
  refine sn_cut (k := 3) (by omega) hQ hP d1 ?_
  refine br_t rfl ?_
  have hQ3 := sn_cut3 hQ
  have hP3 : ∀ j, j < 10 → sn_pr a b c 0 e f j ≤ 100 := sn_pr_le a2 b2 c2 (by omega) e2 f2
  refine sn_cut (k := 4) (by omega) hQ3 hP3 e1 ?_
  refine br_t rfl ?_
  have hQ4 := sn_cut4 hQ3
  have hP4 : ∀ j, j < 10 → sn_pr a b c 0 0 f j ≤ 100 := sn_pr_le a2 b2 c2 (by omega) (by omega) f2
  refine sn_cut (k := 5) (by omega) hQ4 hP4 f1 ?_
  refine br_t rfl ?_
  have hQ5 := sn_cut5 hQ4
  have hP5 : ∀ j, j < 10 → sn_pr a b c 0 0 0 j ≤ 100 := sn_pr_le a2 b2 c2 (by omega) (by omega) (by omega)
  have l0 : sn_ct (sn_pr a b c 0 0 0) 0 = a := sn_ct_pos rfl a1
  have l1 : sn_ct (sn_pr a b c 0 0 0) 1 = b := sn_ct_pos rfl b1
  have l2 : sn_ct (sn_pr a b c 0 0 0) 2 = c := sn_ct_pos rfl c1
  have l3 : sn_ct (sn_pr a b c 0 0 0) 3 = 100000 := sn_ct_zero rfl
  have l4 : sn_ct (sn_pr a b c 0 0 0) 4 = 100000 := sn_ct_zero rfl
  have l5 : sn_ct (sn_pr a b c 0 0 0) 5 = 100000 := sn_ct_zero rfl
  have M7 : sn_TC (sn_ct (sn_pr a b c 0 0 0)) = a + b + c := by unfold sn_TC; rw [l0, l1, l2, l3, l4, l5, sn_T_cut a2 b2 c2]
  have M7w : sn_TC (sn_up (sn_ct (sn_pr a b c 0 0 0)) 1 0) = a + c := by
    have z : sn_TC (sn_up (sn_ct (sn_pr a b c 0 0 0)) 1 0) = sn_T (sn_ct (sn_pr a b c 0 0 0) 0) 0 (sn_ct (sn_pr a b c 0 0 0) 2) (sn_ct (sn_pr a b c 0 0 0) 3) (sn_ct (sn_pr a b c 0 0 0) 4) (sn_ct (sn_pr a b c 0 0 0) 5) := rfl
    rw [z, l0, l2, l3, l4, l5, sn_T_cut a2 (by omega) c2]
    omega
  have M7o : sn_TC (sn_up (sn_ct (sn_pr a b c 0 0 0)) 1 100000) = 100000 := by
    have z : sn_TC (sn_up (sn_ct (sn_pr a b c 0 0 0)) 1 100000) = sn_T (sn_ct (sn_pr a b c 0 0 0) 0) 100000 (sn_ct (sn_pr a b c 0 0 0) 2) (sn_ct (sn_pr a b c 0 0 0) 3) (sn_ct (sn_pr a b c 0 0 0) 4) (sn_ct (sn_pr a b c 0 0 0) 5) := rfl
    rw [z, l0, l2, l3, l4, l5, sn_T_out]
  have M15 : sn_q3 (sn_dm (sn_ct (sn_pr a b c 0 0 0) 0) (sn_ct (sn_pr a b c 0 0 0) 1) (sn_ct (sn_pr a b c 0 0 0) 2) (sn_ct (sn_pr a b c 0 0 0) 3) (sn_ct (sn_pr a b c 0 0 0) 4) (sn_ct (sn_pr a b c 0 0 0) 5)) 3 = a + b + c := by rw [l0, l1, l2, l3, l4, l5, sn_star a2 b2 c2]
  refine sn_least7 hA hB hQ5 hP5 sn_pr_6 M7 (by omega) fun q2 w7 g4 g5 g6 g7 hq2 hs2 => ?_
  refine br_t rfl ?_
  refine sn_with (k := 1) sn_LF7 (by omega) hA hB hQ5 hP5 b1 M7w (by omega) fun w8 g4 g5 g6 g7 => ?_
  refine br_t (congrArg nI (show a + c + b = a + b + c by omega)) ?_
  refine sn_without (k := 1) sn_LF7 (by omega) hA hB hQ5 hP5 b1 M7o (Nat.le_refl _) (by decide) fun w9 g4 g5 g6 g7 => ?_
  refine br_t rfl ?_
  refine sn_chosen (k := 2) (by omega) hQ5 hP5 c1 (by omega) hq2 ?_
  refine br_t (by rw [sn_all b1 c1 hs2]; rfl) ?_
  refine sn_including (u := 3) sn_LF15 (by omega) (by decide) hA hB hQ5 hP5 M15 (by omega) fun w10 g4 g5 g6 g7 => ?_
  exact br_t rfl H
theorem sn_cell {post : Int32 → Prop} {L : Nat} {xs : Nat → Int32} (k : Nat) (hk : k < 6) (hL : L ≤ 6) (H : ∀ x, post x) : wpL_cellAt post L xs () (nI k) :=
  pk_le L k (fun _ => H _) (fun z => ⟨pk_in k L z, H _⟩)
theorem i_vc (xs : Nat → Int32) (L : Nat) (hL : L ≤ 6) : wpL_law (fun r => r = 1) L xs := by
  unfold wpL_law
  refine sn_cell 0 (by omega) hL fun x0 => ?_
  refine sn_cell 1 (by omega) hL fun x1 => ?_
  refine sn_cell 2 (by omega) hL fun x2 => ?_
  refine sn_cell 3 (by omega) hL fun x3 => ?_
  refine sn_cell 4 (by omega) hL fun x4 => ?_
  refine sn_cell 5 (by omega) hL fun x5 => ?_
  exact ⟨296, 4720, by omega, by omega, sn_lawOf rfl⟩
end
