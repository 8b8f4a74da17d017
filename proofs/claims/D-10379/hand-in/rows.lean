section
/-! ===== PLAIN LAW: lines (ten, numbered), points (seven), what a choice of lines costs and joins ===== -/
noncomputable def sn_d (p : Prop) : Bool := @decide p (Classical.propDecidable p)
theorem sn_d_iff {p : Prop} : sn_d p = true ↔ p := @decide_eq_true_iff p (Classical.propDecidable p)
/-- a line's share of the cost -/
def sn_tm (c : Nat → Nat) (F : Nat → Bool) (j : Nat) : Nat := if F j = true then c j else 0
theorem sn_tm_t {c : Nat → Nat} {F : Nat → Bool} {j : Nat} (h : F j = true) : sn_tm c F j = c j := if_pos h
theorem sn_tm_f {c : Nat → Nat} {F : Nat → Bool} {j : Nat} (h : ¬ F j = true) : sn_tm c F j = 0 := if_neg h
def sn_cost (c : Nat → Nat) (F : Nat → Bool) : Nat → Nat
  | 0 => 0
  | n + 1 => sn_cost c F n + sn_tm c F n
theorem sn_cost_le {c d : Nat → Nat} {F G : Nat → Bool} : ∀ n, (∀ j, j < n → sn_tm c F j ≤ sn_tm d G j) → sn_cost c F n ≤ sn_cost d G n
  | 0, _ => Nat.le_refl 0
  | n + 1, h => Nat.add_le_add (sn_cost_le n (fun j hj => h j (Nat.lt_succ_of_lt hj))) (h n (Nat.lt_succ_self n))
theorem sn_cost_eq {c d : Nat → Nat} {F G : Nat → Bool} (n : Nat) (h : ∀ j, j < n → sn_tm c F j = sn_tm d G j) : sn_cost c F n = sn_cost d G n :=
  Nat.le_antisymm (sn_cost_le n (fun j hj => Nat.le_of_eq (h j hj))) (sn_cost_le n (fun j hj => Nat.le_of_eq (h j hj).symm))
theorem sn_cost_add {c d e : Nat → Nat} {F G H : Nat → Bool} : ∀ n, (∀ j, j < n → sn_tm c F j ≤ sn_tm d G j + sn_tm e H j) → sn_cost c F n ≤ sn_cost d G n + sn_cost e H n
  | 0, _ => Nat.zero_le _
  | n + 1, h => by
    have h1 := sn_cost_add n (fun j hj => h j (Nat.lt_succ_of_lt hj))
    have h2 := h n (Nat.lt_succ_self n)
    show sn_cost c F n + sn_tm c F n ≤ (sn_cost d G n + sn_tm d G n) + (sn_cost e H n + sn_tm e H n)
    omega
theorem sn_cost_dis {c d e : Nat → Nat} {F G H : Nat → Bool} : ∀ n, (∀ j, j < n → sn_tm d G j + sn_tm e H j ≤ sn_tm c F j) → sn_cost d G n + sn_cost e H n ≤ sn_cost c F n
  | 0, _ => Nat.le_refl 0
  | n + 1, h => by
    have h1 := sn_cost_dis n (fun j hj => h j (Nat.lt_succ_of_lt hj))
    have h2 := h n (Nat.lt_succ_self n)
    show (sn_cost d G n + sn_tm d G n) + (sn_cost e H n + sn_tm e H n) ≤ sn_cost c F n + sn_tm c F n
    omega
theorem sn_cost_dif {c d : Nat → Nat} {F G : Nat → Bool} {k : Nat} : ∀ n, k < n → (∀ j, j < n → j ≠ k → sn_tm c F j = sn_tm d G j) → sn_cost c F n + sn_tm d G k = sn_cost d G n + sn_tm c F k
  | 0, hk, _ => absurd hk (Nat.not_lt_zero k)
  | n + 1, hk, h => by
    show (sn_cost c F n + sn_tm c F n) + sn_tm d G k = (sn_cost d G n + sn_tm d G n) + sn_tm c F k
    rcases Nat.lt_or_ge k n with z | z
    · have h1 := sn_cost_dif n z (fun j hj => h j (Nat.lt_succ_of_lt hj))
      have h2 := h n (Nat.lt_succ_self n) (by omega)
      omega
    · have e : k = n := by omega
      subst e
      have h1 := sn_cost_eq k (fun j hj => h j (Nat.lt_succ_of_lt hj) (by omega))
      omega
theorem sn_cost_one {c : Nat → Nat} {F : Nat → Bool} {k : Nat} : ∀ n, k < n → sn_tm c F k ≤ sn_cost c F n
  | 0, hk => absurd hk (Nat.not_lt_zero k)
  | n + 1, hk => by
    show sn_tm c F k ≤ sn_cost c F n + sn_tm c F n
    rcases Nat.lt_or_ge k n with z | z
    · have h1 := sn_cost_one (c := c) (F := F) n z
      omega
    · have e : k = n := by omega
      subst e
      omega
theorem sn_cost_bd {c : Nat → Nat} {F : Nat → Bool} {B : Nat} : ∀ n, (∀ j, j < n → sn_tm c F j ≤ B) → sn_cost c F n ≤ n * B
  | 0, _ => Nat.zero_le _
  | n + 1, h => by
    have h1 := sn_cost_bd n (fun j hj => h j (Nat.lt_succ_of_lt hj))
    have h2 := h n (Nat.lt_succ_self n)
    show sn_cost c F n + sn_tm c F n ≤ (n + 1) * B
    rw [Nat.succ_mul]
    omega
theorem sn_cost_zero {c : Nat → Nat} {F : Nat → Bool} (n : Nat) (h : ∀ j, j < n → sn_tm c F j = 0) : sn_cost c F n = 0 := by
  have h1 := sn_cost_bd (c := c) (F := F) (B := 0) n (fun j hj => Nat.le_of_eq (h j hj))
  omega
/-- the choice of lines F joins u and v: no set of points that F's lines don't leave parts them -/
def sn_cn (ea eb : Nat → Nat) (F : Nat → Bool) (u v : Nat) : Prop :=
  ∀ A : Nat → Prop, (∀ k, k < 10 → F k = true → (A (ea k) ↔ A (eb k))) → (A u ↔ A v)
section
variable {ea eb : Nat → Nat} {F G : Nat → Bool}
theorem sn_cn_r (u : Nat) : sn_cn ea eb F u u := fun _ _ => Iff.rfl
theorem sn_cn_s {u v : Nat} (h : sn_cn ea eb F u v) : sn_cn ea eb F v u := fun A hA => (h A hA).symm
theorem sn_cn_t {u v w : Nat} (h : sn_cn ea eb F u v) (h2 : sn_cn ea eb F v w) : sn_cn ea eb F u w := fun A hA => (h A hA).trans (h2 A hA)
theorem sn_cn_m {u v : Nat} (hs : ∀ k, k < 10 → F k = true → G k = true) (h : sn_cn ea eb F u v) : sn_cn ea eb G u v := fun A hA => h A (fun k hk hF => hA k hk (hs k hk hF))
theorem sn_cn_e {k : Nat} (hk : k < 10) (h : F k = true) : sn_cn ea eb F (ea k) (eb k) := fun A hA => hA k hk h
/-- F without the line k -/
def sn_rm (F : Nat → Bool) (k : Nat) : Nat → Bool := fun j => F j && decide (j ≠ k)
theorem sn_rm_t {k j : Nat} : sn_rm F k j = true ↔ F j = true ∧ j ≠ k := by
  unfold sn_rm
  rw [Bool.and_eq_true, decide_eq_true_iff]
theorem sn_cn_rm1 {k u t v y : Nat} (hA : ∀ A : Nat → Prop, (A v ↔ A y) → (A (ea k) ↔ A (eb k))) (h : sn_cn ea eb (sn_rm F k) v y) (ht : sn_cn ea eb F u t) : sn_cn ea eb (sn_rm F k) u t := by
  intro A hc
  refine ht A (fun j hj hF => ?_)
  by_cases e : j = k
  · subst e
    exact hA A (h A hc)
  · exact hc j hj (sn_rm_t.mpr ⟨hF, e⟩)
theorem sn_cn_rm2 {k t v y : Nat} (hA : ∀ A : Nat → Prop, (A v ↔ A y) → (A (ea k) ↔ A (eb k))) (ht : sn_cn ea eb F v t) : sn_cn ea eb (sn_rm F k) v t ∨ sn_cn ea eb (sn_rm F k) y t := by
  refine (ht (fun z => sn_cn ea eb (sn_rm F k) v z ∨ sn_cn ea eb (sn_rm F k) y z) (fun j hj hF => ?_)).mp (Or.inl (sn_cn_r v))
  by_cases e : j = k
  · subst e
    exact hA (fun z => sn_cn ea eb (sn_rm F j) v z ∨ sn_cn ea eb (sn_rm F j) y z) ⟨fun _ => Or.inr (sn_cn_r y), fun _ => Or.inl (sn_cn_r v)⟩
  · have he : sn_cn ea eb (sn_rm F k) (ea j) (eb j) := sn_cn_e hj (sn_rm_t.mpr ⟨hF, e⟩)
    exact ⟨fun z => z.elim (fun q => Or.inl (sn_cn_t q he)) (fun q => Or.inr (sn_cn_t q he)), fun z => z.elim (fun q => Or.inl (sn_cn_t q (sn_cn_s he))) (fun q => Or.inr (sn_cn_t q (sn_cn_s he)))⟩
theorem sn_cn_sub {u t : Nat} (hG : ∀ j, j < 10 → F j = true → sn_cn ea eb F u (ea j) → G j = true) (ht : sn_cn ea eb F u t) : sn_cn ea eb G u t := by
  intro A hA
  have h := (ht (fun z => sn_cn ea eb F u z ∧ (A z ↔ A u)) (fun j hj hF => ?_)).mp ⟨sn_cn_r u, Iff.rfl⟩
  · exact h.2.symm
  · have he : sn_cn ea eb F (ea j) (eb j) := sn_cn_e hj hF
    constructor
    · intro z
      exact ⟨sn_cn_t z.1 he, (hA j hj (hG j hj hF z.1)).symm.trans z.2⟩
    · intro z
      have z1 := sn_cn_t z.1 (sn_cn_s he)
      exact ⟨z1, (hA j hj (hG j hj hF z1)).trans z.2⟩
theorem sn_cn_0 {v t : Nat} (h : ∀ k, k < 10 → F k = true → ea k ≠ v ∧ eb k ≠ v) (ht : sn_cn ea eb F v t) : t = v :=
  (ht (fun z => z = v) (fun k hk hF => ⟨fun z => absurd z (h k hk hF).1, fun z => absurd z (h k hk hF).2⟩)).mp rfl
end
/-! masks -/
theorem sn_mask (Q : Nat → Prop) (s : Nat) : ∀ m, ∃ h : Nat, ∀ i, h.testBit i = true ↔ i < m ∧ s.testBit i = true ∧ Q i
  | 0 => ⟨0, fun i => by rw [Nat.zero_testBit]; exact ⟨fun z => absurd z Bool.false_ne_true, fun z => absurd z.1 (Nat.not_lt_zero i)⟩⟩
  | m + 1 => by
    obtain ⟨h, hh⟩ := sn_mask Q s m
    by_cases z : s.testBit m = true ∧ Q m
    · refine ⟨h ||| 2 ^ m, fun i => ?_⟩
      rw [Nat.testBit_or, Nat.testBit_two_pow, Bool.or_eq_true, hh i, decide_eq_true_iff]
      constructor
      · intro a
        rcases a with a | a
        · exact ⟨by omega, a.2⟩
        · subst a
          exact ⟨by omega, z⟩
      · intro a
        by_cases e : m = i
        · exact Or.inr e
        · exact Or.inl ⟨by omega, a.2⟩
    · refine ⟨h, fun i => ?_⟩
      rw [hh i]
      constructor
      · intro a
        exact ⟨by omega, a.2⟩
      · intro a
        by_cases e : i = m
        · subst e
          exact absurd a.2 z
        · exact ⟨by omega, a.2⟩
theorem sn_sub_x : ∀ s, s < 64 → ∀ h, h < 64 → h &&& s = h → s - h = s ^^^ h := by decide +kernel
theorem sn_sub_b {s h : Nat} (hs : s < 64) (hh : h &&& s = h) (i : Nat) : (s - h).testBit i = (s.testBit i && !h.testBit i) := by
  have hle : h ≤ s := by rw [← hh]; exact Nat.and_le_right
  have hb : h.testBit i = (h.testBit i && s.testBit i) := by rw [← Nat.testBit_and, hh]
  rw [sn_sub_x s hs h (by omega) hh, Nat.testBit_xor]
  revert hb
  cases h.testBit i <;> cases s.testBit i <;> intro hb <;> simp_all
theorem sn_bit_lt {s m i : Nat} (hs : s < 2 ^ m) (hb : s.testBit i = true) : i < m := by
  rcases Nat.lt_or_ge i m with z | z
  · exact z
  · have h1 : 2 ^ m ≤ 2 ^ i := Nat.pow_le_pow_right (by omega) z
    rw [Nat.testBit_lt_two_pow (by omega)] at hb
    exact absurd hb Bool.false_ne_true
/-! the table of parts: no choice of lines is cheaper than it says -/
def sn_tab (ea eb c w : Nat → Nat) (m : Nat) (P : Nat → Nat → Nat) : Prop :=
  (∀ i, i < m → P (2 ^ i) (w i) = 0) ∧
  (∀ s, 0 < s → s < 2 ^ m → ∀ k, k < 10 → P s (ea k) ≤ P s (eb k) + c k ∧ P s (eb k) ≤ P s (ea k) + c k) ∧
  (∀ s h v, 0 < h → h < s → s < 2 ^ m → h &&& s = h → v < 7 → P s v ≤ P h v + P (s - h) v)
theorem sn_cost_rm {c : Nat → Nat} {F : Nat → Bool} {k : Nat} (hk : k < 10) (hF : F k = true) : sn_cost c (sn_rm F k) 10 + c k = sn_cost c F 10 := by
  have h := sn_cost_dif (c := c) (d := c) (F := sn_rm F k) (G := F) (k := k) 10 hk (fun j hj e => by
    by_cases hj2 : F j = true
    · rw [sn_tm_t hj2, sn_tm_t (sn_rm_t.mpr ⟨hj2, e⟩)]
    · rw [sn_tm_f hj2, sn_tm_f (fun z => hj2 (sn_rm_t.mp z).1)])
  rw [sn_tm_t hF, sn_tm_f (F := sn_rm F k) (fun z => (sn_rm_t.mp z).2 rfl)] at h
  omega
theorem sn_low {ea eb c w : Nat → Nat} {m : Nat} {P : Nat → Nat → Nat} (hm : m ≤ 6) (hea : ∀ k, k < 10 → ea k < 7) (heb : ∀ k, k < 10 → eb k < 7) (hT : sn_tab ea eb c w m P) (hw : ∀ i j, i < m → j < m → w i = w j → i = j) :
    ∀ n F s v, sn_cost (fun _ => 1) F 10 < n → 0 < s → s < 2 ^ m → v < 7 → (∀ i, i < m → s.testBit i = true → sn_cn ea eb F v (w i)) → P s v ≤ sn_cost c F 10
  | 0, _, _, _, hF, _, _, _, _ => absurd hF (Nat.not_lt_zero _)
  | n + 1, F, s, v, hF, s0, sm, hv, hc => by
    have h64 : s < 64 := Nat.lt_of_lt_of_le sm (Nat.pow_le_pow_right (n := 2) (by omega) hm)
    by_cases hE : ∃ k, k < 10 ∧ F k = true ∧ (ea k = v ∨ eb k = v)
    · obtain ⟨k, hk, hFk, hkv⟩ := hE
      have hy : ∃ y, y < 7 ∧ (∀ A : Nat → Prop, (A v ↔ A y) → (A (ea k) ↔ A (eb k))) ∧ ∀ s, 0 < s → s < 2 ^ m → P s v ≤ P s y + c k := by
        rcases hkv with e | e
        · exact ⟨eb k, heb k hk, fun A h => by rw [e]; exact h, fun s h0 h1 => by have h := (hT.2.1 s h0 h1 k hk).1; rwa [e] at h⟩
        · exact ⟨ea k, hea k hk, fun A h => by rw [e]; exact h.symm, fun s h0 h1 => by have h := (hT.2.1 s h0 h1 k hk).2; rwa [e] at h⟩
      obtain ⟨y, y7, hA, hP⟩ := hy
      have c1 := sn_cost_rm (c := c) hk hFk
      have c2 := sn_cost_rm (c := fun _ => 1) hk hFk
      have c2' : sn_cost (fun _ => 1) (sn_rm F k) 10 + 1 = sn_cost (fun _ => 1) F 10 := c2
      by_cases hvy : sn_cn ea eb (sn_rm F k) v y
      · have h := sn_low hm hea heb hT hw n (sn_rm F k) s v (by omega) s0 sm hv (fun i hi hb => sn_cn_rm1 hA hvy (hc i hi hb))
        omega
      · obtain ⟨h, hh⟩ := sn_mask (fun i => sn_cn ea eb (sn_rm F k) v (w i)) s m
        have hs : h &&& s = h := by
          refine Nat.eq_of_testBit_eq (fun i => ?_)
          rw [Nat.testBit_and]
          by_cases z : h.testBit i = true
          · rw [z, ((hh i).mp z).2.1]; rfl
          · rw [Bool.eq_false_iff.mpr z]; rfl
        have hle : h ≤ s := by rw [← hs]; exact Nat.and_le_right
        by_cases h0 : h = 0
        · have g := sn_low hm hea heb hT hw n (sn_rm F k) s y (by omega) s0 sm y7 (fun i hi hb => by
            rcases sn_cn_rm2 hA (hc i hi hb) with q | q
            · have q2 := (hh i).mpr ⟨hi, hb, q⟩
              rw [h0, Nat.zero_testBit] at q2
              exact absurd q2 Bool.false_ne_true
            · exact q)
          have g2 := hP s s0 sm
          omega
        · by_cases h1 : h = s
          · have g := sn_low hm hea heb hT hw n (sn_rm F k) s v (by omega) s0 sm hv (fun i hi hb => ((hh i).mp (by rw [h1]; exact hb)).2.2)
            omega
          · obtain ⟨F1, t1⟩ : ∃ F1 : Nat → Bool, ∀ j, F1 j = true ↔ (sn_rm F k j = true ∧ sn_cn ea eb (sn_rm F k) v (ea j)) := ⟨fun j => sn_d (sn_rm F k j = true ∧ sn_cn ea eb (sn_rm F k) v (ea j)), fun j => sn_d_iff⟩
            obtain ⟨F2, t2⟩ : ∃ F2 : Nat → Bool, ∀ j, F2 j = true ↔ (sn_rm F k j = true ∧ ¬ sn_cn ea eb (sn_rm F k) v (ea j)) := ⟨fun j => sn_d (sn_rm F k j = true ∧ ¬ sn_cn ea eb (sn_rm F k) v (ea j)), fun j => sn_d_iff⟩
            have d1 : ∀ e : Nat → Nat, sn_cost e F1 10 + sn_cost e F2 10 ≤ sn_cost e (sn_rm F k) 10 := fun e => sn_cost_dis 10 (fun j _ => by
              by_cases q : sn_rm F k j = true
              · rw [sn_tm_t q]
                by_cases q2 : sn_cn ea eb (sn_rm F k) v (ea j)
                · rw [sn_tm_t ((t1 j).mpr ⟨q, q2⟩), sn_tm_f (F := F2) (fun z => ((t2 j).mp z).2 q2)]
                  exact Nat.le_refl _
                · rw [sn_tm_t ((t2 j).mpr ⟨q, q2⟩), sn_tm_f (F := F1) (fun z => q2 ((t1 j).mp z).2)]
                  omega
              · rw [sn_tm_f (F := F1) (fun z => q ((t1 j).mp z).1), sn_tm_f (F := F2) (fun z => q ((t2 j).mp z).1)]
                exact Nat.zero_le _)
            have dc := d1 c
            have dn := d1 (fun _ => 1)
            have g1 := sn_low hm hea heb hT hw n F1 h v (by omega) (by omega) (by omega) hv (fun i hi hb => sn_cn_sub (fun j hj q q2 => (t1 j).mpr ⟨q, q2⟩) ((hh i).mp hb).2.2)
            have g2 := sn_low hm hea heb hT hw n F2 (s - h) y (by omega) (by omega) (by omega) y7 (fun i hi hb => by
              rw [sn_sub_b h64 hs, Bool.and_eq_true, Bool.not_eq_true'] at hb
              refine sn_cn_sub (F := sn_rm F k) (fun j hj q q2 => (t2 j).mpr ⟨q, fun q3 => hvy (sn_cn_t q3 (sn_cn_s q2))⟩) ?_
              rcases sn_cn_rm2 hA (hc i hi hb.1) with q | q
              · have q2 := (hh i).mpr ⟨hi, hb.1, q⟩
                rw [hb.2] at q2
                exact absurd q2 Bool.false_ne_true
              · exact q)
            have g3 := hP (s - h) (by omega) (by omega)
            have g4 := hT.2.2 s h v (by omega) (by omega) sm hs hv
            omega
    · have hE2 : ∀ k, k < 10 → F k = true → ea k ≠ v ∧ eb k ≠ v := fun k hk hFk => ⟨fun e => hE ⟨k, hk, hFk, Or.inl e⟩, fun e => hE ⟨k, hk, hFk, Or.inr e⟩⟩
      obtain ⟨i, hi⟩ := Nat.exists_testBit_of_ne_zero (show s ≠ 0 by omega)
      have im := sn_bit_lt sm hi
      have wi := sn_cn_0 hE2 (hc i im hi)
      have es : s = 2 ^ i := by
        refine Nat.eq_of_testBit_eq (fun j => ?_)
        rw [Nat.testBit_two_pow]
        by_cases z : s.testBit j = true
        · have jm := sn_bit_lt sm z
          have wj := sn_cn_0 hE2 (hc j jm z)
          rw [z, decide_eq_true (hw i j im jm (by rw [wi, wj]))]
        · rw [Bool.eq_false_iff.mpr z, decide_eq_false (fun e => z (by rw [← e]; exact hi))]
      have g := hT.1 i im
      rw [wi, ← es] at g
      rw [g]
      exact Nat.zero_le _
end
section
/-! ===== PLAIN LAW: the least cost of a choice that joins the points of a set; the greedy choice; what the law asks ===== -/
def sn_ok (c : Nat → Nat) (Φ : (Nat → Bool) → Prop) (x : Nat) : Prop := 100000 ≤ x ∨ ∃ F, Φ F ∧ sn_cost c F 10 ≤ x
theorem sn_ok_m {c : Nat → Nat} {Φ Ψ : (Nat → Bool) → Prop} {x y : Nat} (h : sn_ok c Φ x) (hm : ∀ F, Φ F → Ψ F) (hx : x ≤ y) : sn_ok c Ψ y := by
  rcases h with h | ⟨F, h1, h2⟩
  · exact Or.inl (Nat.le_trans h hx)
  · exact Or.inr ⟨F, hm F h1, Nat.le_trans h2 hx⟩
def sn_or (F G : Nat → Bool) : Nat → Bool := fun j => F j || G j
theorem sn_or_l {F G : Nat → Bool} {j : Nat} (h : F j = true) : sn_or F G j = true := by unfold sn_or; rw [h]; rfl
theorem sn_or_r {F G : Nat → Bool} {j : Nat} (h : G j = true) : sn_or F G j = true := by unfold sn_or; rw [h]; exact Bool.or_true _
theorem sn_cost_or (c : Nat → Nat) (F G : Nat → Bool) (n : Nat) : sn_cost c (sn_or F G) n ≤ sn_cost c F n + sn_cost c G n := by
  refine sn_cost_add n (fun j _ => ?_)
  by_cases h : F j = true
  · rw [sn_tm_t h, sn_tm_t (sn_or_l h)]
    omega
  · by_cases h2 : G j = true
    · rw [sn_tm_t h2, sn_tm_t (sn_or_r h2)]
      omega
    · rw [sn_tm_f (F := sn_or F G)]
      · exact Nat.zero_le _
      · intro z
        unfold sn_or at z
        rw [Bool.or_eq_true] at z
        exact z.elim h h2
theorem sn_ok_add {c : Nat → Nat} {Φ Ψ Θ : (Nat → Bool) → Prop} {x y : Nat} (h : sn_ok c Φ x) (h2 : sn_ok c Ψ y) (hm : ∀ F G, Φ F → Ψ G → Θ (sn_or F G)) : sn_ok c Θ (x + y) := by
  rcases h with h | ⟨F, h1, h3⟩
  · exact Or.inl (by omega)
  · rcases h2 with h2 | ⟨G, g1, g2⟩
    · exact Or.inl (by omega)
    · have hc := sn_cost_or c F G 10
      exact Or.inr ⟨sn_or F G, hm F G h1 g1, by omega⟩
theorem sn_cn_l {ea eb : Nat → Nat} {F G : Nat → Bool} {u v : Nat} (h : sn_cn ea eb F u v) : sn_cn ea eb (sn_or F G) u v := sn_cn_m (fun _ _ z => sn_or_l z) h
theorem sn_cn_rr {ea eb : Nat → Nat} {F G : Nat → Bool} {u v : Nat} (h : sn_cn ea eb G u v) : sn_cn ea eb (sn_or F G) u v := sn_cn_m (fun _ _ z => sn_or_r z) h
/-- no line at all -/
theorem sn_ok_0 {c : Nat → Nat} {Φ : (Nat → Bool) → Prop} {x : Nat} (h : Φ (fun _ => false)) : sn_ok c Φ x := by
  refine Or.inr ⟨fun _ => false, h, ?_⟩
  rw [sn_cost_zero 10 (fun j _ => sn_tm_f Bool.false_ne_true)]
  exact Nat.zero_le _
/-- one line -/
theorem sn_ok_1 {ea eb c : Nat → Nat} {k : Nat} (hk : k < 10) : sn_ok c (fun F => sn_cn ea eb F (ea k) (eb k)) (c k) := by
  refine Or.inr ⟨fun j => decide (j = k), sn_cn_e hk (decide_eq_true rfl), ?_⟩
  have h := sn_cost_dif (c := c) (d := c) (F := fun j => decide (j = k)) (G := fun _ => false) (k := k) 10 hk (fun j _ e => by
    rw [sn_tm_f (F := fun j => decide (j = k)) (by rw [decide_eq_true_iff]; exact e), sn_tm_f (F := fun _ => false) Bool.false_ne_true])
  rw [sn_cost_zero (F := fun _ => false) 10 (fun j _ => sn_tm_f Bool.false_ne_true), sn_tm_f (F := fun _ => false) Bool.false_ne_true, sn_tm_t (F := fun j => decide (j = k)) (decide_eq_true rfl)] at h
  omega
/-- F joins all points of the set M -/
def sn_js (ea eb : Nat → Nat) (M : Nat) (F : Nat → Bool) : Prop := ∀ p q, p < 7 → q < 7 → M.testBit p = true → M.testBit q = true → sn_cn ea eb F p q
/-- x is the least cost, cut at FAR -/
def sn_L (ea eb c : Nat → Nat) (M x : Nat) : Prop := x ≤ 100000 ∧ sn_ok c (sn_js ea eb M) x ∧ ∀ F, sn_js ea eb M F → x ≤ sn_cost c F 10
section
variable {ea eb c : Nat → Nat} {M x y : Nat}
theorem sn_L_le {c' : Nat → Nat} {M' : Nat} (h : sn_L ea eb c M x) (h' : sn_L ea eb c' M' y) (hM : ∀ p, p < 7 → M.testBit p = true → M'.testBit p = true) (hc : ∀ F, sn_cost c' F 10 ≤ y → sn_cost c F 10 ≤ sn_cost c' F 10) : x ≤ y := by
  rcases h'.2.1 with g | ⟨F, g1, g2⟩
  · exact Nat.le_trans h.1 g
  · have := h.2.2 F (fun p q hp hq bp bq => g1 p q hp hq (hM p hp bp) (hM q hq bq))
    have := hc F g2
    omega
theorem sn_L_u (h : sn_L ea eb c M x) (h' : sn_L ea eb c M y) : x = y :=
  Nat.le_antisymm (sn_L_le h h' (fun _ _ z => z) (fun _ _ => Nat.le_refl _)) (sn_L_le h' h (fun _ _ z => z) (fun _ _ => Nat.le_refl _))
def sn_up (c : Nat → Nat) (k x : Nat) : Nat → Nat := fun j => if j = k then x else c j
theorem sn_up_s {k v : Nat} : sn_up c k v k = v := if_pos rfl
theorem sn_up_n {k v j : Nat} (h : j ≠ k) : sn_up c k v j = c j := if_neg h
theorem sn_tm_up {F : Nat → Bool} {k v j : Nat} (h : j ≠ k) : sn_tm (sn_up c k v) F j = sn_tm c F j := by
  unfold sn_tm
  rw [sn_up_n h]
theorem sn_cost_upf {F : Nat → Bool} {k v : Nat} (h : ¬ F k = true) : sn_cost (sn_up c k v) F 10 = sn_cost c F 10 := by
  refine sn_cost_eq 10 (fun j _ => ?_)
  by_cases e : j = k
  · subst e
    rw [sn_tm_f h, sn_tm_f h]
  · exact sn_tm_up e
theorem sn_cost_upt {F : Nat → Bool} {k v : Nat} (hk : k < 10) (h : F k = true) : sn_cost (sn_up c k v) F 10 + c k = sn_cost c F 10 + v := by
  have g := sn_cost_dif (c := sn_up c k v) (d := c) (F := F) (G := F) (k := k) 10 hk (fun j _ e => sn_tm_up e)
  rw [sn_tm_t h, sn_tm_t h, sn_up_s] at g
  exact g
/-- a line that can't be left out is taken in -/
theorem sn_alt {k : Nat} (hk : k < 10) (h : sn_L ea eb c M x) (hx : x < 100000) (h' : sn_L ea eb (sn_up c k 100000) M y) (hne : y ≠ x) : c k ≤ x ∧ sn_L ea eb (sn_up c k 0) M (x - c k) := by
  have hlow : ∀ G, sn_js ea eb M G → x - c k ≤ sn_cost (sn_up c k 0) G 10 := by
    intro G hG
    have g := h.2.2 G hG
    by_cases e : G k = true
    · have := sn_cost_upt (c := c) (v := 0) hk e
      omega
    · have := sn_cost_upf (c := c) (v := 0) e
      omega
  have hF : ∃ F, sn_js ea eb M F ∧ sn_cost c F 10 ≤ x := by
    rcases h.2.1 with g | g
    · omega
    · exact g
  obtain ⟨F, f1, f2⟩ := hF
  have hxy : x ≤ y := by
    refine sn_L_le h h' (fun _ _ z => z) (fun G hG => ?_)
    by_cases e : G k = true
    · have g1 := sn_cost_one (c := sn_up c k 100000) (F := G) 10 hk
      rw [sn_tm_t e, sn_up_s] at g1
      have g2 := h'.1
      have g3 := sn_cost_upt (c := c) (v := 100000) hk e
      rcases Nat.lt_or_ge 100000 (c k) with z | z
      · exfalso
        have g4 := h'.2.2 F f1
        by_cases e2 : F k = true
        · have g5 := sn_cost_one (c := c) (F := F) 10 hk
          rw [sn_tm_t e2] at g5
          omega
        · have g5 := sn_cost_upf (c := c) (v := 100000) e2
          omega
      · omega
    · exact Nat.le_of_eq (sn_cost_upf e).symm
  have hFk : F k = true := by
    by_cases e : F k = true
    · exact e
    · exfalso
      have g1 := h'.2.2 F f1
      rw [sn_cost_upf e] at g1
      omega
  have g1 := sn_cost_upt (c := c) (v := 0) hk hFk
  have g2 := sn_cost_one (c := c) (F := F) 10 hk
  rw [sn_tm_t hFk] at g2
  exact ⟨by omega, by omega, Or.inr ⟨F, f1, by omega⟩, hlow⟩
end
/-! prices, the greedy choice -/
def sn_c0 (pr : Nat → Nat) (j : Nat) : Nat := if pr j = 0 then 100000 else pr j
theorem sn_c0_p {pr : Nat → Nat} {j : Nat} (h : 0 < pr j) : sn_c0 pr j = pr j := if_neg (by omega)
theorem sn_c0_z {pr : Nat → Nat} {j : Nat} (h : pr j = 0) : sn_c0 pr j = 100000 := if_pos h
/-- the counts when the lines from k on are settled -/
def sn_gc (pr : Nat → Nat) (k B j : Nat) : Nat := if j < k then sn_c0 pr j else if B.testBit j = true then 0 else 100000
theorem sn_gc_lo {pr : Nat → Nat} {k B j : Nat} (h : j < k) : sn_gc pr k B j = sn_c0 pr j := if_pos h
theorem sn_gc_t {pr : Nat → Nat} {k B j : Nat} (h : k ≤ j) (hb : B.testBit j = true) : sn_gc pr k B j = 0 := by
  unfold sn_gc
  rw [if_neg (by omega), if_pos hb]
theorem sn_gc_f {pr : Nat → Nat} {k B j : Nat} (h : k ≤ j) (hb : ¬ B.testBit j = true) : sn_gc pr k B j = 100000 := by
  unfold sn_gc
  rw [if_neg (by omega), if_neg hb]
/-- the greedy walk's picture: k lines are left, the set B is taken, it cost t, the best is b -/
def sn_G (ea eb pr : Nat → Nat) (M b k t B : Nat) : Prop := (∀ j, B.testBit j = true → k ≤ j ∧ j < 10 ∧ 0 < pr j) ∧ t = sn_cost (sn_c0 pr) (fun j => B.testBit j) 10 ∧ b < 100000 ∧ ∃ x, sn_L ea eb (sn_gc pr k B) M x ∧ x + t = b
section
variable {ea eb pr : Nat → Nat} {M b k t B : Nat}
theorem sn_gc_0 (hB : ∀ j, B.testBit j = true → k + 1 ≤ j ∧ j < 10 ∧ 0 < pr j) : sn_gc pr k B = sn_up (sn_gc pr (k + 1) B) k 100000 := by
  funext j
  by_cases e : j = k
  · subst e
    rw [sn_up_s, sn_gc_f (Nat.le_refl j) (fun z => by have := hB j z; omega)]
  · rw [sn_up_n e]
    rcases Nat.lt_or_ge j k with z | z
    · rw [sn_gc_lo z, sn_gc_lo (by omega)]
    · by_cases q : B.testBit j = true
      · rw [sn_gc_t z q, sn_gc_t (by omega) q]
      · rw [sn_gc_f z q, sn_gc_f (by omega) q]
theorem sn_or_b (k j : Nat) : (B ||| 2 ^ k).testBit j = true ↔ B.testBit j = true ∨ k = j := by
  rw [Nat.testBit_or, Nat.testBit_two_pow, Bool.or_eq_true, decide_eq_true_iff]
theorem sn_gc_1 : sn_gc pr k (B ||| 2 ^ k) = sn_up (sn_gc pr (k + 1) B) k 0 := by
  funext j
  by_cases e : j = k
  · subst e
    rw [sn_up_s, sn_gc_t (Nat.le_refl j) ((sn_or_b j j).mpr (Or.inr rfl))]
  · rw [sn_up_n e]
    rcases Nat.lt_or_ge j k with z | z
    · rw [sn_gc_lo z, sn_gc_lo (by omega)]
    · by_cases q : B.testBit j = true
      · rw [sn_gc_t z ((sn_or_b k j).mpr (Or.inl q)), sn_gc_t (by omega) q]
      · rw [sn_gc_f z (fun y => ((sn_or_b k j).mp y).elim q (fun y => e y.symm)), sn_gc_f (by omega) q]
theorem sn_G_z (h : sn_G ea eb pr M b (k + 1) t B) (hp : pr k = 0) : sn_G ea eb pr M b k t B ∧ ∀ j, sn_gc pr k B j = sn_gc pr (k + 1) B j := by
  have e : sn_gc pr k B = sn_gc pr (k + 1) B := by
    rw [sn_gc_0 h.1]
    funext j
    by_cases e : j = k
    · subst e
      rw [sn_up_s, sn_gc_lo (by omega), sn_c0_z hp]
    · rw [sn_up_n e]
  obtain ⟨h1, h2, h3, x, h4, h5⟩ := h
  exact ⟨⟨fun j hj => ⟨by have := h1 j hj; omega, (h1 j hj).2⟩, h2, h3, x, by rw [e]; exact h4, h5⟩, fun j => by rw [e]⟩
theorem sn_G_out {y : Nat} (h : sn_G ea eb pr M b (k + 1) t B) (hy : sn_L ea eb (sn_gc pr k B) M y) (e : y + t = b) : sn_G ea eb pr M b k t B := by
  obtain ⟨h1, h2, h3, x, h4, h5⟩ := h
  exact ⟨fun j hj => ⟨by have := h1 j hj; omega, (h1 j hj).2⟩, h2, h3, y, hy, e⟩
theorem sn_G_in {y : Nat} (hk : k < 10) (h : sn_G ea eb pr M b (k + 1) t B) (hp : 0 < pr k) (hy : sn_L ea eb (sn_gc pr k B) M y) (e : y + t ≠ b) : sn_G ea eb pr M b k (t + pr k) (B ||| 2 ^ k) := by
  obtain ⟨h1, h2, h3, x, h4, h5⟩ := h
  have hb : ¬ B.testBit k = true := fun z => by have := h1 k z; omega
  have a := sn_alt hk h4 (by omega) (by rw [← sn_gc_0 h1]; exact hy) (by omega)
  rw [sn_gc_lo (Nat.lt_succ_self k), sn_c0_p hp, ← sn_gc_1] at a
  refine ⟨fun j hj => ?_, ?_, h3, x - pr k, a.2, by omega⟩
  · rcases (sn_or_b k j).mp hj with z | z
    · exact ⟨by have := h1 j z; omega, (h1 j z).2⟩
    · subst z
      exact ⟨Nat.le_refl k, hk, hp⟩
  · have g := sn_cost_dif (c := sn_c0 pr) (d := sn_c0 pr) (F := fun j => (B ||| 2 ^ k).testBit j) (G := fun j => B.testBit j) (k := k) 10 hk (fun j _ e => by
      by_cases q : B.testBit j = true
      · rw [sn_tm_t (F := fun j => B.testBit j) q, sn_tm_t (F := fun j => (B ||| 2 ^ k).testBit j) ((sn_or_b k j).mpr (Or.inl q))]
      · rw [sn_tm_f (F := fun j => B.testBit j) q, sn_tm_f (F := fun j => (B ||| 2 ^ k).testBit j) (fun y => ((sn_or_b k j).mp y).elim q (fun y => e y.symm))])
    rw [sn_tm_f (F := fun j => B.testBit j) hb, sn_tm_t (F := fun j => (B ||| 2 ^ k).testBit j) ((sn_or_b k k).mpr (Or.inr rfl)), sn_c0_p hp] at g
    omega
/-- what the best choice is -/
def sn_B (ea eb pr : Nat → Nat) (M b B : Nat) : Prop := sn_L ea eb (sn_c0 pr) M b ∧ (b < 100000 → sn_js ea eb M (fun j => B.testBit j) ∧ sn_cost (sn_c0 pr) (fun j => B.testBit j) 10 = b ∧ ∀ j, B.testBit j = true → j < 10 ∧ 0 < pr j)
theorem sn_G_end (h : sn_G ea eb pr M b 0 t B) (hb : sn_L ea eb (sn_c0 pr) M b) : sn_B ea eb pr M b B := by
  obtain ⟨h1, h2, h3, x, h4, h5⟩ := h
  refine ⟨hb, fun _ => ?_⟩
  have hz : sn_cost (sn_gc pr 0 B) (fun j => B.testBit j) 10 = 0 := sn_cost_zero 10 (fun j _ => by
    by_cases q : B.testBit j = true
    · rw [sn_tm_t (F := fun j => B.testBit j) q, sn_gc_t (Nat.zero_le j) q]
    · rw [sn_tm_f (F := fun j => B.testBit j) q])
  have hj : sn_js ea eb M (fun j => B.testBit j) := by
    rcases h4.2.1 with g | ⟨F, g1, g2⟩
    · omega
    · refine fun p q hp hq bp bq => sn_cn_m (fun j hj hF => ?_) (g1 p q hp hq bp bq)
      by_cases z : B.testBit j = true
      · exact z
      · exfalso
        have g3 := sn_cost_one (c := sn_gc pr 0 B) (F := F) 10 hj
        rw [sn_tm_t hF, sn_gc_f (Nat.zero_le j) z] at g3
        omega
  have hx := h4.2.2 _ hj
  rw [hz] at hx
  exact ⟨hj, by omega, fun j hj => (h1 j hj).2⟩
theorem sn_G_0 (hb : sn_L ea eb (sn_c0 pr) M b) (h : b < 100000) : sn_G ea eb pr M b 10 0 0 := by
  have hz : sn_cost (sn_c0 pr) (fun j => Nat.testBit 0 j) 10 = 0 := sn_cost_zero 10 (fun j _ => sn_tm_f (by rw [Nat.zero_testBit]; exact Bool.false_ne_true))
  refine ⟨fun j hj => ?_, hz.symm, h, b, ⟨hb.1, ?_, ?_⟩, rfl⟩
  · rw [Nat.zero_testBit] at hj
    exact absurd hj Bool.false_ne_true
  · rcases hb.2.1 with g | ⟨F, g1, g2⟩
    · exact Or.inl g
    · exact Or.inr ⟨F, g1, by rw [sn_cost_eq (d := sn_c0 pr) (G := F) 10 (fun j hj => by unfold sn_tm; rw [sn_gc_lo hj])]; exact g2⟩
  · intro F hF
    rw [sn_cost_eq (d := sn_c0 pr) (G := F) 10 (fun j hj => by unfold sn_tm; rw [sn_gc_lo hj])]
    exact hb.2.2 F hF
/-! what the law asks of with, without, including -/
theorem sn_small {F : Nat → Bool} {v : Nat} (hp : ∀ j, j < 10 → pr j ≤ 31) (hk : 0 < pr k) (h : sn_cost (sn_up (sn_c0 pr) k v) F 10 < 100000) : sn_cost (sn_c0 pr) F 10 ≤ 310 := by
  refine sn_cost_bd (B := 31) 10 (fun j hj => ?_)
  by_cases q : F j = true
  · rw [sn_tm_t q]
    by_cases z : pr j = 0
    · exfalso
      have g := sn_cost_one (c := sn_up (sn_c0 pr) k v) (F := F) 10 hj
      rw [sn_tm_t q, sn_up_n (fun e => by subst e; omega), sn_c0_z z] at g
      omega
    · rw [sn_c0_p (by omega)]
      exact hp j hj
  · rw [sn_tm_f q]
    exact Nat.zero_le _
theorem sn_wi {r o : Nat} (hk : k < 10) (hp : ∀ j, j < 10 → pr j ≤ 31) (hpk : 0 < pr k) (hB : sn_B ea eb pr M b B) (hr : sn_L ea eb (sn_up (sn_c0 pr) k 0) M r) (ho : sn_L ea eb (sn_up (sn_c0 pr) k 100000) M o) :
    (r < 100000 ↔ b < 100000) ∧ b ≤ o ∧ (b < 100000 → b ≤ r + pr k ∧ (b = r + pr k ∨ b = o) ∧ (B.testBit k = true → r + pr k = b) ∧ (¬ B.testBit k = true → o = b)) := by
  have hb := hB.1
  have hbo : b ≤ o := by
    refine sn_L_le hb ho (fun _ _ z => z) (fun G hG => ?_)
    by_cases e : G k = true
    · have g3 := sn_cost_upt (c := sn_c0 pr) (v := 100000) hk e
      rw [sn_c0_p hpk] at g3
      have := hp k hk
      omega
    · exact Nat.le_of_eq (sn_cost_upf e).symm
  have hrb : r ≤ b := by
    refine sn_L_le hr hb (fun _ _ z => z) (fun G hG => ?_)
    by_cases e : G k = true
    · have g3 := sn_cost_upt (c := sn_c0 pr) (v := 0) hk e
      omega
    · exact Nat.le_of_eq (sn_cost_upf e)
  have hbr : r < 100000 → b < 100000 ∧ b ≤ r + pr k := by
    intro hr1
    rcases hr.2.1 with g | ⟨F, g1, g2⟩
    · omega
    · have g3 := sn_small (v := 0) (F := F) hp hpk (by omega)
      have g4 := hb.2.2 F g1
      refine ⟨by omega, ?_⟩
      by_cases e : F k = true
      · have g5 := sn_cost_upt (c := sn_c0 pr) (v := 0) hk e
        rw [sn_c0_p hpk] at g5
        omega
      · have g5 := sn_cost_upf (c := sn_c0 pr) (v := 0) e
        omega
  refine ⟨⟨fun z => (hbr z).1, fun z => by omega⟩, hbo, fun hb1 => ?_⟩
  obtain ⟨j1, j2, j3⟩ := hB.2 hb1
  have hbr2 := (hbr (by omega)).2
  have h5 : B.testBit k = true → r + pr k = b := by
    intro z
    have g1 := hr.2.2 _ j1
    have g2 := sn_cost_upt (c := sn_c0 pr) (F := fun j => B.testBit j) (v := 0) hk z
    rw [sn_c0_p hpk] at g2
    omega
  have h6 : ¬ B.testBit k = true → o = b := by
    intro z
    have g1 := ho.2.2 _ j1
    rw [sn_cost_upf (F := fun j => B.testBit j) z] at g1
    omega
  refine ⟨hbr2, ?_, h5, h6⟩
  by_cases z : B.testBit k = true
  · exact Or.inl (h5 z).symm
  · exact Or.inr (h6 z).symm
theorem sn_in {p i : Nat} (hb : sn_L ea eb (sn_c0 pr) M b) (hi : sn_L ea eb (sn_c0 pr) (M ||| 2 ^ p) i) : b ≤ i ∧ (M.testBit p = true → i = b) := by
  refine ⟨sn_L_le hb hi (fun q _ z => (sn_or_b p q).mpr (Or.inl z)) (fun _ _ => Nat.le_refl _), fun z => ?_⟩
  have e : M ||| 2 ^ p = M := by
    refine Nat.eq_of_testBit_eq (fun j => ?_)
    rw [Nat.testBit_or, Nat.testBit_two_pow]
    by_cases q : p = j
    · subst q
      rw [z]
      rfl
    · rw [decide_eq_false q, Bool.or_false]
  rw [e] at hi
  exact sn_L_u hi hb
end
end
section
/-! ===== WALK: arrays as tables of naturals; countAll, shortenOver, findWays ===== -/
def sn_ar (a : Nat → Int32) (f : Nat → Nat) (n : Nat) : Prop := ∀ j, j < n → a j = nI (f j)
theorem sn_rd1 {a : Nat → Int32} {f : Nat → Nat} {n j : Nat} (h : sn_ar a f n) (hj : j < n) (hn : n ≤ 448) : a (nI j).toNatClampNeg = nI (f j) := by
  rw [nI_clamp (by omega)]
  exact h j hj
theorem sn_fill {f : Nat → Nat} {s : Nat → Int32} {i : Nat} {x : Int32} (hi : i < 448) (h : sn_ar s f i) (hx : x = nI (f i)) : sn_ar (upd s (nI i).toNatClampNeg x) f (i + 1) := by
  rw [nI_clamp (by omega)]
  intro j hj
  by_cases e : j = i
  · rw [e, pk_us, hx]
  · rw [pk_un e]
    exact h j (by omega)
theorem sn_put {f : Nat → Nat} {s : Nat → Int32} {i n v : Nat} {x : Int32} (hi : i < 448) (h : sn_ar s f n) (hx : x = nI v) : sn_ar (upd s (nI i).toNatClampNeg x) (sn_up f i v) n := by
  rw [nI_clamp (by omega)]
  intro j hj
  by_cases e : j = i
  · rw [e, pk_us, hx, sn_up_s]
  · rw [pk_un e, sn_up_n e]
    exact h j hj
theorem sn_ix (i j : Nat) : (7 : Int32) * nI i + nI j = nI (7 * i + j) := by
  have e : nI (7 * i + j) = nI 7 * nI i + nI j := by rw [pk_mul, nI_add]
  exact e.symm
theorem sn_cl {i j : Nat} (h : 7 * i + j < 448) : ((7 : Int32) * nI i + nI j).toNatClampNeg = 7 * i + j := by
  rw [sn_ix, nI_clamp (by omega)]
/-- the seven by seven table W in an array -/
def sn_mx (a : Nat → Int32) (W : Nat → Nat → Nat) : Prop := ∀ i j, i < 7 → j < 7 → a (7 * i + j) = nI (W i j)
theorem sn_rd {s : Nat → Int32} {W : Nat → Nat → Nat} {i j : Nat} (h : sn_mx s W) (hi : i < 7) (hj : j < 7) : s ((7 : Int32) * nI i + nI j).toNatClampNeg = nI (W i j) := by
  rw [sn_cl (by omega)]
  exact h i j hi hj
theorem sn_in49 {i j : Nat} (hi : i < 7) (hj : j < 7) : vp_in ((7 : Int32) * nI i + nI j) 49 := pk_in (7 * i + j) 49 (by omega) (sn_ix i j)
theorem sn_wr {s : Nat → Int32} {W W' : Nat → Nat → Nat} {i j : Nat} {v : Int32} (h : sn_mx s W) (hi : i < 7) (hj : j < 7) (hv : v = nI (W' i j)) (ho : ∀ a b, a < 7 → b < 7 → ¬ (a = i ∧ b = j) → W' a b = W a b) : sn_mx (upd s ((7 : Int32) * nI i + nI j).toNatClampNeg v) W' := by
  rw [sn_cl (by omega)]
  intro a b ha hb
  by_cases e : a = i ∧ b = j
  · rw [e.1, e.2, pk_us, hv]
  · rw [pk_un (by omega), ho a b ha hb e]
    exact h a b ha hb
theorem sn_mx_c {s : Nat → Int32} {W W' : Nat → Nat → Nat} (h : sn_mx s W) (ho : ∀ a b, a < 7 → b < 7 → W' a b = W a b) : sn_mx s W' := fun a b ha hb => by
  rw [ho a b ha hb]
  exact h a b ha hb
/-! pure: one stage of shortening, in place -/
def sn_fw (W : Nat → Nat → Nat) (m a b i j : Nat) : Nat := if i < a ∨ (i = a ∧ j < b) then min (W i j) (W i m + W m j) else W i j
theorem sn_fw_r {W : Nat → Nat → Nat} {m : Nat} (hd : W m m = 0) (a b i : Nat) : sn_fw W m a b i m = W i m := by
  unfold sn_fw
  rw [hd]
  split <;> omega
theorem sn_fw_l {W : Nat → Nat → Nat} {m : Nat} (hd : W m m = 0) (a b j : Nat) : sn_fw W m a b m j = W m j := by
  unfold sn_fw
  rw [hd]
  split <;> omega
theorem sn_fw_x (W : Nat → Nat → Nat) (m a b : Nat) : sn_fw W m a b a b = W a b := if_neg (by omega)
theorem sn_fw_y (W : Nat → Nat → Nat) (m a b : Nat) : sn_fw W m a (b + 1) a b = min (W a b) (W a m + W m b) := if_pos (by omega)
theorem sn_fw_o (W : Nat → Nat → Nat) {m a b i j : Nat} (h : ¬ (i = a ∧ j = b)) : sn_fw W m a (b + 1) i j = sn_fw W m a b i j := by
  unfold sn_fw
  by_cases h2 : i < a ∨ (i = a ∧ j < b)
  · rw [if_pos h2, if_pos (by omega)]
  · rw [if_neg h2, if_neg (by omega)]
theorem sn_fw_n (W : Nat → Nat → Nat) {m a i j : Nat} (hj : j < 7) : sn_fw W m (a + 1) 0 i j = sn_fw W m a 7 i j := by
  unfold sn_fw
  by_cases h2 : i < a ∨ (i = a ∧ j < 7)
  · rw [if_pos h2, if_pos (by omega)]
  · rw [if_neg h2, if_neg (by omega)]
theorem sn_fw_0 (W : Nat → Nat → Nat) {m i j : Nat} : sn_fw W m 0 0 i j = W i j := if_neg (by omega)
theorem sn_fw_7 (W : Nat → Nat → Nat) {m i j : Nat} (hi : i < 7) : sn_fw W m 7 0 i j = min (W i j) (W i m + W m j) := if_pos (Or.inl hi)
/-! the ways' picture -/
def sn_we (ea eb c : Nat → Nat) (k : Nat) (W : Nat → Nat → Nat) : Prop := (∀ i, i < 7 → W i i = 0) ∧ (∀ i j, i < 7 → j < 7 → W i j ≤ 100000 ∧ W i j = W j i ∧ sn_ok c (fun F => sn_cn ea eb F i j) (W i j)) ∧ (∀ q, q < k → W (ea q) (eb q) ≤ c q)
def sn_wf (ea eb c : Nat → Nat) (m : Nat) (W : Nat → Nat → Nat) : Prop := (∀ i, i < 7 → W i i = 0) ∧ (∀ i j, i < 7 → j < 7 → W i j ≤ 100000 ∧ sn_ok c (fun F => sn_cn ea eb F i j) (W i j)) ∧ (∀ q, q < 10 → W (ea q) (eb q) ≤ c q ∧ W (eb q) (ea q) ≤ c q) ∧ (∀ x i j, x < m → i < 7 → j < 7 → W i j ≤ W i x + W x j)
def sn_w0 (i j : Nat) : Nat := if i = j then 0 else 100000
theorem sn_we_0 (ea eb c : Nat → Nat) : sn_we ea eb c 0 sn_w0 := by
  refine ⟨fun i _ => if_pos rfl, fun i j _ _ => ?_, fun q hq => absurd hq (Nat.not_lt_zero q)⟩
  unfold sn_w0
  by_cases e : i = j
  · subst e
    rw [if_pos rfl]
    exact ⟨Nat.zero_le _, rfl, sn_ok_0 (sn_cn_r i)⟩
  · rw [if_neg e, if_neg (fun z => e z.symm)]
    exact ⟨Nat.le_refl _, rfl, Or.inl (Nat.le_refl _)⟩
theorem sn_we_k {ea eb c : Nat → Nat} {k : Nat} {W : Nat → Nat → Nat} (h : sn_we ea eb c k W) (hc : W (ea k) (eb k) ≤ c k) : sn_we ea eb c (k + 1) W :=
  ⟨h.1, h.2.1, lt_s h.2.2 hc⟩
/-- the table with both places of a line set -/
def sn_w2 (W : Nat → Nat → Nat) (a b v i j : Nat) : Nat := if (i = a ∧ j = b) ∨ (i = b ∧ j = a) then v else W i j
theorem sn_w2_le {W : Nat → Nat → Nat} {a b v : Nat} (h : v ≤ W a b) (h2 : v ≤ W b a) (i j : Nat) : sn_w2 W a b v i j ≤ W i j := by
  unfold sn_w2
  split
  · rename_i z
    rcases z with ⟨rfl, rfl⟩ | ⟨rfl, rfl⟩
    · exact h
    · exact h2
  · exact Nat.le_refl _
theorem sn_we_n {ea eb c : Nat → Nat} {k : Nat} {W : Nat → Nat → Nat} (hk : k < 10) (ha : ea k < 7) (hb : eb k < 7) (h : sn_we ea eb c k W) (hc : c k < W (ea k) (eb k)) : sn_we ea eb c (k + 1) (sn_w2 W (ea k) (eb k) (c k)) := by
  have hs := (h.2.1 (ea k) (eb k) ha hb).2.1
  have hle : ∀ i j, sn_w2 W (ea k) (eb k) (c k) i j ≤ W i j := sn_w2_le (by omega) (by omega)
  refine ⟨fun i hi => ?_, fun i j hi hj => ?_, lt_s (fun q hq => Nat.le_trans (hle _ _) (h.2.2 q hq)) (Nat.le_of_eq (if_pos (Or.inl ⟨rfl, rfl⟩)))⟩
  · have := hle i i
    have := h.1 i hi
    omega
  · have g := h.2.1 i j hi hj
    refine ⟨Nat.le_trans (hle i j) g.1, ?_⟩
    unfold sn_w2
    by_cases e1 : i = ea k ∧ j = eb k
    · rw [if_pos (Or.inl e1), if_pos (Or.inr ⟨e1.2, e1.1⟩), e1.1, e1.2]
      exact ⟨rfl, sn_ok_1 hk⟩
    · by_cases e2 : i = eb k ∧ j = ea k
      · rw [if_pos (Or.inr e2), if_pos (Or.inl ⟨e2.2, e2.1⟩), e2.1, e2.2]
        exact ⟨rfl, sn_ok_m (sn_ok_1 hk) (fun F z => sn_cn_s z) (Nat.le_refl _)⟩
      · rw [if_neg (fun z => z.elim e1 e2), if_neg (fun z => z.elim (fun q => e2 ⟨q.2, q.1⟩) (fun q => e1 ⟨q.2, q.1⟩))]
        exact g.2
theorem sn_wf_0 {ea eb c : Nat → Nat} {W : Nat → Nat → Nat} (ha : ∀ k, k < 10 → ea k < 7) (hb : ∀ k, k < 10 → eb k < 7) (h : sn_we ea eb c 10 W) : sn_wf ea eb c 0 W :=
  ⟨h.1, fun i j hi hj => ⟨(h.2.1 i j hi hj).1, (h.2.1 i j hi hj).2.2⟩, fun q hq => ⟨h.2.2 q hq, by rw [← (h.2.1 (ea q) (eb q) (ha q hq) (hb q hq)).2.1]; exact h.2.2 q hq⟩, fun x i j hx => absurd hx (Nat.not_lt_zero x)⟩
theorem sn_wf_s {ea eb c : Nat → Nat} {m : Nat} {W : Nat → Nat → Nat} (hm : m < 7) (h : sn_wf ea eb c m W) : sn_wf ea eb c (m + 1) (fun i j => min (W i j) (W i m + W m j)) := by
  obtain ⟨h1, h2, h3, h4⟩ := h
  refine ⟨fun i hi => ?_, fun i j hi hj => ⟨?_, ?_⟩, fun q hq => ⟨Nat.le_trans (Nat.min_le_left _ _) (h3 q hq).1, Nat.le_trans (Nat.min_le_left _ _) (h3 q hq).2⟩, fun x i j hx hi hj => ?_⟩
  · show min (W i i) (W i m + W m i) = 0
    rw [h1 i hi]
    exact Nat.zero_min _
  · exact Nat.le_trans (Nat.min_le_left _ _) (h2 i j hi hj).1
  · show sn_ok c (fun F => sn_cn ea eb F i j) (min (W i j) (W i m + W m j))
    rcases Nat.le_total (W i j) (W i m + W m j) with z | z
    · rw [Nat.min_eq_left z]
      exact (h2 i j hi hj).2
    · rw [Nat.min_eq_right z]
      exact sn_ok_add (h2 i m hi hm).2 (h2 m j hm hj).2 (fun F G p q => sn_cn_t (sn_cn_l p) (sn_cn_rr q))
  · show min (W i j) (W i m + W m j) ≤ min (W i x) (W i m + W m x) + min (W x j) (W x m + W m j)
    by_cases e : x = m
    · subst e
      have := h1 x hm
      omega
    · have g1 := h4 x i j (by omega) hi hj
      have g2 := h4 x i m (by omega) hi hm
      have g3 := h4 x m j (by omega) hm hj
      omega
/-! the methods -/
section
variable {post : St1 → Prop} {f1 f2 f3 f4 f5 : Int32} {a1 a2 a3 a4 a5 a6 a7 : Nat → Int32}
theorem sn_countAll {pr : Nat → Nat} (h3 : sn_ar a3 pr 10) (hp : ∀ j, j < 10 → pr j ≤ 31) (H : ∀ a4', sn_ar a4' (sn_c0 pr) 10 → post (f1, f2, f3, f4, f5, a1, a2, a3, a4', a5, a6, a7)) : wpX_countAll post (f1, f2, f3, f4, f5, a1, a2, a3, a4, a5, a6, a7) :=
  pk_loop (fun n i s => wX_countAll_2 post f1 f2 f3 f4 f5 n (nI i) a1 a2 a3 s a5 a6 a7) (fun i s => sn_ar s (sn_c0 pr) i) 10 0 a4 (by omega) (fun j hj => absurd hj (by omega))
    (fun n s h => pk_le 10 10 (fun _ => H s h) (fun z => absurd z (by omega)))
    (fun n i s hi h hw => pk_le 10 i (fun z => absurd z (by omega)) (fun _ => ⟨pk_in i 10 hi, pk_eq (pr i) 0
      (fun z => ⟨pk_in i 10 hi, nm_e (nm_r (nI_1 i) (hw _ (sn_fill (by omega) h (by rw [sn_c0_z z]; rfl))))⟩)
      (fun z => ⟨pk_in i 10 hi, pk_in i 10 hi, nm_e (nm_r (nI_1 i) (hw _ (sn_fill (by omega) h (by rw [sn_c0_p (by omega)]; exact sn_rd1 h3 hi (by omega)))))⟩)
      (sn_rd1 h3 hi (by omega)) rfl (by have := hp i hi; omega)⟩))
theorem sn_so10 {J : Int32 → (Nat → Int32) → (Nat → Int32) → (Nat → Int32) → (Nat → Int32) → (Nat → Int32) → (Nat → Int32) → (Nat → Int32) → Prop} {W : Nat → Nat → Nat} {m a : Nat} (hm : m < 7) (ha : a < 7) (hd : W m m = 0) (hW : ∀ i j, i < 7 → j < 7 → W i j ≤ 100000) (h : sn_mx a5 (sn_fw W m a 0))
    (H : ∀ s, sn_mx s (sn_fw W m (a + 1) 0) → J (nI (a + 1)) a1 a2 a3 a4 s a6 a7) : ∃ n, wX_shortenOver_10 post J (nI m) (nI a) f1 f2 f3 f4 f5 n 0 a1 a2 a3 a4 a5 a6 a7 :=
  pk_loop (fun n b s => wX_shortenOver_10 post J (nI m) (nI a) f1 f2 f3 f4 f5 n (nI b) a1 a2 a3 a4 s a6 a7) (fun b s => sn_mx s (sn_fw W m a b)) 7 0 a5 (by omega) h
    (fun n s h => pk_le 7 7 (fun _ => nm_r (nI_1 a) (H s (sn_mx_c h (fun i j _ hj => sn_fw_n W hj)))) (fun z => absurd z (by omega)))
    (fun n b s hb h hw => by
      have e1 := hW a b ha hb
      have e2 := hW a m ha hm
      have e3 := hW m b hm hb
      refine pk_le 7 b (fun z => absurd z (by omega)) (fun _ => ⟨sn_in49 ha hm, sn_in49 hm hb, nm_r (e' := nI (W a m + W m b)) ?_ ⟨sn_in49 ha hb, ?_⟩⟩)
      · rw [sn_rd h ha hm, sn_rd h hm hb, sn_fw_r hd, sn_fw_l hd, nI_add]
      · refine pk_le (W a b) (W a m + W m b) (fun z => nm_r (nI_1 b) (hw s (sn_mx_c h (fun i j _ _ => ?_)))) (fun z => ⟨sn_in49 ha hb, nm_e (nm_r (nI_1 b) (hw _ (sn_wr h ha hb ?_ (fun i j _ _ e => sn_fw_o W e))))⟩) (by rw [sn_rd h ha hb, sn_fw_x]) rfl
        · by_cases e : i = a ∧ j = b
          · rw [e.1, e.2, sn_fw_y, sn_fw_x]
            omega
          · exact sn_fw_o W e
        · rw [sn_fw_y, Nat.min_eq_right (by omega)])
theorem sn_shorten {W : Nat → Nat → Nat} {m : Nat} (hm : m < 7) (hd : W m m = 0) (hW : ∀ i j, i < 7 → j < 7 → W i j ≤ 100000) (h5 : sn_mx a5 W) (H : ∀ s, sn_mx s (fun i j => min (W i j) (W i m + W m j)) → post (f1, f2, f3, f4, f5, a1, a2, a3, a4, s, a6, a7)) : wpX_shortenOver post (f1, f2, f3, f4, f5, a1, a2, a3, a4, a5, a6, a7) (nI m) :=
  pk_loop (fun n a s => wX_shortenOver_2 post (nI m) f1 f2 f3 f4 f5 n (nI a) a1 a2 a3 a4 s a6 a7) (fun a s => sn_mx s (sn_fw W m a 0)) 7 0 a5 (by omega) (sn_mx_c h5 (fun i j _ _ => sn_fw_0 W))
    (fun n s h => pk_le 7 7 (fun _ => H s (sn_mx_c h (fun i j hi _ => (sn_fw_7 W hi).symm))) (fun z => absurd z (by omega)))
    (fun n a s ha h hw => pk_le 7 a (fun z => absurd z (by omega)) (fun _ => sn_so10 hm ha hd hW h hw))
theorem sn_fw134 {ea eb c : Nat → Nat} {W : Nat → Nat → Nat} (h : sn_mx a5 W) (hW : sn_wf ea eb c 0 W) (H : ∀ s W, sn_mx s W → sn_wf ea eb c 7 W → post (f1, f2, f3, f4, f5, a1, a2, a3, a4, s, a6, a7)) : ∃ n, wX_findWays_134 post n 0 f1 f2 f3 f4 f5 a1 a2 a3 a4 a5 a6 a7 :=
  pk_loop (fun n m s => wX_findWays_134 post n (nI m) f1 f2 f3 f4 f5 a1 a2 a3 a4 s a6 a7) (fun m s => ∃ W, sn_mx s W ∧ sn_wf ea eb c m W) 7 0 a5 (by omega) ⟨W, h, hW⟩
    (fun n s h => pk_le 7 7 (fun _ => Exists.elim h (fun W h => H s W h.1 h.2)) (fun z => absurd z (by omega)))
    (fun n m s hm h hw => Exists.elim h (fun W h => pk_le 7 m (fun z => absurd z (by omega)) (fun _ => sn_shorten hm (h.2.1 m hm) (fun i j hi hj => (h.2.2.1 i j hi hj).1) h.1 (fun s' h' => nm_r (nI_1 m) (hw s' ⟨_, h', sn_wf_s hm h.2⟩)))))
theorem sn_fw52 {ea eb c : Nat → Nat} {W : Nat → Nat → Nat} (g1 : sn_ar a1 ea 10) (g2 : sn_ar a2 eb 10) (g4 : sn_ar a4 c 10) (ha : ∀ k, k < 10 → ea k < 7) (hb : ∀ k, k < 10 → eb k < 7) (hc : ∀ k, k < 10 → c k ≤ 100000) (h : sn_mx a5 W) (hW : sn_we ea eb c 0 W) (H : ∀ s W, sn_mx s W → sn_wf ea eb c 7 W → post (f1, f2, f3, f4, f5, a1, a2, a3, a4, s, a6, a7)) : ∃ n, wX_findWays_52 post f1 f2 f3 f4 f5 n 0 a1 a2 a3 a4 a5 a6 a7 :=
  pk_loop (fun n k s => wX_findWays_52 post f1 f2 f3 f4 f5 n (nI k) a1 a2 a3 a4 s a6 a7) (fun k s => ∃ W, sn_mx s W ∧ sn_we ea eb c k W) 10 0 a5 (by omega) ⟨W, h, hW⟩
    (fun n s h => pk_le 10 10 (fun _ => Exists.elim h (fun W h => sn_fw134 h.1 (sn_wf_0 ha hb h.2) H)) (fun z => absurd z (by omega)))
    (fun n k s hk h hw => by
      obtain ⟨W, h1, h2⟩ := h
      have ka := ha k hk
      have kb := hb k hk
      have kc := hc k hk
      have e1 := (h2.2.1 (ea k) (eb k) ka kb).1
      refine pk_le 10 k (fun z => absurd z (by omega)) (fun _ => ⟨pk_in k 10 hk, nm_r (sn_rd1 g1 hk (by omega)) ⟨pk_in k 10 hk, nm_r (sn_rd1 g2 hk (by omega)) ⟨pk_in k 10 hk, sn_in49 ka kb, ?_⟩⟩⟩)
      refine pk_le (W (ea k) (eb k)) (c k) (fun z => nm_r (nI_1 k) (hw s ⟨W, h1, sn_we_k h2 z⟩)) (fun z => ⟨pk_in k 10 hk, sn_in49 ka kb, nm_e ⟨pk_in k 10 hk, sn_in49 kb ka, nm_e (nm_r (nI_1 k) (hw _ ⟨_, ?_, sn_we_n hk ka kb h2 z⟩))⟩⟩) (sn_rd h1 ka kb) (sn_rd1 g4 hk (by omega))
      refine sn_wr (W := fun i j => if i = ea k ∧ j = eb k then c k else W i j) (sn_wr h1 ka kb ?_ (fun i j _ _ e => if_neg e)) kb ka ?_ (fun i j _ _ e => ?_)
      · rw [if_pos ⟨rfl, rfl⟩]
        exact sn_rd1 g4 hk (by omega)
      · rw [show sn_w2 W (ea k) (eb k) (c k) (eb k) (ea k) = c k from if_pos (Or.inr ⟨rfl, rfl⟩)]
        exact sn_rd1 g4 hk (by omega)
      · show sn_w2 W (ea k) (eb k) (c k) i j = if i = ea k ∧ j = eb k then c k else W i j
        unfold sn_w2
        by_cases e3 : i = ea k ∧ j = eb k
        · rw [if_pos (Or.inl e3), if_pos e3]
        · rw [if_neg (fun z => z.elim e3 e), if_neg e3])
/-- the first places of the table of ways -/
def sn_mp (a b : Nat) (s : Nat → Int32) : Prop := ∀ i j, i < 7 → j < 7 → (i < a ∨ (i = a ∧ j < b)) → s (7 * i + j) = nI (sn_w0 i j)
theorem sn_mp_s {a b : Nat} {s : Nat → Int32} {v : Int32} (ha : a < 7) (hb : b < 7) (h : sn_mp a b s) (hv : v = nI (sn_w0 a b)) : sn_mp a (b + 1) (upd s ((7 : Int32) * nI a + nI b).toNatClampNeg v) := by
  rw [sn_cl (by omega)]
  intro i j hi hj hq
  by_cases e : i = a ∧ j = b
  · rw [e.1, e.2, pk_us, hv]
  · rw [pk_un (by omega)]
    exact h i j hi hj (by omega)
theorem sn_fw10 {J : Int32 → (Nat → Int32) → (Nat → Int32) → (Nat → Int32) → (Nat → Int32) → (Nat → Int32) → (Nat → Int32) → (Nat → Int32) → Prop} {a : Nat} (ha : a < 7) (h : sn_mp a 0 a5)
    (H : ∀ s, sn_mp (a + 1) 0 s → J (nI (a + 1)) a1 a2 a3 a4 s a6 a7) : ∃ n, wX_findWays_10 post J (nI a) f1 f2 f3 f4 f5 n 0 a1 a2 a3 a4 a5 a6 a7 :=
  pk_loop (fun n b s => wX_findWays_10 post J (nI a) f1 f2 f3 f4 f5 n (nI b) a1 a2 a3 a4 s a6 a7) (fun b s => sn_mp a b s) 7 0 a5 (by omega) h
    (fun n s h => pk_le 7 7 (fun _ => nm_r (nI_1 a) (H s (fun i j hi hj q => h i j hi hj (by omega)))) (fun z => absurd z (by omega)))
    (fun n b s hb h hw => pk_le 7 b (fun z => absurd z (by omega)) (fun _ => pk_eq a b
      (fun z => ⟨sn_in49 ha hb, nm_e (nm_r (nI_1 b) (hw _ (sn_mp_s ha hb h (by rw [show sn_w0 a b = 0 from if_pos z]; rfl))))⟩)
      (fun z => ⟨sn_in49 ha hb, nm_e (nm_r (nI_1 b) (hw _ (sn_mp_s ha hb h (by rw [show sn_w0 a b = 100000 from if_neg z]; rfl))))⟩)))
theorem sn_findWays {ea eb c : Nat → Nat} (g1 : sn_ar a1 ea 10) (g2 : sn_ar a2 eb 10) (g4 : sn_ar a4 c 10) (ha : ∀ k, k < 10 → ea k < 7) (hb : ∀ k, k < 10 → eb k < 7) (hc : ∀ k, k < 10 → c k ≤ 100000) (H : ∀ s W, sn_mx s W → sn_wf ea eb c 7 W → post (f1, f2, f3, f4, f5, a1, a2, a3, a4, s, a6, a7)) : wpX_findWays post (f1, f2, f3, f4, f5, a1, a2, a3, a4, a5, a6, a7) :=
  pk_loop (fun n a s => wX_findWays_2 post f1 f2 f3 f4 f5 n (nI a) a1 a2 a3 a4 s a6 a7) (fun a s => sn_mp a 0 s) 7 0 a5 (by omega) (fun i j _ _ z => absurd z (by omega))
    (fun n s h => pk_le 7 7 (fun _ => sn_fw52 g1 g2 g4 ha hb hc (fun i j hi hj => h i j hi hj (Or.inl hi)) (sn_we_0 ea eb c) H) (fun z => absurd z (by omega)))
    (fun n a s ha h hw => pk_le 7 a (fun z => absurd z (by omega)) (fun _ => sn_fw10 ha h hw))
end
end
section
/-! ===== WALK: one row of the table of parts: startPart, joinParts, carryTo, carryPart ===== -/
/-- below the row s nothing has changed -/
def sn_fr (s : Nat) (a a' : Nat → Int32) : Prop := ∀ j, j < 7 * s → a' j = a j
def sn_row (a : Nat → Int32) (s : Nat) (Q : Nat → Nat) : Prop := ∀ p, p < 7 → a (7 * s + p) = nI (Q p)
theorem sn_in448 {s p : Nat} (hs : s < 64) (hp : p < 7) : vp_in ((7 : Int32) * nI s + nI p) 448 := pk_in (7 * s + p) 448 (by omega) (sn_ix s p)
theorem sn_rr {a : Nat → Int32} {s p : Nat} {Q : Nat → Nat} (h : sn_row a s Q) (hs : s < 64) (hp : p < 7) : a ((7 : Int32) * nI s + nI p).toNatClampNeg = nI (Q p) := by
  rw [sn_cl (by omega)]
  exact h p hp
theorem sn_rw {a : Nat → Int32} {s p : Nat} {Q Q' : Nat → Nat} {v : Int32} (h : sn_row a s Q) (hs : s < 64) (hp : p < 7) (hv : v = nI (Q' p)) (ho : ∀ q, q < 7 → q ≠ p → Q' q = Q q) : sn_row (upd a ((7 : Int32) * nI s + nI p).toNatClampNeg v) s Q' := by
  rw [sn_cl (by omega)]
  intro q hq
  by_cases e : q = p
  · rw [e, pk_us, hv]
  · rw [pk_un (by omega), ho q hq e]
    exact h q hq
theorem sn_row_c {a : Nat → Int32} {s : Nat} {Q Q' : Nat → Nat} (h : sn_row a s Q) (ho : ∀ q, q < 7 → Q' q = Q q) : sn_row a s Q' := fun q hq => by
  rw [ho q hq]
  exact h q hq
theorem sn_fr_r {s : Nat} {a : Nat → Int32} : sn_fr s a a := fun _ _ => rfl
theorem sn_fr_t {s : Nat} {a b c : Nat → Int32} (h : sn_fr s a b) (h2 : sn_fr s b c) : sn_fr s a c := fun j hj => (h2 j hj).trans (h j hj)
theorem sn_fr_w {s p : Nat} {a b : Nat → Int32} {v : Int32} (hs : s < 64) (hp : p < 7) (h : sn_fr s a b) : sn_fr s a (upd b ((7 : Int32) * nI s + nI p).toNatClampNeg v) := by
  rw [sn_cl (by omega)]
  intro j hj
  rw [pk_un (by omega)]
  exact h j hj
theorem sn_fr_row {s r : Nat} {a b : Nat → Int32} {Q : Nat → Nat} (h : sn_fr s a b) (hr : r < s) (g : sn_row a r Q) : sn_row b r Q := fun p hp => by
  rw [h (7 * r + p) (by omega)]
  exact g p hp
theorem sn_shl : ∀ k, k < 10 → (1 : Int32) <<< (nI k &&& 31) = nI (2 ^ k) := by decide +kernel
theorem sn_p64 {m : Nat} (h : m ≤ 6) : 2 ^ m ≤ 64 := Nat.pow_le_pow_right (n := 2) (by omega) h
/-! startPart -/
def sn_q0 (w : Nat → Nat) (m s k : Nat) (Q : Nat → Nat) : Prop := (∀ p, p < 7 → Q p = 100000 ∨ (Q p = 0 ∧ ∃ i, i < m ∧ s = 2 ^ i ∧ w i = p)) ∧ (∀ i, i < k → s = 2 ^ i → Q (w i) = 0)
section
variable {post : St1 → Prop} {f1 f2 f3 f4 f5 : Int32} {a1 a2 a3 a4 a5 a6 a7 : Nat → Int32}
theorem sn_sp29 {w : Nat → Nat} {m s : Nat} {t : Nat → Int32} {Q : Nat → Nat} (hm : m ≤ 6) (hs : s < 64) (g7 : sn_ar a7 w (m + 1)) (hw7 : ∀ i, i < m + 1 → w i < 7) (hf : sn_fr s a6 t) (hr : sn_row t s Q) (hq : sn_q0 w m s 0 Q)
    (H : ∀ t Q, sn_fr s a6 t → sn_row t s Q → sn_q0 w m s m Q → post (f1, nI (m + 1), f3, f4, f5, a1, a2, a3, a4, a5, t, a7)) : ∃ n, wX_startPart_29 post (nI s) f1 (nI (m + 1)) f3 f4 f5 n 0 a1 a2 a3 a4 a5 t a7 :=
  pk_loop (fun n k t => wX_startPart_29 post (nI s) f1 (nI (m + 1)) f3 f4 f5 n (nI k) a1 a2 a3 a4 a5 t a7) (fun k t => sn_fr s a6 t ∧ ∃ Q, sn_row t s Q ∧ sn_q0 w m s k Q) m 0 t (by omega) ⟨hf, Q, hr, hq⟩
    (fun n t h => pk_le m m (fun _ => Exists.elim h.2 (fun Q g => H t Q h.1 g.1 g.2)) (fun z => absurd z (by omega)) (nI_pred m) rfl)
    (fun n k t hk h hw => by
      obtain ⟨h1, Q, h2, h3, h4⟩ := h
      have hp := sn_p64 hm
      have hp2 : 2 ^ k ≤ 64 := sn_p64 (by omega)
      have e := sn_rd1 g7 (show k < m + 1 by omega) (by omega)
      have k7 := hw7 k (by omega)
      refine pk_le m k (fun z => absurd z (by omega)) (fun _ => pk_eq s (2 ^ k) (fun z => ⟨pk_in k 7 (by omega), ?_, nm_r (e' := upd t ((7 : Int32) * nI s + nI (w k)).toNatClampNeg 0) (by rw [e]) (nm_r (nI_1 k) (hw _ ⟨sn_fr_w hs k7 h1, sn_up Q (w k) 0, ?_, fun p hp => ?_, fun i hi ei => ?_⟩))⟩) (fun z => nm_r (nI_1 k) (hw t ⟨h1, Q, h2, h3, lt_s h4 (fun ei => absurd ei z)⟩)) rfl (sn_shl k (by omega))) (nI_pred m) rfl
      · rw [e]
        exact sn_in448 hs k7
      · exact sn_rw h2 hs k7 (by rw [sn_up_s]; rfl) (fun q _ ne => sn_up_n ne)
      · by_cases e2 : p = w k
        · rw [e2, sn_up_s]
          exact Or.inr ⟨rfl, k, hk, z, rfl⟩
        · rw [sn_up_n e2]
          exact h3 p hp
      · by_cases e2 : w i = w k
        · rw [e2, sn_up_s]
        · rw [sn_up_n e2]
          rcases Nat.lt_or_ge i k with z2 | z2
          · exact h4 i z2 ei
          · exact absurd (show w i = w k by rw [show i = k by omega]) e2)
theorem sn_startPart {w : Nat → Nat} {m s : Nat} (hm : m ≤ 6) (hs : s < 64) (g7 : sn_ar a7 w (m + 1)) (hw7 : ∀ i, i < m + 1 → w i < 7)
    (H : ∀ t Q, sn_fr s a6 t → sn_row t s Q → sn_q0 w m s m Q → post (f1, nI (m + 1), f3, f4, f5, a1, a2, a3, a4, a5, t, a7)) : wpX_startPart post (f1, nI (m + 1), f3, f4, f5, a1, a2, a3, a4, a5, a6, a7) (nI s) :=
  pk_loop (fun n i t => wX_startPart_2 post (nI s) f1 (nI (m + 1)) f3 f4 f5 n (nI i) a1 a2 a3 a4 a5 t a7) (fun i t => sn_fr s a6 t ∧ ∀ p, p < i → t (7 * s + p) = nI 100000) 7 0 a6 (by omega) ⟨sn_fr_r, fun p hp => absurd hp (by omega)⟩
    (fun n t h => pk_le 7 7 (fun _ => sn_sp29 (Q := fun _ => 100000) hm hs g7 hw7 h.1 h.2 ⟨fun p _ => Or.inl rfl, fun i hi => absurd hi (by omega)⟩ H) (fun z => absurd z (by omega)))
    (fun n i t hi h hw => pk_le 7 i (fun z => absurd z (by omega)) (fun _ => ⟨sn_in448 hs hi, nm_e (nm_r (nI_1 i) (hw _ ⟨sn_fr_w hs hi h.1, by
      rw [sn_cl (by omega)]
      intro p hp
      by_cases e : p = i
      · rw [e, pk_us]
        rfl
      · rw [pk_un (by omega)]
        exact h.2 p (by omega)⟩))⟩))
/-! joinParts -/
theorem sn_sub1 : ∀ s, s < 64 → ∀ h, h < 64 → ((nI h &&& (nI s ^^^ (-1))) = 0 ↔ h &&& s = h) := by decide +kernel
theorem sn_sub2 : ∀ s, s < 64 → ∀ h, h < 64 → h &&& s = h → nI s &&& (nI h ^^^ (-1)) = nI (s - h) := by decide +kernel
def sn_jq (P : Nat → Nat → Nat) (Q0 : Nat → Nat) (s h : Nat) (Q : Nat → Nat) : Prop := (∀ p, p < 7 → Q p ≤ Q0 p) ∧ (∀ g p, 0 < g → g < h → g &&& s = g → p < 7 → Q p ≤ P g p + P (s - g) p) ∧ (∀ p, p < 7 → Q p = Q0 p ∨ ∃ g, 0 < g ∧ g < s ∧ g &&& s = g ∧ Q p = P g p + P (s - g) p)
def sn_jn (Q P1 P2 : Nat → Nat) (i q : Nat) : Nat := if q < i then min (Q q) (P1 q + P2 q) else Q q
theorem sn_jn_lo {Q P1 P2 : Nat → Nat} {i q : Nat} (h : q < i) : sn_jn Q P1 P2 i q = min (Q q) (P1 q + P2 q) := if_pos h
theorem sn_jn_hi {Q P1 P2 : Nat → Nat} {i q : Nat} (h : i ≤ q) : sn_jn Q P1 P2 i q = Q q := if_neg (by omega)
theorem sn_jn_s {Q P1 P2 : Nat → Nat} {i q : Nat} (h : q ≠ i) : sn_jn Q P1 P2 (i + 1) q = sn_jn Q P1 P2 i q := by
  rcases Nat.lt_or_ge q i with z | z
  · rw [sn_jn_lo z, sn_jn_lo (by omega)]
  · rw [sn_jn_hi z, sn_jn_hi (by omega)]
theorem sn_jq_s {P : Nat → Nat → Nat} {Q0 Q : Nat → Nat} {s h : Nat} (h0 : 0 < h) (hs : h < s) (hh : h &&& s = h) (hq : sn_jq P Q0 s h Q) : sn_jq P Q0 s (h + 1) (sn_jn Q (P h) (P (s - h)) 7) := by
  obtain ⟨q1, q2, q3⟩ := hq
  refine ⟨fun p hp => ?_, fun g p g0 gh gs hp => ?_, fun p hp => ?_⟩
  · rw [sn_jn_lo hp]
    exact Nat.le_trans (Nat.min_le_left _ _) (q1 p hp)
  · rw [sn_jn_lo hp]
    by_cases e : g = h
    · rw [e]
      exact Nat.min_le_right _ _
    · exact Nat.le_trans (Nat.min_le_left _ _) (q2 g p g0 (by omega) gs hp)
  · rw [sn_jn_lo hp]
    rcases Nat.le_total (Q p) (P h p + P (s - h) p) with z | z
    · rw [Nat.min_eq_left z]
      exact q3 p hp
    · rw [Nat.min_eq_right z]
      exact Or.inr ⟨h, h0, hs, hh, rfl⟩
theorem sn_jp24 {J : Int32 → (Nat → Int32) → (Nat → Int32) → (Nat → Int32) → (Nat → Int32) → (Nat → Int32) → (Nat → Int32) → (Nat → Int32) → Prop} {s h o : Nat} {Q P1 P2 : Nat → Nat} {t : Nat → Int32} (hs : s < 64) (hh : h < s) (ho : o < s) (r1 : sn_row a6 h P1) (r2 : sn_row a6 o P2) (b0 : ∀ p, p < 7 → Q p ≤ 100000) (b1 : ∀ p, p < 7 → P1 p ≤ 100000) (b2 : ∀ p, p < 7 → P2 p ≤ 100000) (hf : sn_fr s a6 t) (hr : sn_row t s Q)
    (H : ∀ t, sn_fr s a6 t → sn_row t s (sn_jn Q P1 P2 7) → J (nI (h + 1)) a1 a2 a3 a4 a5 t a7) : ∃ n, wX_joinParts_24 post J (nI s) (nI h) (nI o) f1 f2 f3 f4 f5 n 0 a1 a2 a3 a4 a5 t a7 :=
  pk_loop (fun n i t => wX_joinParts_24 post J (nI s) (nI h) (nI o) f1 f2 f3 f4 f5 n (nI i) a1 a2 a3 a4 a5 t a7) (fun i t => sn_fr s a6 t ∧ sn_row t s (sn_jn Q P1 P2 i)) 7 0 t (by omega) ⟨hf, sn_row_c hr (fun q _ => sn_jn_hi (Nat.zero_le q))⟩
    (fun n t g => pk_le 7 7 (fun _ => nm_r (nI_1 h) (H t g.1 g.2)) (fun z => absurd z (by omega)))
    (fun n i t hi g hw => by
      have e0 := b0 i hi
      have e1 := b1 i hi
      have e2 := b2 i hi
      refine pk_le 7 i (fun z => absurd z (by omega)) (fun _ => ⟨sn_in448 (by omega) hi, sn_in448 (by omega) hi, nm_r (e' := nI (P1 i + P2 i)) ?_ ⟨sn_in448 hs hi, ?_⟩⟩)
      · rw [sn_rr (sn_fr_row g.1 hh r1) (by omega) hi, sn_rr (sn_fr_row g.1 ho r2) (by omega) hi, nI_add]
      · refine pk_le (Q i) (P1 i + P2 i) (fun z => nm_r (nI_1 i) (hw t ⟨g.1, sn_row_c g.2 (fun q _ => ?_)⟩)) (fun z => ⟨sn_in448 hs hi, nm_e (nm_r (nI_1 i) (hw _ ⟨sn_fr_w hs hi g.1, sn_rw g.2 hs hi ?_ (fun q _ ne => sn_jn_s ne)⟩))⟩) (by rw [sn_rr g.2 hs hi, sn_jn_hi (Nat.le_refl i)]) rfl
        · by_cases e : q = i
          · rw [e, sn_jn_lo (Nat.lt_succ_self i), sn_jn_hi (Nat.le_refl i)]
            omega
          · exact sn_jn_s e
        · rw [sn_jn_lo (Nat.lt_succ_self i), Nat.min_eq_right (by omega)])
theorem sn_joinParts {s : Nat} {P : Nat → Nat → Nat} {Q0 : Nat → Nat} (hs : s < 64) (s0 : 0 < s) (hP : ∀ r, 0 < r → r < s → sn_row a6 r (P r)) (bP : ∀ r p, 0 < r → r < s → p < 7 → P r p ≤ 100000) (bQ : ∀ p, p < 7 → Q0 p ≤ 100000) (hr : sn_row a6 s Q0)
    (H : ∀ t Q, sn_fr s a6 t → sn_row t s Q → sn_jq P Q0 s s Q → post (f1, f2, f3, f4, f5, a1, a2, a3, a4, a5, t, a7)) : wpX_joinParts post (f1, f2, f3, f4, f5, a1, a2, a3, a4, a5, a6, a7) (nI s) :=
  pk_loop (fun n h t => wX_joinParts_2 post (nI s) f1 f2 f3 f4 f5 n (nI h) a1 a2 a3 a4 a5 t a7) (fun h t => 0 < h ∧ sn_fr s a6 t ∧ ∃ Q, sn_row t s Q ∧ sn_jq P Q0 s h Q) s 1 a6 (by omega) ⟨by omega, sn_fr_r, Q0, hr, fun p _ => Nat.le_refl _, fun g p g0 g1 => absurd g1 (by omega), fun p _ => Or.inl rfl⟩
    (fun n t h => pk_le s s (fun _ => Exists.elim h.2.2 (fun Q g => H t Q h.2.1 g.1 g.2)) (fun z => absurd z (by omega)))
    (fun n h t hh g hw => by
      obtain ⟨h0, g1, Q, g2, g3⟩ := g
      refine pk_le s h (fun z => absurd z (by omega)) (fun _ => ek_if (sn_sub1 s hs h (by omega)) (fun z => nm_r (sn_sub2 s hs h (by omega) z) (sn_jp24 (P1 := P h) (P2 := P (s - h)) hs hh (by omega) (hP h h0 hh) (hP (s - h) (by omega) (by omega)) (fun p hp => Nat.le_trans (g3.1 p hp) (bQ p hp)) (fun p hp => bP h p h0 hh hp) (fun p hp => bP (s - h) p (by omega) (by omega) hp) g1 g2 (fun t' f' r' => hw t' ⟨by omega, f', _, r', sn_jq_s h0 hh z g3⟩))) (fun z => nm_r (nI_1 h) (hw t ⟨by omega, g1, Q, g2, g3.1, fun g p a b e hp => ?_, g3.2.2⟩)))
      by_cases e2 : g = h
      · exact absurd (by rw [← e2]; exact e) z
      · exact g3.2.1 g p a (by omega) e hp)
/-! carryTo, carryPart -/
theorem sn_carryTo {s p : Nat} {Q : Nat → Nat} {W : Nat → Nat → Nat} (hs : s < 64) (hp : p < 7) (h5 : sn_mx a5 W) (bW : ∀ i j, i < 7 → j < 7 → W i j ≤ 100000) (hr : sn_row a6 s Q) (bQ : ∀ p, p < 7 → Q p ≤ 100000)
    (H : ∀ x, x ≤ Q p → (∀ q, q < 7 → x ≤ Q q + W q p) → (x = Q p ∨ ∃ q, q < 7 ∧ x = Q q + W q p) → post (f1, f2, f3, f4, f5, a1, a2, a3, a4, a5, upd a6 ((7 : Int32) * nI s + nI p).toNatClampNeg (nI x), a7)) : wpX_carryTo post (f1, f2, f3, f4, f5, a1, a2, a3, a4, a5, a6, a7) (nI s) (nI p) := by
  have L : ∃ n, wX_carryTo_15 post (nI s) (nI p) f1 f2 f3 f4 f5 a1 a2 a3 a4 a5 a6 a7 n (nI (Q p)) 0 :=
    pk_loop (fun n i x => wX_carryTo_15 post (nI s) (nI p) f1 f2 f3 f4 f5 a1 a2 a3 a4 a5 a6 a7 n x (nI i)) (fun i x => ∃ y, x = nI y ∧ y ≤ Q p ∧ (∀ q, q < i → y ≤ Q q + W q p) ∧ (y = Q p ∨ ∃ q, q < 7 ∧ y = Q q + W q p)) 7 0 (nI (Q p)) (by omega) ⟨Q p, rfl, Nat.le_refl _, fun q hq => absurd hq (by omega), Or.inl rfl⟩
      (fun n x h => pk_le 7 7 (fun _ => Exists.elim h (fun y h => ⟨sn_in448 hs hp, nm_r (e' := upd a6 ((7 : Int32) * nI s + nI p).toNatClampNeg (nI y)) (by rw [h.1]) (H y h.2.1 h.2.2.1 h.2.2.2)⟩)) (fun z => absurd z (by omega)))
      (fun n i x hi h hw => by
        obtain ⟨y, rfl, h1, h2, h3⟩ := h
        have e0 := bQ i hi
        have e1 := bW i p hi hp
        have e2 := bQ p hp
        refine pk_le 7 i (fun z => absurd z (by omega)) (fun _ => ⟨sn_in448 hs hi, sn_in49 hi hp, nm_r (e' := nI (Q i + W i p)) (by rw [sn_rr hr hs hi, sn_rd h5 hi hp, nI_add]) ?_⟩)
        exact pk_le y (Q i + W i p) (fun z => nm_r (nI_1 i) (hw (nI y) ⟨y, rfl, h1, lt_s h2 z, h3⟩)) (fun z => nm_r (nI_1 i) (hw (nI (Q i + W i p)) ⟨Q i + W i p, rfl, by omega, lt_s (fun q hq => by have := h2 q hq; omega) (Nat.le_refl _), Or.inr ⟨i, hi, rfl⟩⟩)))
  exact ⟨sn_in448 hs hp, nm_r (sn_rr hr hs hp) L⟩
def sn_cq (W : Nat → Nat → Nat) (Q : Nat → Nat) (j : Nat) (R : Nat → Nat) : Prop := (∀ v, v < 7 → R v ≤ Q v) ∧ (∀ v q, v < j → q < 7 → R v ≤ Q q + W q v) ∧ (∀ v, v < 7 → ∃ q, q < 7 ∧ Q q + W q v ≤ R v)
theorem sn_carryPart {s : Nat} {Q : Nat → Nat} {W : Nat → Nat → Nat} (hs : s < 64) (h5 : sn_mx a5 W) (hd : ∀ i, i < 7 → W i i = 0) (bW : ∀ i j, i < 7 → j < 7 → W i j ≤ 100000) (hT : ∀ x i j, x < 7 → i < 7 → j < 7 → W i j ≤ W i x + W x j) (hr : sn_row a6 s Q) (bQ : ∀ p, p < 7 → Q p ≤ 100000)
    (H : ∀ t R, sn_fr s a6 t → sn_row t s R → sn_cq W Q 7 R → post (f1, f2, f3, f4, f5, a1, a2, a3, a4, a5, t, a7)) : wpX_carryPart post (f1, f2, f3, f4, f5, a1, a2, a3, a4, a5, a6, a7) (nI s) :=
  pk_loop (fun n j t => wX_carryPart_2 post (nI s) n (nI j) f1 f2 f3 f4 f5 a1 a2 a3 a4 a5 t a7) (fun j t => sn_fr s a6 t ∧ ∃ R, sn_row t s R ∧ sn_cq W Q j R) 7 0 a6 (by omega) ⟨sn_fr_r, Q, hr, fun v _ => Nat.le_refl _, fun v q hv => absurd hv (by omega), fun v hv => ⟨v, hv, by rw [hd v hv]; exact Nat.le_refl _⟩⟩
    (fun n t h => pk_le 7 7 (fun _ => Exists.elim h.2 (fun R g => H t R h.1 g.1 g.2)) (fun z => absurd z (by omega)))
    (fun n j t hj h hw => by
      obtain ⟨h1, R, h2, h3, h4, h6⟩ := h
      refine pk_le 7 j (fun z => absurd z (by omega)) (fun _ => sn_carryTo hs hj h5 bW h2 (fun p hp => Nat.le_trans (h3 p hp) (bQ p hp)) (fun x x1 x2 x3 => nm_r (nI_1 j) (hw _ ⟨sn_fr_w hs hj h1, sn_up R j x, sn_rw h2 hs hj (by rw [sn_up_s]) (fun q _ ne => sn_up_n ne), fun v hv => ?_, fun v q hv hq => ?_, fun v hv => ?_⟩)))
      · by_cases e : v = j
        · rw [e, sn_up_s]
          exact Nat.le_trans x1 (h3 j hj)
        · rw [sn_up_n e]
          exact h3 v hv
      · by_cases e : v = j
        · rw [e, sn_up_s]
          have := x2 q hq
          have := h3 q hq
          omega
        · rw [sn_up_n e]
          exact h4 v q (by omega) hq
      · by_cases e : v = j
        · rw [e, sn_up_s]
          rcases x3 with z | ⟨q, hq, z⟩
          · rw [z]
            exact h6 j hj
          · obtain ⟨q2, hq2, z2⟩ := h6 q hq
            have := hT q q2 j hq hq2 hj
            exact ⟨q2, hq2, by omega⟩
        · rw [sn_up_n e]
          exact h6 v hv)
end
end
section
/-! ===== WALK: leastFor ===== -/
/-! the family nx_ of kit/laws/BITS.to-paste (a starting text), as far as it is used -/
theorem nx_and (a b : Nat) : nI a &&& nI b = nI (a &&& b) := by
  apply Int32.toBitVec_inj.1
  show BitVec.ofNat 32 a &&& BitVec.ofNat 32 b = BitVec.ofNat 32 (a &&& b)
  apply BitVec.eq_of_getLsbD_eq
  intro i hi
  simp [hi]
theorem nx_xor (a b : Nat) : nI a ^^^ nI b = nI (a ^^^ b) := by
  apply Int32.toBitVec_inj.1
  show BitVec.ofNat 32 a ^^^ BitVec.ofNat 32 b = BitVec.ofNat 32 (a ^^^ b)
  apply BitVec.eq_of_getLsbD_eq
  intro i hi
  simp [hi]
theorem nx_cnt : ∀ j : Fin 32, (UInt32.ofNat j.val &&& Int32.toUInt32 31).toNat % 32 = j.val := by decide +kernel
theorem nx_ush {k j : Nat} (hk : k < 65536) (hj : j < 32) : ((nI k).toUInt32 >>> ((nI j).toUInt32 &&& Int32.toUInt32 31)).toInt32 = nI (k >>> j) := by
  have hs : k >>> j ≤ k := by
    rw [Nat.shiftRight_eq_div_pow]
    exact Nat.div_le_self _ _
  have e2 : UInt32.ofNat k >>> (UInt32.ofNat j &&& Int32.toUInt32 31) = UInt32.ofNat (k >>> j) := by
    apply UInt32.toNat_inj.1
    have h1 : (UInt32.ofNat k).toNat = k := Nat.mod_eq_of_lt (by omega)
    have h2 : (UInt32.ofNat (k >>> j)).toNat = k >>> j := Nat.mod_eq_of_lt (by omega)
    rw [UInt32.toNat_shiftRight, nx_cnt ⟨j, hj⟩, h1, h2]
  show (UInt32.ofNat k >>> (UInt32.ofNat j &&& Int32.toUInt32 31)).toInt32 = _
  rw [e2]
  rfl
theorem nx_bit {k j : Nat} (hk : k < 65536) (hj : j < 16) : (((nI k).toUInt32 >>> ((nI j).toUInt32 &&& Int32.toUInt32 31)).toInt32 &&& 1) = 0 ↔ k.testBit j = false := by
  rw [nx_ush hk (by omega)]
  show nI (k >>> j) &&& nI 1 = 0 ↔ _
  rw [nx_and, Nat.and_one_is_mod, ← nI_0, nI_eq (by omega) (by omega), Nat.testBit_eq_decide_div_mod_eq, Nat.shiftRight_eq_div_pow, decide_eq_false_iff_not]
  generalize k / 2 ^ j = z
  omega
/-! one row of the table is good -/
def sn_good (ea eb c w : Nat → Nat) (m : Nat) (W P : Nat → Nat → Nat) (s : Nat) : Prop :=
  (∀ p, p < 7 → P s p ≤ 100000) ∧ (∀ k, k < m → s = 2 ^ k → P s (w k) = 0) ∧ (∀ u v, u < 7 → v < 7 → P s v ≤ P s u + W u v) ∧
  (∀ h v, 0 < h → h < s → h &&& s = h → v < 7 → P s v ≤ P h v + P (s - h) v) ∧
  (∀ v, v < 7 → sn_ok c (fun F => ∀ i, i < m → s.testBit i = true → sn_cn ea eb F v (w i)) (P s v))
theorem sn_good_c {ea eb c w : Nat → Nat} {m s : Nat} {W P P' : Nat → Nat → Nat} (e : ∀ r, r ≤ s → P' r = P r) (h : sn_good ea eb c w m W P s) : sn_good ea eb c w m W P' s := by
  obtain ⟨h1, h2, h3, h4, h5⟩ := h
  refine ⟨?_, ?_, ?_, fun g v g0 gs gg hv => ?_, ?_⟩
  · rw [e s (Nat.le_refl s)]; exact h1
  · rw [e s (Nat.le_refl s)]; exact h2
  · rw [e s (Nat.le_refl s)]; exact h3
  · rw [e s (Nat.le_refl s), e g (by omega), e (s - g) (by omega)]; exact h4 g v g0 gs gg hv
  · rw [e s (Nat.le_refl s)]; exact h5
theorem sn_good_n {ea eb c w : Nat → Nat} {m s : Nat} {W P : Nat → Nat → Nat} {Q0 Q1 : Nat → Nat} (hm : m ≤ 6) (hs : s < 64) (hw7 : ∀ i, i < m + 1 → w i < 7) (hW : sn_wf ea eb c 7 W) (hP : ∀ r, 0 < r → r < s → sn_good ea eb c w m W P r)
    (h0 : sn_q0 w m s m Q0) (h1 : sn_jq P Q0 s s Q1) (h2 : sn_cq W Q1 7 (P s)) : sn_good ea eb c w m W P s := by
  obtain ⟨w1, w2, w3, w4⟩ := hW
  have b0 : ∀ p, p < 7 → Q0 p ≤ 100000 := fun p hp => by rcases h0.1 p hp with z | z <;> omega
  have s0 : ∀ v, v < 7 → sn_ok c (fun F => ∀ i, i < m → s.testBit i = true → sn_cn ea eb F v (w i)) (Q0 v) := fun v hv => by
    rcases h0.1 v hv with z | ⟨z, k, hk, e, ek⟩
    · exact Or.inl (by omega)
    · refine sn_ok_0 (fun i hi hb => ?_)
      rw [e, Nat.testBit_two_pow, decide_eq_true_iff] at hb
      rw [← hb, ek]
      exact sn_cn_r v
  have s1 : ∀ v, v < 7 → sn_ok c (fun F => ∀ i, i < m → s.testBit i = true → sn_cn ea eb F v (w i)) (Q1 v) := fun v hv => by
    rcases h1.2.2 v hv with z | ⟨g, g0, gs, gg, z⟩
    · rw [z]
      exact s0 v hv
    · rw [z]
      refine sn_ok_add ((hP g g0 gs).2.2.2.2 v hv) ((hP (s - g) (by omega) (by omega)).2.2.2.2 v hv) (fun F G p q i hi hb => ?_)
      by_cases zb : g.testBit i = true
      · exact sn_cn_l (p i hi zb)
      · refine sn_cn_rr (q i hi ?_)
        rw [sn_sub_b hs gg, hb, Bool.eq_false_iff.mpr zb]
        rfl
  have b1 : ∀ p, p < 7 → P s p ≤ 100000 := fun p hp => Nat.le_trans (h2.1 p hp) (Nat.le_trans (h1.1 p hp) (b0 p hp))
  refine ⟨b1, fun k hk e => ?_, fun u v hu hv => ?_, fun h v a b e hv => Nat.le_trans (h2.1 v hv) (h1.2.1 h v a b e hv), fun v hv => ?_⟩
  · have e1 := h2.1 (w k) (hw7 k (by omega))
    have e2 := h1.1 (w k) (hw7 k (by omega))
    have e3 := h0.2 k hk e
    omega
  · obtain ⟨q, hq, z⟩ := h2.2.2 u hu
    have e1 := h2.2.1 v q hv hq
    have e2 := w4 u q v hu hq hv
    omega
  · obtain ⟨q, hq, z⟩ := h2.2.2 v hv
    refine sn_ok_m (sn_ok_add (s1 q hq) (w2 q v hq hv).2 (Θ := fun F => ∀ i, i < m → s.testBit i = true → sn_cn ea eb F v (w i)) (fun F G p q i hi hb => sn_cn_t (sn_cn_s (sn_cn_rr q)) (sn_cn_l (p i hi hb)))) (fun _ z => z) z
/-- the whole table answers -/
theorem sn_good_L {ea eb c w : Nat → Nat} {m M : Nat} {W P : Nat → Nat → Nat} (hm : m ≤ 6) (m0 : 0 < m) (ha : ∀ k, k < 10 → ea k < 7) (hb : ∀ k, k < 10 → eb k < 7) (hw7 : ∀ i, i < m + 1 → w i < 7) (hwi : ∀ i j, i < j → j < m + 1 → w i < w j) (hwM : ∀ i, i < m + 1 → M.testBit (w i) = true) (hwA : ∀ q, q < 7 → M.testBit q = true → ∃ i, i < m + 1 ∧ w i = q)
    (hW : sn_wf ea eb c 7 W) (hP : ∀ r, 0 < r → r < 2 ^ m → sn_good ea eb c w m W P r) : sn_L ea eb c M (P (2 ^ m - 1) (w m)) := by
  have pm : 2 ^ 1 ≤ 2 ^ m := Nat.pow_le_pow_right (by omega) m0
  have wm := hw7 m (by omega)
  have hg := hP (2 ^ m - 1) (by omega) (by omega)
  have hT : sn_tab ea eb c w m P := by
    refine ⟨fun i hi => (hP (2 ^ i) (Nat.pow_pos (by omega)) (Nat.pow_lt_pow_right (by omega) hi)).2.1 i hi rfl, fun s s0 sm k hk => ?_, fun s h v h0 hs sm hh hv => (hP s (by omega) sm).2.2.2.1 h v h0 hs hh hv⟩
    have e1 := (hP s s0 sm).2.2.1 (eb k) (ea k) (hb k hk) (ha k hk)
    have e2 := (hP s s0 sm).2.2.1 (ea k) (eb k) (ha k hk) (hb k hk)
    have e3 := hW.2.2.1 k hk
    omega
  refine ⟨hg.1 _ wm, sn_ok_m (hg.2.2.2.2 (w m) wm) (fun F hF p q hp hq bp bq => ?_) (Nat.le_refl _), fun F hF => ?_⟩
  · have hall : ∀ i, i < m + 1 → sn_cn ea eb F (w m) (w i) := fun i hi => by
      by_cases e : i = m
      · rw [e]
        exact sn_cn_r _
      · exact hF i (by omega) (by rw [Nat.testBit_two_pow_sub_one]; exact decide_eq_true (by omega))
    obtain ⟨i, hi, ei⟩ := hwA p hp bp
    obtain ⟨j, hj, ej⟩ := hwA q hq bq
    rw [← ei, ← ej]
    exact sn_cn_t (sn_cn_s (hall i hi)) (hall j hj)
  · refine sn_low hm ha hb hT (fun i j hi hj e => ?_) _ F (2 ^ m - 1) (w m) (Nat.lt_succ_self _) (by omega) (by omega) wm (fun i hi _ => hF _ _ wm (hw7 i (by omega)) (hwM m (by omega)) (hwM i (by omega)))
    rcases Nat.lt_trichotomy i j with z | z | z
    · have := hwi i j z (by omega)
      omega
    · exact z
    · have := hwi j i z (by omega)
      omega
/-! the wanted points -/
def sn_wl (M p n : Nat) (w : Nat → Nat) : Prop := n ≤ p ∧ (∀ i, i < n → w i < p ∧ M.testBit (w i) = true) ∧ (∀ i j, i < j → j < n → w i < w j) ∧ (∀ q, q < p → M.testBit q = true → ∃ i, i < n ∧ w i = q)
theorem sn_wl_0 {M p n : Nat} {w : Nat → Nat} (h : sn_wl M p n w) (hb : M.testBit p = false) : sn_wl M (p + 1) n w := by
  obtain ⟨h1, h2, h3, h4⟩ := h
  refine ⟨by omega, fun i hi => ⟨by have := (h2 i hi).1; omega, (h2 i hi).2⟩, h3, fun q hq bq => ?_⟩
  by_cases e : q = p
  · rw [e, hb] at bq
    exact absurd bq Bool.false_ne_true
  · exact h4 q (by omega) bq
theorem sn_wl_1 {M p n : Nat} {w : Nat → Nat} (h : sn_wl M p n w) (hb : M.testBit p = true) : sn_wl M (p + 1) (n + 1) (sn_up w n p) := by
  obtain ⟨h1, h2, h3, h4⟩ := h
  refine ⟨by omega, fun i hi => ?_, fun i j hij hj => ?_, fun q hq bq => ?_⟩
  · by_cases e : i = n
    · rw [e, sn_up_s]
      exact ⟨by omega, hb⟩
    · rw [sn_up_n e]
      have := h2 i (by omega)
      exact ⟨by omega, this.2⟩
  · rw [sn_up_n (show i ≠ n by omega)]
    by_cases e : j = n
    · rw [e, sn_up_s]
      exact (h2 i (by omega)).1
    · rw [sn_up_n e]
      exact h3 i j hij (by omega)
  · by_cases e : q = p
    · exact ⟨n, by omega, by rw [sn_up_s, e]⟩
    · obtain ⟨i, hi, ei⟩ := h4 q (by omega) bq
      exact ⟨i, by omega, by rw [sn_up_n (by omega), ei]⟩
theorem sn_wl_few {ea eb c : Nat → Nat} {M n : Nat} {w : Nat → Nat} (h : sn_wl M 7 n w) (hn : n < 2) : sn_L ea eb c M 0 := by
  obtain ⟨h1, h2, h3, h4⟩ := h
  refine ⟨Nat.zero_le _, sn_ok_0 (fun p q hp hq bp bq => ?_), fun F _ => Nat.zero_le _⟩
  obtain ⟨i, hi, ei⟩ := h4 p hp bp
  obtain ⟨j, hj, ej⟩ := h4 q hq bq
  rw [← ei, ← ej, show i = j by omega]
  exact sn_cn_r _
section
variable {post : Int32 → St1 → Prop} {f1 f2 f3 f4 f5 : Int32} {a1 a2 a3 a4 a5 a6 a7 : Nat → Int32}
theorem sn_lf72 {ea eb c w : Nat → Nat} {m M : Nat} {W : Nat → Nat → Nat} (hm : m ≤ 6) (m0 : 0 < m) (ha : ∀ k, k < 10 → ea k < 7) (hb : ∀ k, k < 10 → eb k < 7) (g7 : sn_ar a7 w (m + 1)) (hl : sn_wl M 7 (m + 1) w) (h5 : sn_mx a5 W) (hW : sn_wf ea eb c 7 W)
    (H : ∀ x t, sn_L ea eb c M x → post (nI x) (f1, nI (m + 1), f3, f4, f5, a1, a2, a3, a4, a5, t, a7)) : ∃ n, wX_leastFor_72 post (nI (2 ^ m)) n 1 f1 (nI (m + 1)) f3 f4 f5 a1 a2 a3 a4 a5 a6 a7 := by
  have pm : 2 ^ 1 ≤ 2 ^ m := Nat.pow_le_pow_right (by omega) m0
  have pm2 := sn_p64 hm
  have hw7 : ∀ i, i < m + 1 → w i < 7 := fun i hi => (hl.2.1 i hi).1
  have bW : ∀ i j, i < 7 → j < 7 → W i j ≤ 100000 := fun i j hi hj => (hW.2.1 i j hi hj).1
  refine pk_loop (fun n s t => wX_leastFor_72 post (nI (2 ^ m)) n (nI s) f1 (nI (m + 1)) f3 f4 f5 a1 a2 a3 a4 a5 t a7) (fun s t => 0 < s ∧ ∃ P, ∀ r, 0 < r → r < s → sn_row t r (P r) ∧ sn_good ea eb c w m W P r) (2 ^ m) 1 a6 (by omega) ⟨by omega, fun _ _ => 0, fun r r0 r1 => absurd r1 (by omega)⟩ ?_ ?_
  · intro n t h
    obtain ⟨_, P, hP⟩ := h
    have e1 : nI (m + 1) - 1 = nI m := nI_pred m
    have e2 : nI (2 ^ m) - 1 = nI (2 ^ m - 1) := by
      have := nI_pred (2 ^ m - 1)
      rwa [show 2 ^ m - 1 + 1 = 2 ^ m by omega] at this
    have e3 : a7 (nI (m + 1) - 1).toNatClampNeg = nI (w m) := by
      rw [e1]
      exact sn_rd1 g7 (by omega) (by omega)
    have wm := hw7 m (by omega)
    refine pk_le (2 ^ m) (2 ^ m) (fun _ => ⟨pk_in m 7 (by omega) e1, ?_, ?_⟩) (fun z => absurd z (by omega))
    · rw [e3, e2]
      exact sn_in448 (by omega) wm
    · rw [e3, e2, sn_rr (hP (2 ^ m - 1) (by omega) (by omega)).1 (by omega) wm]
      exact H _ t (sn_good_L hm m0 ha hb hw7 hl.2.2.1 (fun i hi => (hl.2.1 i hi).2) hl.2.2.2 hW (fun r r0 r1 => (hP r r0 r1).2))
  · intro n s t hs h hw
    obtain ⟨s0, P, hP⟩ := h
    refine pk_le (2 ^ m) s (fun z => absurd z (by omega)) (fun _ => sn_startPart hm (by omega) g7 hw7 (fun t1 Q0 u1 v1 w1 => ?_))
    have b0 : ∀ p, p < 7 → Q0 p ≤ 100000 := fun p hp => by rcases w1.1 p hp with z | z <;> omega
    refine sn_joinParts (P := P) (Q0 := Q0) (by omega) s0 (fun r r0 r1 => sn_fr_row u1 r1 (hP r r0 r1).1) (fun r p r0 r1 hp => (hP r r0 r1).2.1 p hp) b0 v1 (fun t2 Q1 u2 v2 w2 => ?_)
    refine sn_carryPart (Q := Q1) (W := W) (by omega) h5 hW.1 bW (fun x i j hx hi hj => hW.2.2.2 x i j hx hi hj) v2 (fun p hp => Nat.le_trans (w2.1 p hp) (b0 p hp)) (fun t3 R u3 v3 w3 => ?_)
    obtain ⟨P', es, eo⟩ : ∃ P' : Nat → Nat → Nat, P' s = R ∧ ∀ r, r ≠ s → P' r = P r := ⟨fun r => if r = s then R else P r, if_pos rfl, fun r hr => if_neg hr⟩
    refine nm_r (nI_1 s) (hw t3 ⟨by omega, P', ?_⟩)
    have go : ∀ r, 0 < r → r < s → sn_good ea eb c w m W P' r := fun r r0 r1 => sn_good_c (fun q hq => eo q (by omega)) (hP r r0 r1).2
    intro r r0 r1
    by_cases e : r = s
    · subst e
      rw [es]
      refine ⟨v3, sn_good_n (Q0 := Q0) (Q1 := Q1) hm (by omega) hw7 hW go w1 ⟨w2.1, fun g p a b e hp => ?_, fun p hp => ?_⟩ (by rw [es]; exact w3)⟩
      · rw [eo g (by omega), eo (r - g) (by omega)]
        exact w2.2.1 g p a b e hp
      · rcases w2.2.2 p hp with z | ⟨g, a, b, e, z⟩
        · exact Or.inl z
        · exact Or.inr ⟨g, a, b, e, by rw [eo g (by omega), eo (r - g) (by omega)]; exact z⟩
    · rw [eo r e]
      exact ⟨sn_fr_row u3 (by omega) (sn_fr_row u2 (by omega) (sn_fr_row u1 (by omega) (hP r r0 (by omega)).1)), go r r0 (by omega)⟩
theorem sn_leastFor {ea eb c : Nat → Nat} {M : Nat} (hM : M < 128) (g1 : sn_ar a1 ea 10) (g2 : sn_ar a2 eb 10) (g4 : sn_ar a4 c 10) (ha : ∀ k, k < 10 → ea k < 7) (hb : ∀ k, k < 10 → eb k < 7) (hc : ∀ k, k < 10 → c k ≤ 100000)
    (H : ∀ x wc b5 b6 b7, sn_L ea eb c M x → post (nI x) (f1, wc, f3, f4, f5, a1, a2, a3, a4, b5, b6, b7)) : wpX_leastFor post (f1, f2, f3, f4, f5, a1, a2, a3, a4, a5, a6, a7) (nI M) := by
  have L : ∃ n, wX_leastFor_7 post (nI M) f1 f3 f4 f5 n 0 0 a1 a2 a3 a4 a5 a6 a7 := by
    refine pk_loop (σ := Int32 × (Nat → Int32)) (fun n p s => wX_leastFor_7 post (nI M) f1 f3 f4 f5 n (nI p) s.1 a1 a2 a3 a4 a5 a6 s.2) (fun p s => ∃ n w, s.1 = nI n ∧ sn_ar s.2 w n ∧ sn_wl M p n w) 7 0 (0, a7) (by omega) ⟨0, fun _ => 0, rfl, fun j hj => absurd hj (by omega), by omega, fun i hi => absurd hi (by omega), fun i j _ hj => absurd hj (by omega), fun q hq => absurd hq (by omega)⟩ ?_ ?_
    · intro n s h
      obtain ⟨wc, t⟩ := s
      obtain ⟨k, w, e, h1, h2⟩ := h
      have e' : wc = nI k := e
      subst e'
      have k7 := h2.1
      refine pk_le 7 7 (fun _ => pk_le 2 k (fun z => ?_) (fun z => H 0 _ _ _ _ (sn_wl_few h2 z))) (fun z => absurd z (by omega))
      obtain ⟨m, rfl⟩ : ∃ m, k = m + 1 := ⟨k - 1, by omega⟩
      refine sn_findWays g1 g2 g4 ha hb hc (fun b5 W u v => nm_r (e' := nI (2 ^ m)) (by rw [nI_pred]; exact sn_shl m (by omega)) ?_)
      exact sn_lf72 (by omega) (by omega) ha hb h1 h2 u v (fun x b6 hx => H x _ _ _ _ hx)
    · intro n p s hp h hw
      obtain ⟨wc, t⟩ := s
      obtain ⟨k, w, e, h1, h2⟩ := h
      have e' : wc = nI k := e
      subst e'
      have k7 := h2.1
      refine pk_le 7 p (fun z => absurd z (by omega)) (fun _ => ek_if (nx_bit (by omega) (by omega)) (fun z => nm_r (nI_1 p) (hw (nI k, t) ⟨k, w, rfl, h1, sn_wl_0 h2 z⟩)) (fun z => ⟨pk_in k 7 (by omega), nm_e (nm_r (nI_1 k) (nm_r (nI_1 p) (hw (nI (k + 1), _) ⟨k + 1, sn_up w k p, rfl, ?_, sn_wl_1 h2 ((Bool.eq_false_or_eq_true _).resolve_right z)⟩)))⟩))
      have g := sn_fill (f := sn_up w k p) (s := t) (x := nI p) (i := k) (by omega) (fun j hj => by rw [sn_up_n (by omega)]; exact h1 j hj) (by rw [sn_up_s])
      exact g
  exact L
end
end
section
/-! ===== bits: the law's long of prices, the marks, the best set ===== -/
theorem sn_sh : ∀ k, k < 10 → ((((5 : Int32) * nI k).toInt64 &&& 63).toBitVec.smod 64).toNat = 5 * k := by decide +kernel
theorem sn_b31 : ∀ i, i < 32 → (31 : Int32).toBitVec.getLsbD i = decide (i < 5) := by decide +kernel
theorem sn_mk : ∀ l, l < 10 → ∀ j, j < 64 → (((31 : Int64) <<< (((5 : Int32) * nI l).toInt64 &&& 63)) ^^^ (-1)).toBitVec.getLsbD j = !(decide (5 * l ≤ j) && decide (j < 5 * l + 5)) := by decide +kernel
def sn_pb (x : Int64) (pr : Nat → Nat) : Prop := ∀ k i, k < 10 → i < 5 → x.toBitVec.getLsbD (5 * k + i) = (pr k).testBit i
theorem sn_tb5 {p i : Nat} (hp : p ≤ 31) (hi : 5 ≤ i) : p.testBit i = false := Nat.testBit_lt_two_pow (Nat.lt_of_lt_of_le (show p < 2 ^ 5 by omega) (Nat.pow_le_pow_right (by omega) hi))
theorem sn_px {x : Int64} {pr : Nat → Nat} {k : Nat} (h : sn_pb x pr) (hk : k < 10) (hp : pr k ≤ 31) : ((x >>> (((5 : Int32) * nI k).toInt64 &&& 63)).toInt32) &&& 31 = nI (pr k) := by
  apply Int32.toBitVec_inj.mp
  apply BitVec.eq_of_getLsbD_eq
  intro i hi
  show _ = (BitVec.ofNat 32 (pr k)).getLsbD i
  rw [Int32.toBitVec_and, BitVec.getLsbD_and, Int64.toBitVec_toInt32, BitVec.getLsbD_signExtend, Int64.toBitVec_shiftRight, BitVec.getLsbD_sshiftRight', sn_sh k hk, sn_b31 i hi, BitVec.getLsbD_ofNat]
  by_cases z : i < 5
  · rw [if_pos (show i < 64 by omega), if_pos (show 5 * k + i < 64 by omega), h k i hk z]
    simp [hi, z, show ¬ 64 ≤ i by omega]
  · rw [sn_tb5 hp (by omega)]
    simp [z]
theorem sn_mv {l p j : Nat} (hl : l < 10) (hp : p ≤ 31) (hj : j < 64) : ((nI p).toInt64 <<< (((5 : Int32) * nI l).toInt64 &&& 63)).toBitVec.getLsbD j = (decide (5 * l ≤ j) && p.testBit (j - 5 * l)) := by
  rw [Int64.toBitVec_shiftLeft, BitVec.getLsbD_shiftLeft', sn_sh l hl, nI_l (by omega)]
  show (decide (j < 64) && !decide (j < 5 * l) && (BitVec.ofNat 64 p).getLsbD (j - 5 * l)) = _
  rw [BitVec.getLsbD_ofNat, decide_eq_true hj, decide_eq_true (show j - 5 * l < 64 by omega)]
  by_cases z : j < 5 * l
  · rw [decide_eq_true z, decide_eq_false (show ¬ 5 * l ≤ j by omega)]
    rfl
  · rw [decide_eq_false z, decide_eq_true (show 5 * l ≤ j by omega)]
    rfl
theorem sn_pb_0 {x : Int64} {pr : Nat → Nat} {l : Nat} (hl : l < 10) (h : sn_pb x pr) : sn_pb (x &&& (((31 : Int64) <<< (((5 : Int32) * nI l).toInt64 &&& 63)) ^^^ (-1))) (sn_up pr l 0) := by
  intro k i hk hi
  rw [Int64.toBitVec_and, BitVec.getLsbD_and, sn_mk l hl _ (by omega)]
  by_cases e : k = l
  · subst e
    rw [sn_up_s, Nat.zero_testBit, decide_eq_true (show 5 * k ≤ 5 * k + i by omega), decide_eq_true (show 5 * k + i < 5 * k + 5 by omega)]
    exact Bool.and_false _
  · rw [sn_up_n e, h k i hk hi]
    rcases Nat.lt_or_ge k l with z | z
    · rw [decide_eq_false (show ¬ 5 * l ≤ 5 * k + i by omega)]
      exact Bool.and_true _
    · rw [decide_eq_false (show ¬ 5 * k + i < 5 * l + 5 by omega), Bool.and_false]
      exact Bool.and_true _
theorem sn_pb_1 {x : Int64} {pr : Nat → Nat} {l p : Nat} (hl : l < 10) (hp : p ≤ 31) (h : sn_pb x pr) : sn_pb ((x &&& (((31 : Int64) <<< (((5 : Int32) * nI l).toInt64 &&& 63)) ^^^ (-1))) ||| ((nI p).toInt64 <<< (((5 : Int32) * nI l).toInt64 &&& 63))) (sn_up pr l p) := by
  have h0 := sn_pb_0 hl h
  intro k i hk hi
  rw [Int64.toBitVec_or, BitVec.getLsbD_or, h0 k i hk hi, sn_mv hl hp (by omega)]
  by_cases e : k = l
  · subst e
    rw [sn_up_s, sn_up_s, Nat.zero_testBit, decide_eq_true (show 5 * k ≤ 5 * k + i by omega), show 5 * k + i - 5 * k = i by omega]
    rfl
  · rw [sn_up_n e, sn_up_n e]
    rcases Nat.lt_or_ge k l with z | z
    · rw [decide_eq_false (show ¬ 5 * l ≤ 5 * k + i by omega)]
      exact Bool.or_false _
    · rw [sn_tb5 hp (show 5 ≤ 5 * k + i - 5 * l by omega), Bool.and_false]
      exact Bool.or_false _
theorem sn_sbit : ∀ M, M < 128 → ∀ p, p < 7 → (((nI M >>> (nI p &&& 31)) &&& 1) = 0 ↔ M.testBit p = false) := by decide +kernel
theorem sn_clr : ∀ M, M < 128 → ∀ p, p < 7 → nI M &&& (((1 : Int32) <<< (nI p &&& 31)) ^^^ (-1)) = nI (M &&& (127 ^^^ 2 ^ p)) := by decide +kernel
theorem sn_nor (a b : Nat) : nI a ||| nI b = nI (a ||| b) := by
  apply Int32.toBitVec_inj.1
  show BitVec.ofNat 32 a ||| BitVec.ofNat 32 b = BitVec.ofNat 32 (a ||| b)
  apply BitVec.eq_of_getLsbD_eq
  intro i hi
  simp [hi]
theorem sn_set {M p : Nat} (hp : p < 10) : nI M ||| ((1 : Int32) <<< (nI p &&& 31)) = nI (M ||| 2 ^ p) := by rw [sn_shl p hp, sn_nor]
theorem sn_bitv {B k : Nat} (hB : B < 1024) (hk : k < 10) : ((nI B).toUInt32 >>> ((nI k).toUInt32 &&& Int32.toUInt32 31)).toInt32 &&& 1 = if B.testBit k = true then 1 else 0 := by
  rw [nx_ush (by omega) (by omega)]
  show nI (B >>> k) &&& nI 1 = _
  rw [nx_and, Nat.and_one_is_mod, Nat.testBit_eq_decide_div_mod_eq, Nat.shiftRight_eq_div_pow]
  rcases Nat.mod_two_eq_zero_or_one (B / 2 ^ k) with z | z
  · rw [z, if_neg (by decide)]
    rfl
  · rw [z, if_pos (by decide)]
    rfl
theorem sn_nm1 {b : Nat} (h : b < 2 ^ 31) : ¬ nI b = -1 := fun e => absurd (nI_pos' h) (by rw [e]; decide)
theorem sn_up_up (c : Nat → Nat) (k x y : Nat) : sn_up (sn_up c k x) k y = sn_up c k y := by
  funext j
  by_cases e : j = k
  · rw [e, sn_up_s, sn_up_s]
  · rw [sn_up_n e, sn_up_n e, sn_up_n e]
theorem sn_v {post : Int32 → St1 → Prop} {r r' : Int32} {u : St1} (e : r = r') (h : post r' u) : post r u := by
  rw [e]
  exact h
/-! ===== WALK: the object's picture; findBest and the queries ===== -/
/-- what the object holds: ends, prices, marks -/
def sn_ob (ea eb pr : Nat → Nat) (M : Nat) (a1 a2 a3 : Nat → Int32) : Prop := M < 128 ∧ sn_ar a1 ea 10 ∧ sn_ar a2 eb 10 ∧ sn_ar a3 pr 10 ∧ (∀ k, k < 10 → ea k < 7) ∧ (∀ k, k < 10 → eb k < 7) ∧ (∀ k, k < 10 → pr k ≤ 31)
/-- an answer: -1 for FAR -/
def sn_rs (x y : Nat) : Int32 := if x < 100000 then nI y else -1
theorem sn_rs_t {x y : Nat} (h : x < 100000) : sn_rs x y = nI y := if_pos h
theorem sn_rs_f {x y : Nat} (h : ¬ x < 100000) : sn_rs x y = -1 := if_neg h
/-- the best choice as it is kept -/
def sn_kb (ea eb pr : Nat → Nat) (M b B : Nat) (f4 f5 : Int32) : Prop := sn_B ea eb pr M b B ∧ B < 1024 ∧ f4 = sn_rs b b ∧ f5 = nI B
def sn_K (ea eb pr : Nat → Nat) (M : Nat) (f3 f4 f5 : Int32) : Prop := f3 = 0 ∨ (¬ f3 = 0 ∧ ∃ b B, sn_kb ea eb pr M b B f4 f5)
theorem sn_c0_b {pr : Nat → Nat} (hp : ∀ k, k < 10 → pr k ≤ 31) (k : Nat) (hk : k < 10) : sn_c0 pr k ≤ 100000 := by
  unfold sn_c0
  have := hp k hk
  split <;> omega
theorem sn_up_b {c : Nat → Nat} {k v : Nat} (h : ∀ j, j < 10 → c j ≤ 100000) (hv : v ≤ 100000) (j : Nat) (hj : j < 10) : sn_up c k v j ≤ 100000 := by
  unfold sn_up
  have := h j hj
  split <;> omega
theorem sn_gc_b {pr : Nat → Nat} {k B : Nat} (hp : ∀ k, k < 10 → pr k ≤ 31) (j : Nat) (hj : j < 10) : sn_gc pr k B j ≤ 100000 := by
  unfold sn_gc
  have := sn_c0_b hp j hj
  split
  · omega
  · split <;> omega
section
variable {ea eb pr : Nat → Nat} {M : Nat} {f1 f2 f3 f4 f5 : Int32} {a1 a2 a3 a4 a5 a6 a7 : Nat → Int32}
theorem sn_fb58 {post : St1 → Prop} {b : Nat} (ho : sn_ob ea eb pr M a1 a2 a3) (hb : sn_L ea eb (sn_c0 pr) M b) (hb2 : b < 100000) (h4 : sn_ar a4 (sn_c0 pr) 10)
    (H : ∀ B wc b4 b5 b6 b7, B < 1024 → sn_B ea eb pr M b B → post (nI M, wc, f3, f4, nI B, a1, a2, a3, b4, b5, b6, b7)) : ∃ n, wX_findBest_58 post (nI b) n 0 9 (nI M) f2 f3 f4 0 a1 a2 a3 a4 a5 a6 a7 := by
  obtain ⟨hM, g1, g2, g3, ha, he, hp⟩ := ho
  suffices L : ∀ z, z = nI 10 + (-1) → wX_findBest_58 post (nI b) 11 0 z (nI M) f2 f3 f4 0 a1 a2 a3 a4 a5 a6 a7 from ⟨11, L 9 (pk_m1 9).symm⟩
  refine pk_loopD (σ := Int32 × Int32 × Int32 × (Nat → Int32) × (Nat → Int32) × (Nat → Int32) × (Nat → Int32))
    (fun n i s => ∀ z, z = nI i + (-1) → wX_findBest_58 post (nI b) n s.1 z (nI M) s.2.1 f3 f4 s.2.2.1 a1 a2 a3 s.2.2.2.1 s.2.2.2.2.1 s.2.2.2.2.2.1 s.2.2.2.2.2.2)
    (fun i s => i ≤ 10 ∧ ∃ t B, s.1 = nI t ∧ s.2.2.1 = nI B ∧ B < 1024 ∧ sn_ar s.2.2.2.1 (sn_gc pr i B) 10 ∧ sn_G ea eb pr M b i t B) ?_ ?_ 10 (0, f2, 0, a4, a5, a6, a7) ⟨by omega, 0, 0, rfl, rfl, by omega, fun j hj => by rw [sn_gc_lo hj]; exact h4 j hj, sn_G_0 hb hb2⟩
  · intro n s h z hz
    obtain ⟨x2, wc, bs, b4, b5, b6, b7⟩ := s
    obtain ⟨_, t, B, e1, e2, h1, h2, h3⟩ := h
    have e2' : bs = nI B := e2
    subst e2'
    subst hz
    exact br_t (by decide) (H B wc b4 b5 b6 b7 h1 (sn_G_end h3 hb))
  · intro n k s h hw z hz
    obtain ⟨x2, wc, bs, b4, b5, b6, b7⟩ := s
    obtain ⟨hk, t, B, e1, e2, h1, h2, h3⟩ := h
    have e1' : x2 = nI t := e1
    have e2' : bs = nI B := e2
    have h2' : sn_ar b4 (sn_gc pr (k + 1) B) 10 := h2
    subst e1'
    subst e2'
    rw [pk_m1] at hz
    subst hz
    have hk' : k < 10 := by omega
    have pk := hp k hk'
    have tb : t ≤ b := by obtain ⟨_, _, _, x, _, e⟩ := h3; omega
    refine br_f (nI_pos (by omega)) ⟨pk_in k 10 hk', pk_le (pr k) 0 (fun q => ?_) (fun q => ⟨pk_in k 10 hk', nm_e ?_⟩) (sn_rd1 g3 hk' (by omega)) rfl (by omega)⟩
    · have g := sn_G_z h3 (by omega)
      exact hw (nI t, wc, nI B, b4, b5, b6, b7) ⟨by omega, t, B, rfl, rfl, h1, fun j hj => by rw [g.2 j]; exact h2' j hj, g.1⟩
    · have u4 : sn_ar (upd b4 (nI k).toNatClampNeg 100000) (sn_gc pr k B) 10 := by
        rw [sn_gc_0 h3.1]
        exact sn_put (by omega) h2' rfl
      refine sn_leastFor hM g1 g2 u4 ha he (fun j hj => sn_gc_b hp j hj) (fun y wc' b5' b6' b7' hy => ?_)
      have y1 := hy.1
      refine pk_eq (y + t) b (fun e => ?_) (fun e => ⟨pk_in k 10 hk', nm_e ⟨pk_in k 10 hk', nm_r (e' := nI (t + pr k)) (by rw [sn_rd1 g3 hk' (by omega), nI_add]) (nm_r (sn_set hk') ?_)⟩⟩) (nI_add y t) rfl
      · exact hw (nI t, wc', nI B, _, b5', b6', b7') ⟨by omega, t, B, rfl, rfl, h1, u4, sn_G_out h3 hy e⟩
      · refine hw (nI (t + pr k), wc', nI (B ||| 2 ^ k), _, b5', b6', b7') ⟨by omega, t + pr k, B ||| 2 ^ k, rfl, rfl, ?_, ?_, sn_G_in hk' h3 q hy e⟩
        · exact Nat.or_lt_two_pow (n := 10) h1 (Nat.pow_lt_pow_right (by omega) hk')
        · rw [sn_gc_1, ← sn_up_up _ k 100000, ← sn_gc_0 h3.1]
          exact sn_put (by omega) u4 rfl
theorem sn_findBest {post : St1 → Prop} (ho : sn_ob ea eb pr M a1 a2 a3) (hK : sn_K ea eb pr M f3 f4 f5)
    (H : ∀ b B wc g3 g4 g5 b4 b5 b6 b7, ¬ g3 = 0 → sn_kb ea eb pr M b B g4 g5 → post (nI M, wc, g3, g4, g5, a1, a2, a3, b4, b5, b6, b7)) : wpX_findBest post (nI M, f2, f3, f4, f5, a1, a2, a3, a4, a5, a6, a7) := by
  rcases hK with e | ⟨e, b, B, hk⟩
  · obtain ⟨hM, g1, g2, g3, ha, he, hp⟩ := ho
    refine br_t e (sn_countAll g3 hp (fun b4 h4 => sn_leastFor hM g1 g2 h4 ha he (sn_c0_b hp) (fun x wc b5 b6 b7 hx => ?_)))
    have x1 := hx.1
    refine pk_lt x 100000 (fun z => br_t (nI_lt (b := 100000) z (by decide)) ?_) (fun z => br_f (nI_nlt (b := 100000) z (by omega)) ?_)
    · refine sn_fb58 ⟨hM, g1, g2, g3, ha, he, hp⟩ hx z h4 (fun B wc' c4 c5 c6 c7 hB1 hB2 => H x B wc' 1 (nI x) (nI B) c4 c5 c6 c7 (by decide) ⟨hB2, hB1, (sn_rs_t z).symm, rfl⟩)
    · exact H x 0 wc 1 (-1) 0 b4 b5 b6 b7 (by decide) ⟨⟨hx, fun q => absurd q (by omega)⟩, by omega, (sn_rs_f (by omega)).symm, rfl⟩
  · exact br_f e (H b B f2 f3 f4 f5 a4 a5 a6 a7 e hk)
theorem sn_least {post : Int32 → St1 → Prop} (ho : sn_ob ea eb pr M a1 a2 a3) (hK : sn_K ea eb pr M f3 f4 f5)
    (H : ∀ b B wc g3 g4 g5 b4 b5 b6 b7, ¬ g3 = 0 → sn_kb ea eb pr M b B g4 g5 → post g4 (nI M, wc, g3, g4, g5, a1, a2, a3, b4, b5, b6, b7)) : wpX_least post (nI M, f2, f3, f4, f5, a1, a2, a3, a4, a5, a6, a7) := by
  unfold wpX_least
  dsimp only
  exact sn_findBest ho hK H
theorem sn_isLine {post : Int32 → Prop} {k : Nat} (g3 : sn_ar a3 pr 10) (hp : ∀ k, k < 10 → pr k ≤ 31) (hk : k < 10) (h0 : pr k = 0 → post 0) (h1 : 0 < pr k → post 1) : wpX_isLine post (f1, f2, f3, f4, f5, a1, a2, a3, a4, a5, a6, a7) (nI k) :=
  br_f (nI_pos (by omega)) (pk_lt 9 k (fun z => absurd z (by omega)) (fun _ => ⟨pk_in k 10 hk, pk_le (pr k) 0 (fun z => h0 (by omega)) (fun z => h1 z) (sn_rd1 g3 hk (by omega)) rfl (by have := hp k hk; omega)⟩))
theorem sn_isPoint {post : Int32 → Prop} {a : Nat} (ha : a < 7) (h : post 1) : wpX_isPoint post () (nI a) :=
  br_f (nI_pos (by omega)) (pk_lt 6 a (fun z => absurd z (by omega)) (fun _ => h))
theorem sn_chosen {post : Int32 → St1 → Prop} {b B k : Nat} (ho : sn_ob ea eb pr M a1 a2 a3) (h3 : ¬ f3 = 0) (hK : sn_kb ea eb pr M b B f4 f5) (hk : k < 10) (H0 : pr k = 0 → post (-2) (f1, f2, f3, f4, f5, a1, a2, a3, a4, a5, a6, a7)) (H1 : 0 < pr k → ∀ r, r = (if b < 100000 then (if B.testBit k = true then 1 else 0) else -1) → post r (f1, f2, f3, f4, f5, a1, a2, a3, a4, a5, a6, a7)) : wpX_chosen post (f1, f2, f3, f4, f5, a1, a2, a3, a4, a5, a6, a7) (nI k) := by
  obtain ⟨hM, g1, g2, g3, ha, he, hp⟩ := ho
  obtain ⟨hB, hB1, e4, e5⟩ := hK
  unfold wpX_chosen
  dsimp only
  refine sn_isLine g3 hp hk (fun z => br_t rfl (H0 z)) (fun z => br_f (by decide) (br_f h3 ?_))
  have bb := hB.1.1
  by_cases q : b < 100000
  · refine br_t (by rw [e4, sn_rs_t q]; exact nI_pos' (by omega)) (H1 z _ ?_)
    rw [if_pos q, e5]
    exact sn_bitv hB1 hk
  · have e : ¬ (0 : Int32) ≤ f4 := by rw [e4, sn_rs_f q]; decide
    exact br_f e (H1 z _ (if_neg q).symm)
theorem sn_with {post : Int32 → St1 → Prop} {k : Nat} (ho : sn_ob ea eb pr M a1 a2 a3) (hk : k < 10) (hpk : 0 < pr k)
    (H : ∀ x wc b4 b5 b6 b7, sn_L ea eb (sn_up (sn_c0 pr) k 0) M x → post (sn_rs x (x + pr k)) (nI M, wc, f3, f4, f5, a1, a2, a3, b4, b5, b6, b7)) : wpX_with post (nI M, f2, f3, f4, f5, a1, a2, a3, a4, a5, a6, a7) (nI k) := by
  obtain ⟨hM, g1, g2, g3, ha, he, hp⟩ := ho
  unfold wpX_with
  dsimp only
  refine sn_isLine g3 hp hk (fun z => absurd z (by omega)) (fun _ => br_f (by decide) (sn_countAll g3 hp (fun b4 h4 => ⟨pk_in k 10 hk, nm_e (sn_leastFor hM g1 g2 (sn_put (v := 0) (by omega) h4 rfl) ha he (sn_up_b (sn_c0_b hp) (by omega)) (fun x wc b5 b6 b7 hx => ?_))⟩)))
  have x1 := hx.1
  have HH := H x wc (upd b4 (nI k).toNatClampNeg 0) b5 b6 b7 hx
  refine pk_lt x 100000 (fun z => ⟨pk_in k 10 hk, ?_⟩) (fun z => ?_)
  · rw [sn_rs_t z] at HH
    have e : nI x + a3 (nI k).toNatClampNeg = nI (x + pr k) := by rw [sn_rd1 g3 hk (by omega), nI_add]
    exact sn_v (post := post) e HH
  · rw [sn_rs_f (by omega)] at HH
    exact HH
theorem sn_without {post : Int32 → St1 → Prop} {k : Nat} (ho : sn_ob ea eb pr M a1 a2 a3) (hk : k < 10) (hpk : 0 < pr k)
    (H : ∀ x wc b4 b5 b6 b7, sn_L ea eb (sn_up (sn_c0 pr) k 100000) M x → post (sn_rs x x) (nI M, wc, f3, f4, f5, a1, a2, a3, b4, b5, b6, b7)) : wpX_without post (nI M, f2, f3, f4, f5, a1, a2, a3, a4, a5, a6, a7) (nI k) := by
  obtain ⟨hM, g1, g2, g3, ha, he, hp⟩ := ho
  unfold wpX_without
  dsimp only
  refine sn_isLine g3 hp hk (fun z => absurd z (by omega)) (fun _ => br_f (by decide) (sn_countAll g3 hp (fun b4 h4 => ⟨pk_in k 10 hk, nm_e (sn_leastFor hM g1 g2 (sn_put (v := 100000) (by omega) h4 rfl) ha he (sn_up_b (sn_c0_b hp) (by omega)) (fun x wc b5 b6 b7 hx => ?_))⟩)))
  have x1 := hx.1
  have HH := H x wc (upd b4 (nI k).toNatClampNeg 100000) b5 b6 b7 hx
  refine pk_lt x 100000 (fun z => ?_) (fun z => ?_)
  · rw [sn_rs_t z] at HH
    exact HH
  · rw [sn_rs_f (by omega)] at HH
    exact HH
theorem sn_including {post : Int32 → St1 → Prop} {p : Nat} (ho : sn_ob ea eb pr M a1 a2 a3) (hp7 : p < 7)
    (H : ∀ x wc b4 b5 b6 b7, sn_L ea eb (sn_c0 pr) (M ||| 2 ^ p) x → post (sn_rs x x) (nI M, wc, f3, f4, f5, a1, a2, a3, b4, b5, b6, b7)) : wpX_including post (nI M, f2, f3, f4, f5, a1, a2, a3, a4, a5, a6, a7) (nI p) := by
  obtain ⟨hM, g1, g2, g3, ha, he, hp⟩ := ho
  unfold wpX_including
  dsimp only
  refine sn_isPoint hp7 (br_f (by decide) (sn_countAll g3 hp (fun b4 h4 => ?_)))
  have hM2 : M ||| 2 ^ p < 128 := Nat.or_lt_two_pow (n := 7) hM (Nat.pow_lt_pow_right (by omega) hp7)
  dsimp only
  rw [sn_set (by omega)]
  refine sn_leastFor hM2 g1 g2 h4 ha he (sn_c0_b hp) (fun x wc b5 b6 b7 hx => ?_)
  have x1 := hx.1
  have HH := H x wc b4 b5 b6 b7 hx
  refine pk_lt x 100000 (fun z => ?_) (fun z => ?_)
  · rw [sn_rs_t z] at HH
    exact HH
  · rw [sn_rs_f (by omega)] at HH
    exact HH
end
end
section
/-! ===== WALK: the law's own check, holds ===== -/
theorem sn_lesser {post : Int32 → Prop} {b r o q : Nat} (hb : b ≤ 100000) (hr : r ≤ 100000) (ho : o ≤ 100000) (hq : q ≤ 31) (h1 : r < 100000 ↔ b < 100000) (h2 : b ≤ o) (h3 : b < 100000 → b ≤ r + q ∧ (b = r + q ∨ b = o)) (H : post (sn_rs b b)) : wpL_lesser post () (sn_rs r (r + q)) (sn_rs o o) := by
  by_cases hb1 : b < 100000
  · have hr1 := h1.mpr hb1
    obtain ⟨h4, h5⟩ := h3 hb1
    rw [sn_rs_t hb1] at H
    rw [sn_rs_t hr1]
    refine br_t (nI_pos' (by omega)) ?_
    by_cases ho1 : o < 100000
    · rw [sn_rs_t ho1]
      refine br_f (nI_pos (by omega)) (pk_le o (r + q) (fun z => ?_) (fun z => ?_))
      · rw [show o = b by omega]
        exact H
      · rw [show r + q = b by omega]
        exact H
    · rw [sn_rs_f ho1]
      refine br_t (by decide) ?_
      rw [show r + q = b by omega]
      exact H
  · rw [sn_rs_f hb1] at H
    rw [sn_rs_f (fun z => hb1 (h1.mp z)), sn_rs_f (show ¬ o < 100000 by omega)]
    exact br_f (by decide) H
section
variable {ea eb pr : Nat → Nat} {M b B : Nat} {f1 f2 f3 f4 f5 : Int32} {a1 a2 a3 a4 a5 a6 a7 : Nat → Int32} {post : Int32 → St1 → Prop}
theorem sn_h227 {J : Int32 → Int32 → Int32 → Int32 → Int32 → Int32 → (Nat → Int32) → (Nat → Int32) → (Nat → Int32) → (Nat → Int32) → (Nat → Int32) → (Nat → Int32) → (Nat → Int32) → Prop} {x3 : Int32} {p i : Nat} (hb : b ≤ 100000) (hi : i ≤ 100000) (hbi : b ≤ i) (H : J (nI (p + 1)) f1 f2 f3 f4 f5 a1 a2 a3 a4 a5 a6 a7) : wL_holds_227 post J x3 (sn_rs b b) (nI p) (sn_rs i i) f1 f2 f3 f4 f5 a1 a2 a3 a4 a5 a6 a7 := by
  by_cases hb1 : b < 100000
  · exact br_f (by rw [sn_rs_t hb1]; exact sn_nm1 (by omega)) (nm_r (nI_1 p) H)
  · exact br_t (sn_rs_f hb1) (br_t (sn_rs_f (show ¬ i < 100000 by omega)) (nm_r (nI_1 p) H))
theorem sn_h214 {J : Int32 → Int32 → Int32 → Int32 → Int32 → Int32 → (Nat → Int32) → (Nat → Int32) → (Nat → Int32) → (Nat → Int32) → (Nat → Int32) → (Nat → Int32) → (Nat → Int32) → Prop} {x3 : Int32} {p i : Nat} (hb : b ≤ 100000) (hi : i ≤ 100000) (hbi : b ≤ i) (H : J (nI (p + 1)) f1 f2 f3 f4 f5 a1 a2 a3 a4 a5 a6 a7) : wL_holds_214 post J x3 (sn_rs b b) (nI p) (sn_rs i i) f1 f2 f3 f4 f5 a1 a2 a3 a4 a5 a6 a7 := by
  have h := sn_h227 (post := post) (x3 := x3) hb hi hbi H
  by_cases hi1 : i < 100000
  · refine br_f (by rw [sn_rs_t hi1]; exact sn_nm1 (by omega)) (br_f ?_ h)
    rw [sn_rs_t hi1, sn_rs_t (show b < 100000 by omega)]
    exact nI_nlt hbi (by omega)
  · exact br_t (sn_rs_f hi1) h
theorem sn_h171 (ho : sn_ob ea eb pr M a1 a2 a3) (hB : sn_B ea eb pr M b B)
    (H : ∀ wc b4 b5 b6 b7, post 1 (nI M, wc, f3, f4, f5, a1, a2, a3, b4, b5, b6, b7)) : ∃ n, wL_holds_171 post (nI M) (sn_rs b b) n 0 (nI M) f2 f3 f4 f5 a1 a2 a3 a4 a5 a6 a7 := by
  refine pk_loop (σ := Int32 × (Nat → Int32) × (Nat → Int32) × (Nat → Int32) × (Nat → Int32)) (fun n p s => wL_holds_171 post (nI M) (sn_rs b b) n (nI p) (nI M) s.1 f3 f4 f5 a1 a2 a3 s.2.1 s.2.2.1 s.2.2.2.1 s.2.2.2.2) (fun _ _ => True) 7 0 (f2, a4, a5, a6, a7) (by omega) trivial ?_ ?_
  · intro n s _
    exact pk_le 7 7 (fun _ => H _ _ _ _ _) (fun z => absurd z (by omega))
  · intro n p s hp _ hw
    obtain ⟨wc, b4, b5, b6, b7⟩ := s
    refine pk_le 7 p (fun z => absurd z (by omega)) (fun _ => sn_including ho hp (fun i wc' c4 c5 c6 c7 hi => ?_))
    have hI := sn_in hB.1 hi
    have g := sn_h214 (post := post) (J := wL_holds_171 post (nI M) (sn_rs b b) n) (x3 := nI M) (p := p) (i := i) (b := b) hB.1.1 hi.1 hI.1 (hw (wc', c4, c5, c6, c7) trivial)
    refine ek_if (sn_sbit M ho.1 p hp) (fun z => br_t rfl g) (fun z => br_f (by decide) (br_t ?_ g))
    rw [hI.2 ((Bool.eq_false_or_eq_true _).resolve_right z)]
theorem sn_h134 {J : Int32 → Int32 → Int32 → Int32 → Int32 → Int32 → Int32 → (Nat → Int32) → (Nat → Int32) → (Nat → Int32) → (Nat → Int32) → (Nat → Int32) → (Nat → Int32) → (Nat → Int32) → Prop} {x1 : Int64} {x3 x4 x5 x8 x10 : Int32} {k : Nat} (h0 : x8 = 0 → x10 = x4) (H : J x5 (nI (k + 1)) f1 f2 f3 f4 f5 a1 a2 a3 a4 a5 a6 a7) : wL_holds_134 post J x1 x3 x4 x5 (nI k) x8 x10 f1 f2 f3 f4 f5 a1 a2 a3 a4 a5 a6 a7 :=
  br_c (fun z => br_t (h0 z) (nm_r (nI_1 k) H)) (fun _ => nm_r (nI_1 k) H)
theorem sn_h121 {J : Int32 → Int32 → Int32 → Int32 → Int32 → Int32 → Int32 → (Nat → Int32) → (Nat → Int32) → (Nat → Int32) → (Nat → Int32) → (Nat → Int32) → (Nat → Int32) → (Nat → Int32) → Prop} {x1 : Int64} {x3 x4 x5 x8 x9 x10 : Int32} {k : Nat} (h1 : x8 = 1 → x9 = x4) (h0 : x8 = 0 → x10 = x4) (H : J x5 (nI (k + 1)) f1 f2 f3 f4 f5 a1 a2 a3 a4 a5 a6 a7) : wL_holds_121 post J x1 x3 x4 x5 (nI k) x8 x9 x10 f1 f2 f3 f4 f5 a1 a2 a3 a4 a5 a6 a7 :=
  br_c (fun z => br_t (h1 z) (sn_h134 h0 H)) (fun _ => sn_h134 h0 H)
theorem sn_h103 {J : Int32 → Int32 → Int32 → Int32 → Int32 → Int32 → Int32 → (Nat → Int32) → (Nat → Int32) → (Nat → Int32) → (Nat → Int32) → (Nat → Int32) → (Nat → Int32) → (Nat → Int32) → Prop} {x1 : Int64} {x3 x4 x5 x7 x8 x9 x10 z0 z1 : Int32} {k : Nat} (hz : z1 = z0) (h1 : x8 = 1 → x9 = x4) (h0 : x8 = 0 → x10 = x4) (H1 : x8 = 1 → J (x5 + x7) (nI (k + 1)) f1 f2 f3 f4 f5 a1 a2 a3 a4 a5 a6 a7) (H0 : ¬ x8 = 1 → J x5 (nI (k + 1)) f1 f2 f3 f4 f5 a1 a2 a3 a4 a5 a6 a7) : wL_holds_103 post J x1 x3 x4 x5 (nI k) x7 x8 x9 x10 z0 z1 f1 f2 f3 f4 f5 a1 a2 a3 a4 a5 a6 a7 :=
  br_t hz (br_c (fun z => nm_e (sn_h121 h1 h0 (H1 z))) (fun z => sn_h121 h1 h0 (H0 z)))
theorem sn_h12 {x1 : Int64} (ho : sn_ob ea eb pr M a1 a2 a3) (h3 : ¬ f3 = 0) (hK : sn_kb ea eb pr M b B f4 f5) (hx : sn_pb x1 pr)
    (H : ∀ wc b4 b5 b6 b7, post 1 (nI M, wc, f3, f4, f5, a1, a2, a3, b4, b5, b6, b7)) : ∃ n, wL_holds_12 post x1 (nI M) (sn_rs b b) n 0 0 (nI M) f2 f3 f4 f5 a1 a2 a3 a4 a5 a6 a7 := by
  have hB := hK.1
  have bb := hB.1.1
  have hp := ho.2.2.2.2.2.2
  refine pk_loop (σ := Int32 × Int32 × (Nat → Int32) × (Nat → Int32) × (Nat → Int32) × (Nat → Int32)) (fun n k s => wL_holds_12 post x1 (nI M) (sn_rs b b) n s.1 (nI k) (nI M) s.2.1 f3 f4 f5 a1 a2 a3 s.2.2.1 s.2.2.2.1 s.2.2.2.2.1 s.2.2.2.2.2) (fun k s => b < 100000 → s.1 = nI (sn_cost (sn_c0 pr) (fun j => B.testBit j) k)) 10 0 (0, f2, a4, a5, a6, a7) (by omega) (fun _ => rfl) ?_ ?_
  · intro n s h
    obtain ⟨x5, wc, b4, b5, b6, b7⟩ := s
    have L := sn_h171 (f2 := wc) (a4 := b4) (a5 := b5) (a6 := b6) (a7 := b7) ho hB H
    refine pk_le 10 10 (fun _ => ?_) (fun z => absurd z (by omega))
    by_cases hb : b < 100000
    · have e : x5 = nI (sn_cost (sn_c0 pr) (fun j => B.testBit j) 10) := h hb
      rw [(hB.2 hb).2.1] at e
      refine br_f (by rw [sn_rs_t hb]; exact nI_pos (by omega)) (br_t ?_ L)
      rw [e, sn_rs_t hb]
    · exact br_t (by rw [sn_rs_f hb]; decide) L
  · intro n k s hk h hw
    obtain ⟨x5, wc, b4, b5, b6, b7⟩ := s
    have h' : b < 100000 → x5 = nI (sn_cost (sn_c0 pr) (fun j => B.testBit j) k) := h
    have pk := hp k hk
    refine pk_le 10 k (fun z => absurd z (by omega)) (fun _ => nm_r (sn_px hx hk pk) (sn_chosen ho h3 hK hk (fun z => ?_) (fun z rr er => ?_)))
    · refine br_t (by rw [z]; rfl) (br_t rfl (nm_r (nI_1 k) (hw (x5, wc, b4, b5, b6, b7) (fun hb => ?_))))
      show x5 = nI (sn_cost (sn_c0 pr) (fun j => B.testBit j) k + sn_tm (sn_c0 pr) (fun j => B.testBit j) k)
      rw [sn_tm_f (F := fun j => B.testBit j) (fun q => by have := ((hB.2 hb).2.2 k q).2; omega)]
      exact h' hb
    · refine br_f (nI_ne0 z (by omega)) (sn_with ho hk z (fun r wc1 c4 c5 c6 c7 hr => sn_without ho hk z (fun o wc2 d4 d5 d6 d7 hO => ?_)))
      have F := sn_wi hk hp z hB hr hO
      refine sn_lesser bb hr.1 hO.1 pk F.1 F.2.1 (fun hb => ⟨(F.2.2 hb).1, (F.2.2 hb).2.1⟩) (br_t rfl ?_)
      by_cases hb : b < 100000
      · have F2 := F.2.2 hb
        rw [if_pos hb] at er
        refine br_t (by rw [sn_rs_t hb]; exact nI_pos' (by omega)) ?_
        by_cases q : B.testBit k = true
        · rw [if_pos q] at er
          subst er
          refine br_t rfl (sn_h103 rfl (fun _ => ?_) (fun y => absurd y (by decide)) (fun _ => hw (x5 + nI (pr k), wc2, d4, d5, d6, d7) (fun _ => ?_)) (fun y => absurd rfl y))
          · rw [sn_rs_t (F.1.mpr hb), sn_rs_t hb, F2.2.2.1 q]
          · show x5 + nI (pr k) = nI (sn_cost (sn_c0 pr) (fun j => B.testBit j) k + sn_tm (sn_c0 pr) (fun j => B.testBit j) k)
            rw [sn_tm_t (F := fun j => B.testBit j) q, sn_c0_p z, h' hb, nI_add]
        · rw [if_neg q] at er
          subst er
          refine br_f (by decide) (sn_h103 rfl (fun y => absurd y (by decide)) (fun _ => ?_) (fun y => absurd y (by decide)) (fun _ => hw (x5, wc2, d4, d5, d6, d7) (fun _ => ?_)))
          · rw [F2.2.2.2 q]
          · show x5 = nI (sn_cost (sn_c0 pr) (fun j => B.testBit j) k + sn_tm (sn_c0 pr) (fun j => B.testBit j) k)
            rw [sn_tm_f (F := fun j => B.testBit j) q]
            exact h' hb
      · rw [if_neg hb] at er
        subst er
        exact br_f (by rw [sn_rs_f hb]; decide) (sn_h103 rfl (fun y => absurd y (by decide)) (fun y => absurd y (by decide)) (fun y => absurd y (by decide)) (fun _ => hw (x5, wc2, d4, d5, d6, d7) (fun y => absurd y hb)))
theorem sn_holds {x1 : Int64} (ho : sn_ob ea eb pr M a1 a2 a3) (hK : sn_K ea eb pr M f3 f4 f5) (hx : sn_pb x1 pr)
    (H : ∀ wc g3 g4 g5 b4 b5 b6 b7, sn_K ea eb pr M g3 g4 g5 → post 1 (nI M, wc, g3, g4, g5, a1, a2, a3, b4, b5, b6, b7)) : wpL_holds post (nI M, f2, f3, f4, f5, a1, a2, a3, a4, a5, a6, a7) x1 (nI M) := by
  unfold wpL_holds
  dsimp only
  refine sn_least ho hK (fun b B wc g3 g4 g5 b4 b5 b6 b7 h3 hk => ?_)
  have L := sn_h12 (post := post) (f2 := wc) (a4 := b4) (a5 := b5) (a6 := b6) (a7 := b7) ho h3 hk hx (fun wc' c4 c5 c6 c7 => H wc' g3 g4 g5 c4 c5 c6 c7 (Or.inr ⟨h3, b, B, hk⟩))
  have e4 := hk.2.2.1
  subst e4
  exact L
end
end
section
/-! ===== WALK: the changes (line, cut, mark) and the law's loop ===== -/
/-- the whole picture between two turns -/
def sn_P (x2 : Int64) (x4 f1 f3 f4 f5 : Int32) (a1 a2 a3 : Nat → Int32) : Prop := ∃ ea eb pr M, f1 = nI M ∧ x4 = nI M ∧ sn_ob ea eb pr M a1 a2 a3 ∧ sn_K ea eb pr M f3 f4 f5 ∧ sn_pb x2 pr
theorem sn_rem (x : Int32) (d : Nat) (h0 : 0 < d) (hd : d < 2 ^ 31) : ∃ j, j < d ∧ (x &&& 255) - (x &&& 255) / nI d * nI d = nI j := by
  obtain ⟨u, hu, e⟩ := pk_andE x (m := 255) 8 (by decide)
  refine ⟨u % d, Nat.mod_lt _ h0, ?_⟩
  rw [e, pk_rem (by omega) h0 hd]
section
variable {L : Nat} {xs : Nat → Int32} {kc ks : Nat} {f2 f3 f4 f5 : Int32} {a1 a2 a3 a4 a5 a6 a7 : Nat → Int32}
theorem sn_224 {J : Int64 → Int32 → Int32 → Int32 → Int32 → Int32 → Int32 → Int32 → (Nat → Int32) → (Nat → Int32) → (Nat → Int32) → (Nat → Int32) → (Nat → Int32) → (Nat → Int32) → (Nat → Int32) → Prop} {x2 : Int64} {x4 f1 : Int32} {i : Nat} (hL : L ≤ 260) (hi : i + 4 ≤ L) (hP : sn_P x2 x4 f1 f3 f4 f5 a1 a2 a3)
    (H : ∀ g2 g3 g4 g5 b4 b5 b6 b7, sn_P x2 x4 f1 g3 g4 g5 a1 a2 a3 → J x2 x4 (nI (i + 4)) f1 g2 g3 g4 g5 a1 a2 a3 b4 b5 b6 b7) : wL_law_224 (fun r => r = 1) L xs J x2 x4 (nI i) kc ks f1 f2 f3 f4 f5 a1 a2 a3 a4 a5 a6 a7 := by
  have e4 : nI i + 4 = nI (i + 4) := nI_add i 4
  have e3 : nI i + 3 = nI (i + 3) := nI_add i 3
  refine ⟨pk_in (i + 3) L (by omega) e3, br_c (fun _ => ?_) (fun _ => nm_r e4 (H f2 f3 f4 f5 a4 a5 a6 a7 hP))⟩
  obtain ⟨ea, eb, pr, M, e1, e2, ho, hK, hx⟩ := hP
  subst e1
  subst e2
  exact sn_holds ho hK hx (fun wc g3 g4 g5 b4 b5 b6 b7 hk => br_f (by decide) (nm_r e4 (H wc g3 g4 g5 b4 b5 b6 b7 ⟨ea, eb, pr, M, rfl, rfl, ho, hk, hx⟩)))
theorem sn_law16 (hL : L ≤ 260) : ∀ (n i : Nat) (x2 : Int64) (x4 f1 f2 f3 f4 f5 : Int32) (a1 a2 a3 a4 a5 a6 a7 : Nat → Int32), i ≤ L → L < n + i → sn_P x2 x4 f1 f3 f4 f5 a1 a2 a3 → wL_law_16 (fun r => r = 1) L xs kc ks n x2 x4 (nI i) f1 f2 f3 f4 f5 a1 a2 a3 a4 a5 a6 a7
  | 0, i, _, _, _, _, _, _, _, _, _, _, _, _, _, _, h1, h2, _ => absurd h2 (by omega)
  | n + 1, i, x2, x4, f1, f2, f3, f4, f5, a1, a2, a3, a4, a5, a6, a7, h1, h2, hP => by
    have e4 : nI i + 4 = nI (i + 4) := nI_add i 4
    refine pk_lt L (i + 4) (fun z => ?_) (fun z => ?_) rfl e4
    · obtain ⟨ea, eb, pr, M, e1, e2, ho, hK, hx⟩ := hP
      subst e1
      subst e2
      exact sn_holds ho hK hx (fun wc g3 g4 g5 b4 b5 b6 b7 hk => rfl)
    · obtain ⟨k0, k0b, ek⟩ := pk_andE (xs (nI i).toNatClampNeg) (m := 15) 4 (by decide)
      obtain ⟨a, ab, eA⟩ := sn_rem (xs (nI i + 1).toNatClampNeg) 7 (by omega) (by omega)
      obtain ⟨b, bb, eB⟩ := sn_rem (xs (nI i + 2).toNatClampNeg) 7 (by omega) (by omega)
      obtain ⟨l, lb, eL⟩ := sn_rem (xs (nI i).toNatClampNeg >>> ((4 : Int32) &&& 31)) 10 (by omega) (by omega)
      obtain ⟨p, pb, eP⟩ := sn_rem (xs (nI i + 3).toNatClampNeg) 31 (by omega) (by omega)
      have eP' : 1 + ((xs (nI i + 3).toNatClampNeg &&& 255) - (xs (nI i + 3).toNatClampNeg &&& 255) / nI 31 * nI 31) = nI (1 + p) := by
        rw [eP]
        exact nI_add 1 p
      have HJ : ∀ (y2 : Int64) (y4 g1 g2 g3 g4 g5 : Int32) (b1 b2 b3 b4 b5 b6 b7 : Nat → Int32), sn_P y2 y4 g1 g3 g4 g5 b1 b2 b3 → wL_law_16 (fun r => r = 1) L xs kc ks n y2 y4 (nI (i + 4)) g1 g2 g3 g4 g5 b1 b2 b3 b4 b5 b6 b7 := fun y2 y4 g1 g2 g3 g4 g5 b1 b2 b3 b4 b5 b6 b7 h => sn_law16 hL n (i + 4) y2 y4 g1 g2 g3 g4 g5 b1 b2 b3 b4 b5 b6 b7 (by omega) (by omega) h
      obtain ⟨ea, eb, pr, M, e1, e2, ho, hK, hx⟩ := hP
      obtain ⟨hM, g1, g2, g3, ha, he, hp⟩ := ho
      subst e1
      subst e2
      refine ⟨pk_in i L (by omega), nm_r ek ⟨pk_in (i + 1) L (by omega) (nI_add i 1), by decide, nm_r eA ⟨pk_in (i + 2) L (by omega) (nI_add i 2), by decide, nm_r eB ⟨pk_in i L (by omega), by decide, nm_r eL ⟨pk_in (i + 3) L (by omega) (nI_add i 3), by decide, nm_r eP' ?_⟩⟩⟩⟩⟩
      refine pk_lt 9 k0 (fun z9 => pk_eq k0 10 (fun z10 => ?_) (fun z10 => ?_)) (fun z9 => ?_)
      · -- cut
        have e0 : ∀ (hz : pr l = 0), sn_up pr l 0 = pr := fun hz => by
          funext j
          by_cases e : j = l
          · rw [e, sn_up_s, hz]
          · rw [sn_up_n e]
        unfold wpX_cut
        dsimp only
        refine sn_isLine g3 hp lb (fun hz => br_t rfl (nm_e (sn_224 hL z ⟨ea, eb, pr, M, rfl, rfl, ⟨hM, g1, g2, g3, ha, he, hp⟩, hK, ?_⟩ (fun q2 q3 q4 q5 b4 b5 b6 b7 h => HJ _ _ _ _ _ _ _ _ _ _ _ _ _ _ h)))) (fun hz => br_f (by decide) ⟨pk_in l 10 lb, nm_e (nm_e (sn_224 hL z ⟨ea, eb, sn_up pr l 0, M, rfl, rfl, ⟨hM, g1, g2, sn_put (by omega) g3 rfl, ha, he, fun j hj => ?_⟩, Or.inl rfl, sn_pb_0 lb hx⟩ (fun q2 q3 q4 q5 b4 b5 b6 b7 h => HJ _ _ _ _ _ _ _ _ _ _ _ _ _ _ h)))⟩)
        · have h0 := sn_pb_0 lb hx
          rw [e0 hz] at h0
          exact h0
        · have := hp j hj
          unfold sn_up
          split <;> omega
      · -- mark
        have hM2 : M ||| 2 ^ a < 128 := Nat.or_lt_two_pow (n := 7) hM (Nat.pow_lt_pow_right (by omega) ab)
        have hM3 : M &&& (127 ^^^ 2 ^ a) < 128 := Nat.lt_of_le_of_lt Nat.and_le_left hM
        refine pk_eq k0 15 (fun z15 => ?_) (fun z15 => ?_)
        · unfold wL_law_192 wpX_mark
          dsimp only
          refine sn_isPoint ab (br_f (by decide) (nm_e (br_t rfl (nm_r (sn_clr M hM a ab) (br_t (by rw [z15]; rfl) ?_)))))
          unfold wL_law_222
          rw [sn_clr M hM a ab]
          exact sn_224 hL z ⟨ea, eb, pr, M &&& (127 ^^^ 2 ^ a), rfl, rfl, ⟨hM3, g1, g2, g3, ha, he, hp⟩, Or.inl rfl, hx⟩ (fun q2 q3 q4 q5 b4 b5 b6 b7 h => HJ _ _ _ _ _ _ _ _ _ _ _ _ _ _ h)
        · unfold wL_law_192 wpX_mark
          dsimp only
          refine sn_isPoint ab (br_f (by decide) (nm_e (br_f (by decide) (nm_r (sn_set (by omega)) (br_f (fun e => z15 ((nI_eq (by omega) (by omega)).mp e)) ?_)))))
          unfold wL_law_222
          rw [sn_set (by omega)]
          exact sn_224 hL z ⟨ea, eb, pr, M ||| 2 ^ a, rfl, rfl, ⟨hM2, g1, g2, g3, ha, he, hp⟩, Or.inl rfl, hx⟩ (fun q2 q3 q4 q5 b4 b5 b6 b7 h => HJ _ _ _ _ _ _ _ _ _ _ _ _ _ _ h)
      · -- line
        refine br_f (nI_pos (by omega)) (pk_lt 9 l (fun y => absurd y (by omega)) (fun _ => sn_isPoint ab (br_f (by decide) (sn_isPoint bb (br_f (by decide) (pk_eq a b (fun y => ?_) (fun y => ?_)))))))
        · exact br_f (by decide) (sn_224 hL z ⟨ea, eb, pr, M, rfl, rfl, ⟨hM, g1, g2, g3, ha, he, hp⟩, hK, hx⟩ (fun q2 q3 q4 q5 b4 b5 b6 b7 h => HJ _ _ _ _ _ _ _ _ _ _ _ _ _ _ h))
        · refine pk_lt (1 + p) 1 (fun y => absurd y (by omega)) (fun _ => pk_le (1 + p) 100 (fun _ => ⟨pk_in l 10 lb, nm_e ⟨pk_in l 10 lb, nm_e ⟨pk_in l 10 lb, nm_e (br_t rfl (nm_e (sn_224 hL z ⟨sn_up ea l a, sn_up eb l b, sn_up pr l (1 + p), M, rfl, rfl, ⟨hM, sn_put (by omega) g1 rfl, sn_put (by omega) g2 rfl, sn_put (by omega) g3 rfl, fun j hj => ?_, fun j hj => ?_, fun j hj => ?_⟩, Or.inl rfl, sn_pb_1 lb (by omega) hx⟩ (fun q2 q3 q4 q5 b4 b5 b6 b7 h => HJ _ _ _ _ _ _ _ _ _ _ _ _ _ _ h))))⟩⟩⟩) (fun y => absurd y (by omega)))
          · have := ha j hj
            unfold sn_up
            split <;> omega
          · have := he j hj
            unfold sn_up
            split <;> omega
          · have := hp j hj
            unfold sn_up
            split <;> omega
end
theorem i_vc (xs : Nat → Int32) (L : Nat) (hL : L ≤ 260) : wpL_law (fun r => r = 1) L xs := by
  refine ⟨7, 544, by omega, by omega, ?_⟩
  refine ⟨by omega, by omega, by omega, by omega, by omega, by omega, by omega, by omega, by omega, by omega, by omega, by omega, by omega, by omega, ?_⟩
  refine ⟨L + 1, sn_law16 hL (L + 1) 0 0 0 0 0 0 0 0 _ _ _ _ _ _ _ (by omega) (by omega) ⟨fun _ => 0, fun _ => 0, fun _ => 0, 0, rfl, rfl, ⟨by omega, fun j _ => rfl, fun j _ => rfl, fun j _ => rfl, fun _ _ => (show (0 : Nat) < 7 by omega), fun _ _ => (show (0 : Nat) < 7 by omega), fun _ _ => Nat.zero_le 31⟩, Or.inl rfl, fun k i _ _ => ?_⟩⟩
  show (0#64).getLsbD (5 * k + i) = Nat.testBit 0 i
  rw [Nat.zero_testBit]
  exact BitVec.getLsbD_zero
end
