section
/-! ===== numbers: a place below N or -1 (fq_en), one less than a count (fq_dn) ===== -/
def fq_en (N y : Nat) : Int32 := if y < N then nI y else -1
def fq_dn (y : Nat) : Int32 := nI y - 1
theorem fq_en_lt {N y : Nat} (h : y < N) : fq_en N y = nI y := if_pos h
theorem fq_en_ge {N y : Nat} (h : N ≤ y) : fq_en N y = -1 := if_neg (Nat.not_lt.mpr h)
theorem fq_en_toInt {N y : Nat} (hN : N < 2 ^ 31) : (fq_en N y).toInt = if y < N then (y : Int) else -1 := by
  by_cases h : y < N
  · rw [fq_en_lt h, if_pos h]
    exact nI_toInt (by omega)
  · rw [fq_en_ge (Nat.not_lt.mp h), if_neg h]
    decide
theorem fq_dn_toInt {y : Nat} (h : y < 2 ^ 30) : (fq_dn y).toInt = (y : Int) - 1 :=
  pk_sub_toInt (a := y) (b := 1) h (by decide)
theorem fq_dn_s (y : Nat) : fq_dn (y + 1) = nI y := nI_pred y
theorem fq_dn_0 : fq_dn 0 = -1 := by decide
theorem fq_dn_p {y : Nat} (h : 0 < y) : fq_dn y = nI (y - 1) := by
  obtain ⟨k, rfl⟩ : ∃ k, y = k + 1 := ⟨y - 1, by omega⟩
  exact fq_dn_s k
theorem fq_lt {x y : Int32} {a b : Int} (hx : x.toInt = a) (hy : y.toInt = b) : x < y ↔ a < b := by
  rw [Int32.lt_iff_toInt_lt, hx, hy]
theorem fq_le {x y : Int32} {a b : Int} (hx : x.toInt = a) (hy : y.toInt = b) : x ≤ y ↔ a ≤ b := by
  rw [Int32.le_iff_toInt_le, hx, hy]
theorem fq_eq {x y : Int32} {a b : Int} (hx : x.toInt = a) (hy : y.toInt = b) : x = y ↔ a = b := by
  rw [← Int32.toInt_inj, hx, hy]
theorem fq_t0 : (0 : Int32).toInt = 0 := by decide
theorem fq_tm1 : (-1 : Int32).toInt = -1 := by decide
/-! ===== pictures: the first member from a on (N: none), one more than the last member below x (0: none) ===== -/
def fq_fs (m : Nat → Prop) (a N y : Nat) : Prop := a ≤ y ∧ y ≤ N ∧ (y < N → m y) ∧ ∀ z, a ≤ z → z < y → ¬ m z
def fq_pv (m : Nat → Prop) (x y : Nat) : Prop := y ≤ x ∧ (0 < y → m (y - 1)) ∧ ∀ z, y ≤ z → z < x → ¬ m z
theorem fq_fs_u {m : Nat → Prop} {a N y y' : Nat} (h : fq_fs m a N y) (h' : fq_fs m a N y') : y = y' := by
  obtain ⟨h1, h2, h3, h4⟩ := h
  obtain ⟨g1, g2, g3, g4⟩ := h'
  rcases Nat.lt_trichotomy y y' with z | z | z
  · exact absurd (h3 (by omega)) (g4 y h1 z)
  · exact z
  · exact absurd (g3 (by omega)) (h4 y' g1 z)
theorem fq_pv_u {m : Nat → Prop} {x y y' : Nat} (h : fq_pv m x y) (h' : fq_pv m x y') : y = y' := by
  obtain ⟨h1, h3, h4⟩ := h
  obtain ⟨g1, g3, g4⟩ := h'
  rcases Nat.lt_trichotomy y y' with z | z | z
  · exact absurd (g3 (by omega)) (h4 (y' - 1) (by omega) (by omega))
  · exact z
  · exact absurd (h3 (by omega)) (g4 (y - 1) (by omega) (by omega))
theorem fq_fs_c {m m' : Nat → Prop} {a N y : Nat} (e : ∀ z, z < N → (m z ↔ m' z)) (h : fq_fs m a N y) : fq_fs m' a N y :=
  ⟨h.1, h.2.1, fun z => (e y z).mp (h.2.2.1 z), fun z h1 h2 h3 => h.2.2.2 z h1 h2 ((e z (Nat.lt_of_lt_of_le h2 h.2.1)).mpr h3)⟩
theorem fq_pv_c {m m' : Nat → Prop} {x y : Nat} (e : ∀ z, z < x → (m z ↔ m' z)) (h : fq_pv m x y) : fq_pv m' x y := by
  obtain ⟨h1, h2, h3⟩ := h
  exact ⟨h1, fun z => (e (y - 1) (by omega)).mp (h2 z), fun z g1 g2 g3 => h3 z g1 g2 ((e z g2).mpr g3)⟩
/-! ===== four bits ===== -/
theorem fq_F0 : ∀ F, F < 16 → (nI F = 0 ↔ ∀ k, k < 4 → F.testBit k = false) := by decide +kernel
theorem fq_Tput : ∀ F, F < 16 → ∀ x, x < 16 → ((nI F ||| ((1 : Int32) <<< ((nI x &&& 3) &&& 31))).toInt8.toInt32 = nI (F ||| 2 ^ (x % 4)) ∧ F ||| 2 ^ (x % 4) < 16 ∧ ∀ k, k < 4 → ((F ||| 2 ^ (x % 4)).testBit k = true ↔ F.testBit k = true ∨ k = x % 4)) := by decide +kernel
theorem fq_TputP : ∀ F, F < 16 → ∀ x, x < 16 → ((nI F ||| ((1 : Int32) <<< ((nI x >>> ((2 : Int32) &&& 31)) &&& 31))).toInt8.toInt32 = nI (F ||| 2 ^ (x / 4)) ∧ F ||| 2 ^ (x / 4) < 16 ∧ ∀ k, k < 4 → ((F ||| 2 ^ (x / 4)).testBit k = true ↔ F.testBit k = true ∨ k = x / 4)) := by decide +kernel
theorem fq_Ttake : ∀ F, F < 16 → ∀ x, x < 16 → ((nI F &&& (((1 : Int32) <<< ((nI x &&& 3) &&& 31)) ^^^ (-1))).toInt8.toInt32 = nI (F &&& (15 ^^^ 2 ^ (x % 4))) ∧ F &&& (15 ^^^ 2 ^ (x % 4)) < 16 ∧ ∀ k, k < 4 → ((F &&& (15 ^^^ 2 ^ (x % 4))).testBit k = true ↔ F.testBit k = true ∧ k ≠ x % 4)) := by decide +kernel
theorem fq_TtakeP : ∀ F, F < 16 → ∀ x, x < 16 → ((nI F &&& (((1 : Int32) <<< ((nI x >>> ((2 : Int32) &&& 31)) &&& 31)) ^^^ (-1))).toInt8.toInt32 = nI (F &&& (15 ^^^ 2 ^ (x / 4))) ∧ F &&& (15 ^^^ 2 ^ (x / 4)) < 16 ∧ ∀ k, k < 4 → ((F &&& (15 ^^^ 2 ^ (x / 4))).testBit k = true ↔ F.testBit k = true ∧ k ≠ x / 4)) := by decide +kernel
theorem fq_Ttest : ∀ F, F < 16 → ∀ x, x < 16 → ((nI F >>> ((nI x &&& 3) &&& 31)) &&& 1 = 0 ↔ ¬ F.testBit (x % 4) = true) := by decide +kernel
theorem fq_Tup : ∀ F, F < 16 → ∀ x, x < 16 → ((nI F &&& ((14 : Int32) <<< ((nI x &&& 3) &&& 31))) &&& (15 : Int32) = nI (F &&& (14 <<< (x % 4)) &&& 15) ∧ F &&& (14 <<< (x % 4)) &&& 15 < 16 ∧ ∀ k, k < 4 → ((F &&& (14 <<< (x % 4)) &&& 15).testBit k = true ↔ F.testBit k = true ∧ x % 4 < k)) := by decide +kernel
theorem fq_TupP : ∀ F, F < 16 → ∀ i, i < 4 → ((nI F &&& ((14 : Int32) <<< (nI i &&& 31))) &&& (15 : Int32) = nI (F &&& (14 <<< i) &&& 15) ∧ F &&& (14 <<< i) &&& 15 < 16 ∧ ∀ k, k < 4 → ((F &&& (14 <<< i) &&& 15).testBit k = true ↔ F.testBit k = true ∧ i < k)) := by decide +kernel
theorem fq_Tdown : ∀ F, F < 16 → ∀ x, x < 16 → (nI F &&& (((1 : Int32) <<< ((nI x &&& 3) &&& 31)) - 1) = nI (F &&& (2 ^ (x % 4) - 1)) ∧ F &&& (2 ^ (x % 4) - 1) < 16 ∧ ∀ k, k < 4 → ((F &&& (2 ^ (x % 4) - 1)).testBit k = true ↔ F.testBit k = true ∧ k < x % 4)) := by decide +kernel
theorem fq_TdownP : ∀ F, F < 16 → ∀ i, i < 4 → (nI F &&& (((1 : Int32) <<< (nI i &&& 31)) - 1) = nI (F &&& (2 ^ i - 1)) ∧ F &&& (2 ^ i - 1) < 16 ∧ ∀ k, k < 4 → ((F &&& (2 ^ i - 1)).testBit k = true ↔ F.testBit k = true ∧ k < i)) := by decide +kernel
theorem fq_lowK1 : ∀ F, F < 16 → (¬ (¬ nI F = 0 ∧ nI F &&& 3 = 0 ∧ nI F &&& 4 = 0) ∨ (F.testBit 3 = true ∧ ∀ j, j < 3 → ¬ F.testBit j = true)) := by decide +kernel
theorem fq_lowK2 : ∀ F, F < 16 → (¬ (¬ nI F = 0 ∧ nI F &&& 3 = 0 ∧ ¬ nI F &&& 4 = 0) ∨ (F.testBit 2 = true ∧ ∀ j, j < 2 → ¬ F.testBit j = true)) := by decide +kernel
theorem fq_lowK3 : ∀ F, F < 16 → (¬ (¬ nI F = 0 ∧ ¬ nI F &&& 3 = 0 ∧ nI F &&& 1 = 0) ∨ (F.testBit 1 = true ∧ ∀ j, j < 1 → ¬ F.testBit j = true)) := by decide +kernel
theorem fq_lowK4 : ∀ F, F < 16 → (¬ (¬ nI F = 0 ∧ ¬ nI F &&& 3 = 0 ∧ ¬ nI F &&& 1 = 0) ∨ (F.testBit 0 = true ∧ ∀ j, j < 0 → ¬ F.testBit j = true)) := by decide +kernel
theorem fq_highK1 : ∀ F, F < 16 → (¬ (¬ nI F = 0 ∧ nI F &&& 12 = 0 ∧ nI F &&& 2 = 0) ∨ (F.testBit 0 = true ∧ ∀ j, j < 4 → (¬ 0 < j ∨ ¬ F.testBit j = true))) := by decide +kernel
theorem fq_highK2 : ∀ F, F < 16 → (¬ (¬ nI F = 0 ∧ nI F &&& 12 = 0 ∧ ¬ nI F &&& 2 = 0) ∨ (F.testBit 1 = true ∧ ∀ j, j < 4 → (¬ 1 < j ∨ ¬ F.testBit j = true))) := by decide +kernel
theorem fq_highK3 : ∀ F, F < 16 → (¬ (¬ nI F = 0 ∧ ¬ nI F &&& 12 = 0 ∧ nI F &&& 8 = 0) ∨ (F.testBit 2 = true ∧ ∀ j, j < 4 → (¬ 2 < j ∨ ¬ F.testBit j = true))) := by decide +kernel
theorem fq_highK4 : ∀ F, F < 16 → (¬ (¬ nI F = 0 ∧ ¬ nI F &&& 12 = 0 ∧ ¬ nI F &&& 8 = 0) ∨ (F.testBit 3 = true ∧ ∀ j, j < 4 → (¬ 3 < j ∨ ¬ F.testBit j = true))) := by decide +kernel
theorem fq_lowest {post : Int32 → Prop} {u : St2} {F : Nat} (hF : F < 16) (h0 : ¬ nI F = 0) (H : ∀ k, k < 4 → F.testBit k = true → (∀ j, j < k → ¬ F.testBit j = true) → post (nI k)) : wpX_lowest post u (nI F) := by
  have t1 := fun h g => (fq_lowK1 F hF).resolve_left (fun k => k ⟨h0, h, g⟩)
  have t2 := fun h g => (fq_lowK2 F hF).resolve_left (fun k => k ⟨h0, h, g⟩)
  have t3 := fun h g => (fq_lowK3 F hF).resolve_left (fun k => k ⟨h0, h, g⟩)
  have t4 := fun h g => (fq_lowK4 F hF).resolve_left (fun k => k ⟨h0, h, g⟩)
  exact br_c (fun h => br_c (fun g => H 3 (by decide) (t1 h g).1 (t1 h g).2) (fun g => H 2 (by decide) (t2 h g).1 (t2 h g).2)) (fun h => br_c (fun g => H 1 (by decide) (t3 h g).1 (t3 h g).2) (fun g => H 0 (by decide) (t4 h g).1 (t4 h g).2))
theorem fq_highest {post : Int32 → Prop} {u : St2} {F : Nat} (hF : F < 16) (h0 : ¬ nI F = 0) (H : ∀ k, k < 4 → F.testBit k = true → (∀ j, j < 4 → k < j → ¬ F.testBit j = true) → post (nI k)) : wpX_highest post u (nI F) := by
  have t1 := fun h g => (fq_highK1 F hF).resolve_left (fun k => k ⟨h0, h, g⟩)
  have t2 := fun h g => (fq_highK2 F hF).resolve_left (fun k => k ⟨h0, h, g⟩)
  have t3 := fun h g => (fq_highK3 F hF).resolve_left (fun k => k ⟨h0, h, g⟩)
  have t4 := fun h g => (fq_highK4 F hF).resolve_left (fun k => k ⟨h0, h, g⟩)
  exact br_c (fun h => br_c (fun g => H 0 (by decide) (t1 h g).1 (fun j j1 j2 => ((t1 h g).2 j j1).resolve_left (fun k => k j2))) (fun g => H 1 (by decide) (t2 h g).1 (fun j j1 j2 => ((t2 h g).2 j j1).resolve_left (fun k => k j2)))) (fun h => br_c (fun g => H 2 (by decide) (t3 h g).1 (fun j j1 j2 => ((t3 h g).2 j j1).resolve_left (fun k => k j2))) (fun g => H 3 (by decide) (t4 h g).1 (fun j j1 j2 => ((t4 h g).2 j j1).resolve_left (fun k => k j2))))
theorem fq_sh2 : ∀ x, x < 16 → nI x >>> ((2 : Int32) &&& 31) = nI (x / 4) := by decide +kernel
theorem fq_cell2 {c i : Nat} : nI c * 4 + nI i = nI (c * 4 + i) := by
  rw [show (4 : Int32) = nI 4 from rfl, pk_mul, nI_add]
theorem fq_cell {c x : Nat} (hx : x < 16) : nI c * 4 + (nI x >>> ((2 : Int32) &&& 31)) = nI (c * 4 + x / 4) := by
  rw [fq_sh2 x hx, fq_cell2]
theorem fq_4ik {i k : Nat} : 4 * nI i + nI k = nI (4 * i + k) := by
  rw [show (4 : Int32) = nI 4 from rfl, pk_mul, nI_add]
theorem fq_16ik {i k : Nat} : 16 * nI i + nI k = nI (16 * i + k) := by
  rw [show (16 : Int32) = nI 16 from rfl, pk_mul, nI_add]
theorem fq_nb {F : Nat} (hF : F < 16) (h : nI F = 0) {k : Nat} (hk : k < 4) : ¬ F.testBit k = true := by
  rw [(fq_F0 F hF).mp h k hk]
  decide
theorem fq_nz {F : Nat} (hF : F < 16) {k : Nat} (hk : k < 4) (h : F.testBit k = true) : ¬ nI F = 0 :=
  fun z => fq_nb hF z hk h
theorem fq_ex {F : Nat} (hF : F < 16) (h : ¬ nI F = 0) : ∃ k, k < 4 ∧ F.testBit k = true := by
  apply Classical.byContradiction
  intro z
  apply h
  rw [fq_F0 F hF]
  intro k hk
  cases e : F.testBit k with
  | false => rfl
  | true => exact absurd ⟨k, hk, e⟩ z
end
section
/-! ===== a cluster's parts hold q ===== -/
def fq_pt (q : Nat → Prop) (c : Nat) (a3 a4 : Nat → Int32) : Prop :=
  (∀ i, i < 4 → ∃ F, F < 16 ∧ a4 (c * 4 + i) = nI F ∧ ∀ k, k < 4 → (F.testBit k = true ↔ q (4 * i + k))) ∧
  ∃ P, P < 16 ∧ a3 c = nI P ∧ ∀ i, i < 4 → (P.testBit i = true ↔ ∃ k, k < 4 ∧ q (4 * i + k))
theorem fq_pt_c {q q' : Nat → Prop} {c : Nat} {a3 a4 : Nat → Int32} (e : ∀ y, y < 16 → (q y ↔ q' y)) (h : fq_pt q c a3 a4) : fq_pt q' c a3 a4 := by
  obtain ⟨hF, P, hP, eP, hb⟩ := h
  refine ⟨fun i hi => ?_, P, hP, eP, fun i hi => ?_⟩
  · obtain ⟨F, h1, h2, h3⟩ := hF i hi
    exact ⟨F, h1, h2, fun k hk => (h3 k hk).trans (e _ (by omega))⟩
  · refine (hb i hi).trans ⟨?_, ?_⟩
    · rintro ⟨k, hk, t⟩
      exact ⟨k, hk, (e _ (by omega)).mp t⟩
    · rintro ⟨k, hk, t⟩
      exact ⟨k, hk, (e _ (by omega)).mpr t⟩
theorem fq_pt_f {q : Nat → Prop} {c : Nat} {a3 a4 a3' a4' : Nat → Int32} (e3 : a3' c = a3 c) (e4 : ∀ i, i < 4 → a4' (c * 4 + i) = a4 (c * 4 + i)) (h : fq_pt q c a3 a4) : fq_pt q c a3' a4' := by
  obtain ⟨hF, P, hP, eP, hb⟩ := h
  refine ⟨fun i hi => ?_, P, hP, e3.trans eP, hb⟩
  obtain ⟨F, h1, h2, h3⟩ := hF i hi
  exact ⟨F, h1, (e4 i hi).trans h2, h3⟩
def fq_fr (c : Nat) (a3 a4 a3' a4' : Nat → Int32) : Prop := ∀ d, d ≠ c → a3' d = a3 d ∧ ∀ i, i < 4 → a4' (d * 4 + i) = a4 (d * 4 + i)
section
variable {f0 f1 f2 : Int32} {a1 a2 a3 a4 : Nat → Int32} {q : Nat → Prop} {c x : Nat}
theorem fq_put {post : St1 → Prop} (hc : c < 17) (hx : x < 16) (h : fq_pt q c a3 a4)
    (H : ∀ a3' a4', fq_pt (fun y => q y ∨ y = x) c a3' a4' → fq_fr c a3 a4 a3' a4' → post (f0, f1, f2, a1, a2, a3', a4')) :
    wpX_putBit post (f0, f1, f2, a1, a2, a3, a4) (nI c) (nI x) := by
  obtain ⟨hF, P, hP, eP, hb⟩ := h
  obtain ⟨F, hF1, eF, hk⟩ := hF (x / 4) (by omega)
  obtain ⟨t1, t2, t3⟩ := fq_Tput F hF1 x hx
  obtain ⟨s1, s2, s3⟩ := fq_TputP P hP x hx
  unfold wpX_putBit
  try dsimp only
  refine nm_r (fq_cell hx) ⟨vp_in_nI (by omega) (by omega), vp_in_nI (by omega) (by omega), ?_⟩
  rw [nI_clamp (show c * 4 + x / 4 < 2 ^ 31 by omega), eF, t1]
  refine nm_e ⟨pk_in c 17 hc, pk_in c 17 hc, ?_⟩
  rw [nI_clamp (show c < 2 ^ 31 by omega), eP, s1]
  refine nm_e (H _ _ ⟨fun i hi => ?_, P ||| 2 ^ (x / 4), s2, pk_us, fun i hi => ?_⟩ (fun d hd => ⟨pk_un hd, fun i hi => pk_un (by omega)⟩))
  · by_cases e : i = x / 4
    · subst e
      refine ⟨F ||| 2 ^ (x % 4), t2, pk_us, fun k hk4 => (t3 k hk4).trans ?_⟩
      rw [hk k hk4]
      constructor
      · rintro (t | t)
        · exact Or.inl t
        · exact Or.inr (by omega)
      · rintro (t | t)
        · exact Or.inl t
        · exact Or.inr (by omega)
    · obtain ⟨G, g1, g2, g3⟩ := hF i hi
      refine ⟨G, g1, by rw [pk_un (by omega)]; exact g2, fun k hk4 => (g3 k hk4).trans ⟨Or.inl, ?_⟩⟩
      rintro (t | t)
      · exact t
      · exact absurd t (by omega)
  · rw [s3 i hi, hb i hi]
    constructor
    · rintro (⟨k, k1, k2⟩ | t)
      · exact ⟨k, k1, Or.inl k2⟩
      · exact ⟨x % 4, by omega, Or.inr (by omega)⟩
    · rintro ⟨k, k1, k2 | k2⟩
      · exact Or.inl ⟨k, k1, k2⟩
      · exact Or.inr (by omega)
theorem fq_take {post : St1 → Prop} (hc : c < 17) (hx : x < 16) (h : fq_pt q c a3 a4)
    (H : ∀ a3' a4', fq_pt (fun y => q y ∧ y ≠ x) c a3' a4' → fq_fr c a3 a4 a3' a4' → post (f0, f1, f2, a1, a2, a3', a4')) :
    wpX_takeBit post (f0, f1, f2, a1, a2, a3, a4) (nI c) (nI x) := by
  obtain ⟨hF, P, hP, eP, hb⟩ := h
  obtain ⟨F, hF1, eF, hk⟩ := hF (x / 4) (by omega)
  obtain ⟨t1, t2, t3⟩ := fq_Ttake F hF1 x hx
  obtain ⟨s1, s2, s3⟩ := fq_TtakeP P hP x hx
  have cells : ∀ i, i < 4 → ∃ G, G < 16 ∧ upd a4 (c * 4 + x / 4) (nI (F &&& (15 ^^^ 2 ^ (x % 4)))) (c * 4 + i) = nI G ∧ ∀ k, k < 4 → (G.testBit k = true ↔ q (4 * i + k) ∧ 4 * i + k ≠ x) := by
    intro i hi
    by_cases e : i = x / 4
    · subst e
      refine ⟨F &&& (15 ^^^ 2 ^ (x % 4)), t2, pk_us, fun k hk4 => (t3 k hk4).trans ?_⟩
      rw [hk k hk4]
      constructor
      · rintro ⟨t, t'⟩
        exact ⟨t, by omega⟩
      · rintro ⟨t, t'⟩
        exact ⟨t, by omega⟩
    · obtain ⟨G, g1, g2, g3⟩ := hF i hi
      refine ⟨G, g1, by rw [pk_un (by omega)]; exact g2, fun k hk4 => (g3 k hk4).trans ⟨fun t => ⟨t, by omega⟩, fun t => t.1⟩⟩
  unfold wpX_takeBit
  try dsimp only
  refine nm_r (fq_cell hx) ⟨vp_in_nI (by omega) (by omega), vp_in_nI (by omega) (by omega), ?_⟩
  rw [nI_clamp (show c * 4 + x / 4 < 2 ^ 31 by omega), eF, t1]
  refine nm_e ⟨vp_in_nI (by omega) (by omega), ?_⟩
  rw [pk_us]
  refine br_c (fun h0 => ⟨pk_in c 17 hc, pk_in c 17 hc, ?_⟩) (fun h0 => ?_)
  · rw [nI_clamp (show c < 2 ^ 31 by omega), eP, s1]
    refine nm_e (H _ _ ⟨cells, P &&& (15 ^^^ 2 ^ (x / 4)), s2, pk_us, fun i hi => ?_⟩ (fun d hd => ⟨pk_un hd, fun i hi => pk_un (by omega)⟩))
    rw [s3 i hi, hb i hi]
    constructor
    · rintro ⟨⟨k, k1, k2⟩, hne⟩
      exact ⟨k, k1, k2, by omega⟩
    · rintro ⟨k, k1, k2, k3⟩
      refine ⟨⟨k, k1, k2⟩, fun e => ?_⟩
      have hb0 := fq_nb t2 h0 k1
      rw [t3 k k1, hk k k1] at hb0
      subst e
      exact hb0 ⟨k2, by omega⟩
  · refine H _ _ ⟨cells, P, hP, eP, fun i hi => ?_⟩ (fun d hd => ⟨rfl, fun i hi => pk_un (by omega)⟩)
    rw [hb i hi]
    constructor
    · rintro ⟨k, k1, k2⟩
      by_cases e : 4 * i + k = x
      · obtain ⟨k', g1, g2⟩ := fq_ex t2 h0
        rw [t3 k' g1, hk k' g1] at g2
        have e2 : i = x / 4 := by omega
        exact ⟨k', g1, by rw [e2]; exact g2.1, by have := g2.2; omega⟩
      · exact ⟨k, k1, k2, e⟩
    · rintro ⟨k, k1, k2, k3⟩
      exact ⟨k, k1, k2⟩
theorem fq_leastP {post : Int32 → Prop} (hc : c < 17) (h : fq_pt q c a3 a4) (H : ∀ y, fq_fs q 0 16 y → post (fq_en 16 y)) :
    wpX_leastInParts post (f0, f1, f2, a1, a2, a3, a4) (nI c) := by
  obtain ⟨hF, P, hP, eP, hb⟩ := h
  unfold wpX_leastInParts
  try dsimp only
  rw [nI_clamp (show c < 2 ^ 31 by omega), eP]
  refine ⟨pk_in c 17 hc, br_c (fun h0 => ?_) (fun h0 => ⟨pk_in c 17 hc, fq_lowest hP h0 (fun i hi t1 t2 => ?_)⟩)⟩
  · refine H 16 ⟨by omega, by omega, fun z => absurd z (by omega), fun z _ hz hq => ?_⟩
    refine fq_nb hP h0 (show z / 4 < 4 by omega) ((hb (z / 4) (by omega)).mpr ⟨z % 4, by omega, ?_⟩)
    rw [show 4 * (z / 4) + z % 4 = z by omega]
    exact hq
  · obtain ⟨F, hF1, eF, hk⟩ := hF i hi
    obtain ⟨k0, k1, k2⟩ := (hb i hi).mp t1
    try dsimp only
    rw [fq_cell2, nI_clamp (show c * 4 + i < 2 ^ 31 by omega), eF]
    refine ⟨vp_in_nI (by omega) (by omega), nm_e (fq_lowest hF1 (fq_nz hF1 k1 ((hk k0 k1).mpr k2)) (fun k hk4 s1 s2 => ?_))⟩
    try dsimp only
    have hfs : fq_fs q 0 16 (4 * i + k) := by
      refine ⟨by omega, by omega, fun _ => (hk k hk4).mp s1, fun z _ hz hq => ?_⟩
      by_cases e : z / 4 = i
      · refine s2 (z % 4) (by omega) ((hk (z % 4) (by omega)).mpr ?_)
        rw [show 4 * i + z % 4 = z by omega]
        exact hq
      · refine t2 (z / 4) (by omega) ((hb (z / 4) (by omega)).mpr ⟨z % 4, by omega, ?_⟩)
        rw [show 4 * (z / 4) + z % 4 = z by omega]
        exact hq
    have := H _ hfs
    rw [fq_en_lt (by omega)] at this
    rw [fq_4ik]
    exact this
theorem fq_greatestP {post : Int32 → Prop} (hc : c < 17) (h : fq_pt q c a3 a4) (H : ∀ y, fq_pv q 16 y → post (fq_dn y)) :
    wpX_greatestInParts post (f0, f1, f2, a1, a2, a3, a4) (nI c) := by
  obtain ⟨hF, P, hP, eP, hb⟩ := h
  unfold wpX_greatestInParts
  try dsimp only
  rw [nI_clamp (show c < 2 ^ 31 by omega), eP]
  refine ⟨pk_in c 17 hc, br_c (fun h0 => ?_) (fun h0 => ⟨pk_in c 17 hc, fq_highest hP h0 (fun i hi t1 t2 => ?_)⟩)⟩
  · refine H 0 ⟨by omega, fun z => absurd z (by omega), fun z _ hz hq => ?_⟩
    refine fq_nb hP h0 (show z / 4 < 4 by omega) ((hb (z / 4) (by omega)).mpr ⟨z % 4, by omega, ?_⟩)
    rw [show 4 * (z / 4) + z % 4 = z by omega]
    exact hq
  · obtain ⟨F, hF1, eF, hk⟩ := hF i hi
    obtain ⟨k0, k1, k2⟩ := (hb i hi).mp t1
    try dsimp only
    rw [fq_cell2, nI_clamp (show c * 4 + i < 2 ^ 31 by omega), eF]
    refine ⟨vp_in_nI (by omega) (by omega), nm_e (fq_highest hF1 (fq_nz hF1 k1 ((hk k0 k1).mpr k2)) (fun k hk4 s1 s2 => ?_))⟩
    try dsimp only
    have hpv : fq_pv q 16 (4 * i + k + 1) := by
      refine ⟨by omega, fun _ => (hk k hk4).mp s1, fun z hz1 hz hq => ?_⟩
      by_cases e : z / 4 = i
      · refine s2 (z % 4) (by omega) (by omega) ((hk (z % 4) (by omega)).mpr ?_)
        rw [show 4 * i + z % 4 = z by omega]
        exact hq
      · refine t2 (z / 4) (by omega) (by omega) ((hb (z / 4) (by omega)).mpr ⟨z % 4, by omega, ?_⟩)
        rw [show 4 * (z / 4) + z % 4 = z by omega]
        exact hq
    have := H _ hpv
    rw [fq_dn_s] at this
    rw [fq_4ik]
    exact this
end
end
section
/-! ===== comparisons ===== -/
theorem fq_en_0le {N l : Nat} (hN : N < 2 ^ 31) : 0 ≤ fq_en N l ↔ l < N := by
  rw [fq_le fq_t0 (fq_en_toInt hN)]
  split <;> omega
theorem fq_en_lt0 {N l : Nat} (hN : N < 2 ^ 31) : fq_en N l < 0 ↔ N ≤ l := by
  rw [fq_lt (fq_en_toInt hN) fq_t0]
  split <;> omega
theorem fq_en_eq {N l x : Nat} (hN : N < 2 ^ 31) (hx : x < N) : fq_en N l = nI x ↔ l = x := by
  rw [fq_eq (fq_en_toInt hN) (nI_toInt (show x < 2 ^ 31 by omega))]
  split <;> omega
theorem fq_en_le {N l x : Nat} (hN : N < 2 ^ 31) (hx : x < 2 ^ 31) : fq_en N l ≤ nI x ↔ (N ≤ l ∨ l ≤ x) := by
  rw [fq_le (fq_en_toInt hN) (nI_toInt hx)]
  split <;> omega
theorem fq_dn_lt0 {h : Nat} (hh : h < 2 ^ 30) : fq_dn h < 0 ↔ h = 0 := by
  rw [fq_lt (fq_dn_toInt hh) fq_t0]
  omega
theorem fq_dn_0le {h : Nat} (hh : h < 2 ^ 30) : 0 ≤ fq_dn h ↔ 0 < h := by
  rw [fq_le fq_t0 (fq_dn_toInt hh)]
  omega
theorem fq_le_dn {x h : Nat} (hx : x < 2 ^ 31) (hh : h < 2 ^ 30) : nI x ≤ fq_dn h ↔ x < h := by
  rw [fq_le (nI_toInt hx) (fq_dn_toInt hh)]
  omega
theorem fq_lt_dn {x h : Nat} (hx : x < 2 ^ 31) (hh : h < 2 ^ 30) : nI x < fq_dn h ↔ x + 1 < h := by
  rw [fq_lt (nI_toInt hx) (fq_dn_toInt hh)]
  omega
theorem fq_b8 : ∀ x, x < 16 → (nI x).toInt8.toInt32 = nI x := by decide +kernel
theorem fq_ben {y : Nat} : (fq_en 16 y).toInt8.toInt32 = fq_en 16 y := by
  by_cases h : y < 16
  · rw [fq_en_lt h, fq_b8 y h]
  · rw [fq_en_ge (by omega)]
    decide
theorem fq_bdn {y : Nat} (h : y ≤ 16) : (fq_dn y).toInt8.toInt32 = fq_dn y := by
  cases y with
  | zero => decide
  | succ y => rw [fq_dn_s, fq_b8 y (by omega)]
/-! ===== a cluster holds m ===== -/
def fq_cl (m : Nat → Prop) (c : Nat) (a1 a2 a3 a4 : Nat → Int32) : Prop :=
  ∃ l h, a1 c = fq_en 16 l ∧ a2 c = fq_dn h ∧ fq_fs m 0 16 l ∧ fq_pv m 16 h ∧ fq_pt (fun y => m y ∧ y ≠ l) c a3 a4
def fq_f4 (c : Nat) (a1 a2 a3 a4 a1' a2' a3' a4' : Nat → Int32) : Prop := ∀ d, d ≠ c → a1' d = a1 d ∧ a2' d = a2 d ∧ a3' d = a3 d ∧ ∀ i, i < 4 → a4' (d * 4 + i) = a4 (d * 4 + i)
section
variable {f0 f1 f2 : Int32} {a1 a2 a3 a4 : Nat → Int32} {m q : Nat → Prop} {c x : Nat}
theorem fq_cl_c {m' : Nat → Prop} (e : ∀ y, y < 16 → (m y ↔ m' y)) (h : fq_cl m c a1 a2 a3 a4) : fq_cl m' c a1 a2 a3 a4 := by
  obtain ⟨l, h, e1, e2, hl, hh, hp⟩ := h
  exact ⟨l, h, e1, e2, fq_fs_c e hl, fq_pv_c e hh, fq_pt_c (fun y hy => and_congr (e y hy) Iff.rfl) hp⟩
theorem fq_cl_f {a1' a2' a3' a4' : Nat → Int32} {d : Nat} (f : fq_f4 c a1 a2 a3 a4 a1' a2' a3' a4') (hd : d ≠ c) (h : fq_cl m d a1 a2 a3 a4) : fq_cl m d a1' a2' a3' a4' := by
  obtain ⟨l, h, e1, e2, hl, hh, hp⟩ := h
  obtain ⟨g1, g2, g3, g4⟩ := f d hd
  exact ⟨l, h, g1.trans e1, g2.trans e2, hl, hh, fq_pt_f g3 g4 hp⟩
theorem fq_ins53 {post : St1 → Prop} {r h : Nat} (hc : c < 17) (hr : r < 16) (e2 : a2 c = fq_dn h) (hh : h ≤ 16) (hp : fq_pt q c a3 a4)
    (H : ∀ a2' a3' a4' h', a2' c = fq_dn h' → (r < h ∧ h' = h ∨ h ≤ r ∧ h' = r + 1) → fq_pt (fun y => q y ∨ y = r) c a3' a4' → (∀ d, d ≠ c → a2' d = a2 d ∧ a3' d = a3 d ∧ ∀ i, i < 4 → a4' (d * 4 + i) = a4 (d * 4 + i)) → post (f0, f1, f2, a1, a2', a3', a4')) :
    wX_insertInto_53 post (nI c) (nI r) f0 f1 f2 a1 a2 a3 a4 := by
  unfold wX_insertInto_53
  refine fq_put hc hr hp (fun a3' a4' hp' fr => ?_)
  try dsimp only
  rw [nI_clamp (show c < 2 ^ 31 by omega), e2]
  refine ⟨pk_in c 17 hc, br_c (fun g => ?_) (fun g => ⟨pk_in c 17 hc, nm_e ?_⟩)⟩
  · rw [fq_le_dn (by omega) (by omega)] at g
    exact H a2 a3' a4' h e2 (Or.inl ⟨g, rfl⟩) hp' (fun d hd => ⟨rfl, fr d hd⟩)
  · rw [fq_le_dn (by omega) (by omega)] at g
    exact H _ a3' a4' (r + 1) (by rw [pk_us, fq_b8 r hr, fq_dn_s]) (Or.inr ⟨by omega, rfl⟩) hp' (fun d hd => ⟨pk_un hd, fr d hd⟩)
theorem fq_insInto {post : St1 → Prop} (hc : c < 17) (hx : x < 16) (h : fq_cl m c a1 a2 a3 a4) (hn : ¬ m x)
    (H : ∀ a1' a2' a3' a4', fq_cl (fun y => m y ∨ y = x) c a1' a2' a3' a4' → fq_f4 c a1 a2 a3 a4 a1' a2' a3' a4' → post (f0, f1, f2, a1', a2', a3', a4')) :
    wpX_insertInto post (f0, f1, f2, a1, a2, a3, a4) (nI c) (nI x) := by
  obtain ⟨l, h, e1, e2, ⟨l1, l2, l3, l4⟩, ⟨h1, h2, h3⟩, hp⟩ := h
  unfold wpX_insertInto
  try dsimp only
  rw [nI_clamp (show c < 2 ^ 31 by omega), e1]
  by_cases hl16 : l < 16
  · have ml := l3 hl16
    have hlx : l ≠ x := fun e => hn (e ▸ ml)
    have hlh : l < h := Nat.lt_of_not_le (fun z => h3 l z hl16 ml)
    rw [fq_en_lt hl16]
    refine ⟨pk_in c 17 hc, br_t (nI_pos' (by omega)) ⟨pk_in c 17 hc, pk_le l x (fun z => ?_) (fun z => ⟨pk_in c 17 hc, nm_e ⟨pk_in c 17 hc, nm_e ?_⟩⟩)⟩⟩
    · refine fq_ins53 hc hx e2 h1 hp (fun a2' a3' a4' h' e2' hc' hp' fr => H a1 a2' a3' a4' ⟨l, h', e1, e2', ⟨l1, l2, fun z => Or.inl (l3 z), fun z z1 z2 => ?_⟩, ?_, fq_pt_c (fun y hy => ?_) hp'⟩ (fun d hd => ⟨rfl, fr d hd⟩))
      · rintro (t | t)
        · exact l4 z z1 z2 t
        · omega
      · rcases hc' with ⟨t1, t2⟩ | ⟨t1, t2⟩
        · subst t2
          refine ⟨h1, fun z => Or.inl (h2 z), fun z z1 z2 => ?_⟩
          rintro (t | t)
          · exact h3 z z1 z2 t
          · omega
        · subst t2
          refine ⟨by omega, fun z => Or.inr (by omega), fun z z1 z2 => ?_⟩
          rintro (t | t)
          · exact h3 z (by omega) z2 t
          · omega
      · constructor
        · rintro (t | t)
          · exact ⟨Or.inl t.1, t.2⟩
          · exact ⟨Or.inr t, by omega⟩
        · rintro ⟨t | t, t'⟩
          · exact Or.inl ⟨t, t'⟩
          · exact Or.inr t
    · refine fq_ins53 hc hl16 e2 h1 hp (fun a2' a3' a4' h' e2' hc' hp' fr => H _ a2' a3' a4' ⟨x, h', by rw [pk_us, fq_b8 x hx, fq_en_lt hx], e2', ⟨by omega, by omega, fun _ => Or.inr rfl, fun z z1 z2 => ?_⟩, ?_, fq_pt_c (fun y hy => ?_) hp'⟩ (fun d hd => ⟨pk_un hd, fr d hd⟩))
      · rintro (t | t)
        · exact l4 z z1 (by omega) t
        · omega
      · rcases hc' with ⟨t1, t2⟩ | ⟨t1, t2⟩
        · subst t2
          refine ⟨h1, fun z => Or.inl (h2 z), fun z z1 z2 => ?_⟩
          rintro (t | t)
          · exact h3 z z1 z2 t
          · omega
        · omega
      · constructor
        · rintro (t | t)
          · exact ⟨Or.inl t.1, fun e => hn (e ▸ t.1)⟩
          · subst t
            exact ⟨Or.inl ml, hlx⟩
        · rintro ⟨t | t, t'⟩
          · by_cases e : y = l
            · exact Or.inr e
            · exact Or.inl ⟨t, e⟩
          · exact absurd t t'
  · have hl : l = 16 := by omega
    subst hl
    rw [fq_en_ge (Nat.le_refl 16)]
    refine ⟨pk_in c 17 hc, br_f (by decide) ⟨pk_in c 17 hc, nm_e ⟨pk_in c 17 hc, nm_e ?_⟩⟩⟩
    refine H _ _ a3 a4 ⟨x, x + 1, by rw [pk_us, fq_b8 x hx, fq_en_lt hx], by rw [pk_us, fq_b8 x hx, fq_dn_s], ⟨by omega, by omega, fun _ => Or.inr rfl, fun z z1 z2 => ?_⟩, ⟨by omega, fun _ => Or.inr (by omega), fun z z1 z2 => ?_⟩, fq_pt_c (fun y hy => ?_) hp⟩ (fun d hd => ⟨pk_un hd, pk_un hd, rfl, fun _ _ => rfl⟩)
    · rintro (t | t)
      · exact l4 z z1 (by omega) t
      · omega
    · rintro (t | t)
      · exact l4 z (by omega) (by omega) t
      · omega
    · constructor
      · rintro ⟨t, _⟩
        exact absurd t (l4 y (by omega) hy)
      · rintro ⟨t | t, t'⟩
        · exact absurd t (l4 y (by omega) hy)
        · exact absurd t t'
theorem fq_del36 {post : St1 → Prop} {l : Nat} (hc : c < 17) (e1 : a1 c = fq_en 16 l) (hl : fq_fs m 0 16 l) (hp : fq_pt (fun y => m y ∧ y ≠ l) c a3 a4)
    (H : ∀ a2', fq_cl m c a1 a2' a3 a4 → (∀ d, d ≠ c → a2' d = a2 d) → post (f0, f1, f2, a1, a2', a3, a4)) :
    wX_deleteFrom_36 post (nI c) f0 f1 f2 a1 a2 a3 a4 := by
  unfold wX_deleteFrom_36
  refine fq_greatestP hc hp (fun h hh => ?_)
  obtain ⟨h1, h2, h3⟩ := hh
  try dsimp only at h2 h3
  try dsimp only
  rw [nI_clamp (show c < 2 ^ 31 by omega), e1, fq_ben, fq_bdn h1]
  refine br_c (fun g => ⟨pk_in c 17 hc, pk_in c 17 hc, nm_e ?_⟩) (fun g => ⟨pk_in c 17 hc, nm_e ?_⟩)
  · rw [fq_dn_lt0 (by omega)] at g
    subst g
    by_cases hl16 : l < 16
    · refine H _ ⟨l, l + 1, e1, by rw [pk_us, fq_en_lt hl16, fq_dn_s], hl, ⟨by omega, fun _ => hl.2.2.1 hl16, fun z z1 z2 t => h3 z (by omega) z2 ⟨t, by omega⟩⟩, hp⟩ (fun d hd => pk_un hd)
    · refine H _ ⟨l, 0, e1, by rw [pk_us, fq_en_ge (by omega), fq_dn_0], hl, ⟨by omega, fun z => absurd z (by omega), fun z z1 z2 t => h3 z z1 z2 ⟨t, by omega⟩⟩, hp⟩ (fun d hd => pk_un hd)
  · rw [fq_dn_lt0 (by omega)] at g
    refine H _ ⟨l, h, e1, pk_us, hl, ⟨h1, fun z => (h2 z).1, fun z z1 z2 t => ?_⟩, hp⟩ (fun d hd => pk_un hd)
    have t1 := h2 (by omega)
    by_cases e : z = l
    · subst e
      exact hl.2.2.2 (h - 1) (by omega) (by omega) t1.1
    · exact h3 z z1 z2 ⟨t, e⟩
theorem fq_delFrom {post : St1 → Prop} (hc : c < 17) (hx : x < 16) (h : fq_cl m c a1 a2 a3 a4) (hm : m x)
    (H : ∀ a1' a2' a3' a4', fq_cl (fun y => m y ∧ y ≠ x) c a1' a2' a3' a4' → fq_f4 c a1 a2 a3 a4 a1' a2' a3' a4' → post (f0, f1, f2, a1', a2', a3', a4')) :
    wpX_deleteFrom post (f0, f1, f2, a1, a2, a3, a4) (nI c) (nI x) := by
  obtain ⟨l, h, e1, e2, ⟨l1, l2, l3, l4⟩, hh, hp⟩ := h
  have hlx : l ≤ x := Nat.le_of_not_lt (fun z => l4 x (by omega) z hm)
  have hl16 : l < 16 := by omega
  have ml := l3 hl16
  unfold wpX_deleteFrom
  try dsimp only
  rw [nI_clamp (show c < 2 ^ 31 by omega), e1, fq_en_lt hl16]
  refine ⟨pk_in c 17 hc, pk_eq x l (fun e => ?_) (fun e => ?_)⟩
  · subst e
    refine fq_leastP hc hp (fun y hy => ⟨pk_in c 17 hc, nm_e ?_⟩)
    rw [fq_ben]
    unfold wX_deleteFrom_26
    refine br_c (fun g => ?_) (fun g => ?_)
    · rw [fq_en_lt0 (by omega)] at g
      refine fq_del36 (m := fun z => m z ∧ z ≠ x) (l := y) hc pk_us hy (fq_pt_c (fun z hz => ⟨fun t => ⟨t, by omega⟩, fun t => t.1⟩) hp) (fun a2' hcl fr => H _ a2' a3 a4 hcl (fun d hd => ⟨pk_un hd, fr d hd, rfl, fun _ _ => rfl⟩))
    · rw [fq_en_lt0 (by omega)] at g
      have hy16 : y < 16 := by omega
      rw [fq_en_lt hy16]
      refine fq_take hc hy16 hp (fun a3' a4' hp' fr => ?_)
      try dsimp only
      exact fq_del36 (m := fun z => m z ∧ z ≠ x) (l := y) hc (by rw [pk_us, fq_en_lt hy16]) hy hp' (fun a2' hcl fr2 => H _ a2' a3' a4' hcl (fun d hd => ⟨pk_un hd, fr2 d hd, (fr d hd).1, (fr d hd).2⟩))
  · unfold wX_deleteFrom_26
    refine br_f (nI_pos (by omega)) (fq_take hc hx hp (fun a3' a4' hp' fr => ?_))
    try dsimp only
    refine fq_del36 (m := fun z => m z ∧ z ≠ x) (l := l) hc e1 ⟨l1, l2, fun _ => ⟨ml, by omega⟩, fun z z1 z2 t => l4 z z1 z2 t.1⟩ (fq_pt_c (fun z hz => ?_) hp') (fun a2' hcl fr2 => H a1 a2' a3' a4' hcl (fun d hd => ⟨rfl, fr2 d hd, (fr d hd).1, (fr d hd).2⟩))
    exact ⟨fun t => ⟨⟨t.1.1, t.2⟩, t.1.2⟩, fun t => ⟨⟨t.1.1, t.2⟩, t.1.2⟩⟩
theorem fq_inCl {post : Int32 → Prop} (hc : c < 17) (hx : x < 16) (h : fq_cl m c a1 a2 a3 a4) (H1 : m x → post 1) (H0 : ¬ m x → post 0) :
    wpX_inCluster post (f0, f1, f2, a1, a2, a3, a4) (nI c) (nI x) := by
  obtain ⟨l, h, e1, e2, ⟨l1, l2, l3, l4⟩, hh, hF, P, hP, eP, hb⟩ := h
  obtain ⟨F, hF1, eF, hk⟩ := hF (x / 4) (by omega)
  have hkx := hk (x % 4) (by omega)
  rw [show 4 * (x / 4) + x % 4 = x by omega] at hkx
  have ht := fq_Ttest F hF1 x hx
  unfold wpX_inCluster
  try dsimp only
  rw [nI_clamp (show c < 2 ^ 31 by omega), e1]
  refine ⟨pk_in c 17 hc, br_c (fun g => ?_) (fun g => ?_)⟩
  · rw [fq_en_eq (by omega) hx] at g
    subst g
    exact H1 (l3 hx)
  · rw [fq_en_eq (by omega) hx] at g
    rw [fq_cell hx, nI_clamp (show c * 4 + x / 4 < 2 ^ 31 by omega), eF]
    refine ⟨vp_in_nI (by omega) (by omega), br_c (fun z => H0 (fun t => ?_)) (fun z => H1 ?_)⟩
    · exact ht.mp z (hkx.mpr ⟨t, fun e => g e.symm⟩)
    · exact (hkx.mp (Classical.not_not.mp (fun t => z (ht.mpr t)))).1
theorem fq_afterIn {post : Int32 → Prop} (hc : c < 17) (hx : x < 16) (h : fq_cl m c a1 a2 a3 a4) (H : ∀ y, fq_fs m (x + 1) 16 y → post (fq_en 16 y)) :
    wpX_afterIn post (f0, f1, f2, a1, a2, a3, a4) (nI c) (nI x) := by
  obtain ⟨l, h, e1, e2, ⟨l1, l2, l3, l4⟩, ⟨h1, h2, h3⟩, hF, P, hP, eP, hb⟩ := h
  unfold wpX_afterIn
  try dsimp only
  rw [nI_clamp (show c < 2 ^ 31 by omega), e1, e2, eP]
  refine ⟨pk_in c 17 hc, br_c (fun g => ⟨pk_in c 17 hc, br_c (fun g2 => ?_) (fun g2 => ?_)⟩) (fun g => ⟨pk_in c 17 hc, ?_⟩)⟩
  · rw [fq_en_le (by omega) (by omega)] at g
    rw [fq_lt_dn (by omega) (by omega)] at g2
    have mh := h2 (by omega)
    have hl16 : l < 16 := Nat.lt_of_not_le (fun z => l4 (h - 1) (by omega) (by omega) mh)
    have hlx : l ≤ x := by omega
    obtain ⟨F, hF1, eF, hk⟩ := hF (x / 4) (by omega)
    obtain ⟨t1, t2, t3⟩ := fq_Tup F hF1 x hx
    obtain ⟨s1, s2, s3⟩ := fq_TupP P hP (x / 4) (by omega)
    refine nm_r (fq_sh2 x hx) ?_
    rw [fq_cell2, nI_clamp (show c * 4 + x / 4 < 2 ^ 31 by omega), eF]
    refine ⟨vp_in_nI (by omega) (by omega), nm_r t1 (br_c (fun h0 => ⟨pk_in c 17 hc, nm_r s1 ?_⟩) (fun h0 => ?_))⟩
    · have none0 : ∀ z, z / 4 = x / 4 → x < z → ¬ m z := by
        intro z z1 z2 hz
        refine fq_nb t2 h0 (show z % 4 < 4 by omega) ((t3 (z % 4) (by omega)).mpr ⟨(hk (z % 4) (by omega)).mpr ?_, by omega⟩)
        rw [show 4 * (x / 4) + z % 4 = z by omega]
        exact ⟨hz, by omega⟩
      have hnz : ¬ nI (P &&& (14 <<< (x / 4)) &&& 15) = 0 := by
        refine fq_nz s2 (show (h - 1) / 4 < 4 by omega) ((s3 _ (by omega)).mpr ⟨(hb _ (by omega)).mpr ⟨(h - 1) % 4, by omega, ?_⟩, ?_⟩)
        · rw [show 4 * ((h - 1) / 4) + (h - 1) % 4 = h - 1 by omega]
          exact ⟨mh, by omega⟩
        · have := none0 (h - 1)
          by_cases e : (h - 1) / 4 = x / 4
          · exact absurd mh (this e (by omega))
          · omega
      refine fq_lowest s2 hnz (fun i hi u1 u2 => ?_)
      obtain ⟨u3, u4⟩ := (s3 i hi).mp u1
      obtain ⟨k0, k1, k2⟩ := (hb i hi).mp u3
      obtain ⟨G, hG1, eG, hkG⟩ := hF i hi
      try dsimp only
      rw [fq_cell2, nI_clamp (show c * 4 + i < 2 ^ 31 by omega), eG]
      refine ⟨vp_in_nI (by omega) (by omega), nm_e (fq_lowest hG1 (fq_nz hG1 k1 ((hkG k0 k1).mpr k2)) (fun k hk4 v1 v2 => ?_))⟩
      try dsimp only
      have hfs : fq_fs m (x + 1) 16 (4 * i + k) := by
        refine ⟨by omega, by omega, fun _ => ((hkG k hk4).mp v1).1, fun z z1 z2 hz => ?_⟩
        by_cases e : z / 4 = i
        · refine v2 (z % 4) (by omega) ((hkG (z % 4) (by omega)).mpr ?_)
          rw [show 4 * i + z % 4 = z by omega]
          exact ⟨hz, by omega⟩
        · by_cases e2 : z / 4 = x / 4
          · exact none0 z e2 (by omega) hz
          · refine u2 (z / 4) (by omega) ((s3 (z / 4) (by omega)).mpr ⟨(hb (z / 4) (by omega)).mpr ⟨z % 4, by omega, ?_⟩, by omega⟩)
            rw [show 4 * (z / 4) + z % 4 = z by omega]
            exact ⟨hz, by omega⟩
      have := H _ hfs
      rw [fq_en_lt (by omega)] at this
      rw [fq_4ik]
      exact this
    · refine fq_lowest t2 h0 (fun k hk4 v1 v2 => ?_)
      obtain ⟨v3, v4⟩ := (t3 k hk4).mp v1
      try dsimp only
      have hfs : fq_fs m (x + 1) 16 (4 * (x / 4) + k) := by
        refine ⟨by omega, by omega, fun _ => ((hk k hk4).mp v3).1, fun z z1 z2 hz => ?_⟩
        refine v2 (z % 4) (by omega) ((t3 (z % 4) (by omega)).mpr ⟨(hk (z % 4) (by omega)).mpr ?_, by omega⟩)
        rw [show 4 * (x / 4) + z % 4 = z by omega]
        exact ⟨hz, by omega⟩
      have := H _ hfs
      rw [fq_en_lt (by omega)] at this
      rw [fq_4ik]
      exact this
  · rw [fq_lt_dn (by omega) (by omega)] at g2
    have := H 16 ⟨by omega, by omega, fun z => absurd z (by omega), fun z z1 z2 => h3 z (by omega) z2⟩
    rw [fq_en_ge (Nat.le_refl 16)] at this
    exact this
  · rw [fq_en_le (by omega) (by omega)] at g
    exact H l ⟨by omega, l2, l3, fun z z1 z2 => l4 z (by omega) z2⟩
theorem fq_beforeIn {post : Int32 → Prop} (hc : c < 17) (hx : x < 16) (h : fq_cl m c a1 a2 a3 a4) (H : ∀ y, fq_pv m x y → post (fq_dn y)) :
    wpX_beforeIn post (f0, f1, f2, a1, a2, a3, a4) (nI c) (nI x) := by
  obtain ⟨l, h, e1, e2, ⟨l1, l2, l3, l4⟩, ⟨h1, h2, h3⟩, hF, P, hP, eP, hb⟩ := h
  unfold wpX_beforeIn
  try dsimp only
  rw [nI_clamp (show c < 2 ^ 31 by omega), e1, e2, eP]
  refine ⟨pk_in c 17 hc, br_c (fun g => ?_) (fun g => ⟨pk_in c 17 hc, ?_⟩)⟩
  · rw [fq_en_lt0 (by omega)] at g
    have := H 0 ⟨by omega, fun z => absurd z (by omega), fun z z1 z2 => l4 z (by omega) (by omega)⟩
    rw [fq_dn_0] at this
    exact this
  · rw [fq_en_lt0 (by omega)] at g
    have hl16 : l < 16 := by omega
    have ml := l3 hl16
    rw [fq_en_lt hl16]
    refine pk_lt l x (fun z => ⟨pk_in c 17 hc, br_c (fun g2 => ?_) (fun g2 => ⟨pk_in c 17 hc, ?_⟩)⟩) (fun z => ?_)
    · rw [fq_le_dn (by omega) (by omega)] at g2
      obtain ⟨F, hF1, eF, hk⟩ := hF (x / 4) (by omega)
      obtain ⟨t1, t2, t3⟩ := fq_Tdown F hF1 x hx
      obtain ⟨s1, s2, s3⟩ := fq_TdownP P hP (x / 4) (by omega)
      refine nm_r (fq_sh2 x hx) ?_
      rw [fq_cell2, nI_clamp (show c * 4 + x / 4 < 2 ^ 31 by omega), eF]
      refine ⟨vp_in_nI (by omega) (by omega), nm_r t1 (br_c (fun h0 => ⟨pk_in c 17 hc, nm_r s1 (br_c (fun h00 => ⟨pk_in c 17 hc, ?_⟩) (fun h00 => ?_))⟩) (fun h0 => ?_))⟩
      · have hpv : fq_pv m x (l + 1) := by
          refine ⟨by omega, fun _ => ml, fun y y1 y2 hy => ?_⟩
          by_cases e : y / 4 = x / 4
          · refine fq_nb t2 h0 (show y % 4 < 4 by omega) ((t3 (y % 4) (by omega)).mpr ⟨(hk (y % 4) (by omega)).mpr ?_, by omega⟩)
            rw [show 4 * (x / 4) + y % 4 = y by omega]
            exact ⟨hy, by omega⟩
          · refine fq_nb s2 h00 (show y / 4 < 4 by omega) ((s3 (y / 4) (by omega)).mpr ⟨(hb (y / 4) (by omega)).mpr ⟨y % 4, by omega, ?_⟩, by omega⟩)
            rw [show 4 * (y / 4) + y % 4 = y by omega]
            exact ⟨hy, by omega⟩
        have := H _ hpv
        rw [fq_dn_s] at this
        exact this
      · refine fq_highest s2 h00 (fun i hi u1 u2 => ?_)
        obtain ⟨u3, u4⟩ := (s3 i hi).mp u1
        obtain ⟨k0, k1, k2⟩ := (hb i hi).mp u3
        obtain ⟨G, hG1, eG, hkG⟩ := hF i hi
        try dsimp only
        rw [fq_cell2, nI_clamp (show c * 4 + i < 2 ^ 31 by omega), eG]
        refine ⟨vp_in_nI (by omega) (by omega), nm_e (fq_highest hG1 (fq_nz hG1 k1 ((hkG k0 k1).mpr k2)) (fun k hk4 v1 v2 => ?_))⟩
        try dsimp only
        have mk := (hkG k hk4).mp v1
        have hlk : l < 4 * i + k := by
          rcases Nat.lt_or_ge l (4 * i + k) with t | t
          · exact t
          · exact absurd mk.1 (l4 _ (by omega) (by have := mk.2; omega))
        have hpv : fq_pv m x (4 * i + k + 1) := by
          refine ⟨by omega, fun _ => mk.1, fun y y1 y2 hy => ?_⟩
          by_cases e : y / 4 = x / 4
          · refine fq_nb t2 h0 (show y % 4 < 4 by omega) ((t3 (y % 4) (by omega)).mpr ⟨(hk (y % 4) (by omega)).mpr ?_, by omega⟩)
            rw [show 4 * (x / 4) + y % 4 = y by omega]
            exact ⟨hy, by omega⟩
          · by_cases e2 : y / 4 = i
            · refine v2 (y % 4) (by omega) (by omega) ((hkG (y % 4) (by omega)).mpr ?_)
              rw [show 4 * i + y % 4 = y by omega]
              exact ⟨hy, by omega⟩
            · refine u2 (y / 4) (by omega) (by omega) ((s3 (y / 4) (by omega)).mpr ⟨(hb (y / 4) (by omega)).mpr ⟨y % 4, by omega, ?_⟩, by omega⟩)
              rw [show 4 * (y / 4) + y % 4 = y by omega]
              exact ⟨hy, by omega⟩
        have := H _ hpv
        rw [fq_dn_s] at this
        rw [fq_4ik]
        exact this
      · refine fq_highest t2 h0 (fun k hk4 v1 v2 => ?_)
        obtain ⟨v3, v4⟩ := (t3 k hk4).mp v1
        have mk := (hk k hk4).mp v3
        have hlk : l < 4 * (x / 4) + k := by
          rcases Nat.lt_or_ge l (4 * (x / 4) + k) with t | t
          · exact t
          · exact absurd mk.1 (l4 _ (by omega) (by have := mk.2; omega))
        try dsimp only
        have hpv : fq_pv m x (4 * (x / 4) + k + 1) := by
          refine ⟨by omega, fun _ => mk.1, fun y y1 y2 hy => ?_⟩
          refine v2 (y % 4) (by omega) (by omega) ((t3 (y % 4) (by omega)).mpr ⟨(hk (y % 4) (by omega)).mpr ?_, by omega⟩)
          rw [show 4 * (x / 4) + y % 4 = y by omega]
          exact ⟨hy, by omega⟩
        have := H _ hpv
        rw [fq_dn_s] at this
        rw [fq_4ik]
        exact this
    · rw [fq_le_dn (by omega) (by omega)] at g2
      exact H h ⟨by omega, h2, fun y y1 y2 => h3 y y1 (by omega)⟩
    · have := H 0 ⟨by omega, fun z => absurd z (by omega), fun y y1 y2 => l4 y y1 (by omega)⟩
      rw [fq_dn_0] at this
      exact this
end
end
section
/-! ===== sets of 256, counted ===== -/
def fq_cnt (S : Nat → Bool) : Nat → Nat
  | 0 => 0
  | n + 1 => fq_cnt S n + (if S n = true then 1 else 0)
def fq_su (S : Nat → Bool) (x : Nat) (b : Bool) : Nat → Bool := fun y => if y = x then b else S y
theorem fq_su_s {S : Nat → Bool} {x : Nat} {b : Bool} : fq_su S x b x = b := if_pos rfl
theorem fq_su_n {S : Nat → Bool} {x y : Nat} {b : Bool} (h : y ≠ x) : fq_su S x b y = S y := if_neg h
theorem fq_cnt_s (S : Nat → Bool) (n : Nat) : fq_cnt S (n + 1) = fq_cnt S n + (if S n = true then 1 else 0) := rfl
theorem fq_cnt_t {S : Nat → Bool} {n : Nat} (h : S n = true) : fq_cnt S (n + 1) = fq_cnt S n + 1 := by
  rw [fq_cnt_s, if_pos h]
theorem fq_cnt_f {S : Nat → Bool} {n : Nat} (h : ¬ S n = true) : fq_cnt S (n + 1) = fq_cnt S n := by
  rw [fq_cnt_s, if_neg h]
  rfl
theorem fq_cnt_le (S : Nat → Bool) (n : Nat) : fq_cnt S n ≤ n := by
  induction n with
  | zero => exact Nat.le_refl 0
  | succ n ih =>
    by_cases h : S n = true
    · rw [fq_cnt_t h]; omega
    · rw [fq_cnt_f h]; omega
theorem fq_cnt_same {S S' : Nat → Bool} {n : Nat} (h : ∀ y, y < n → S y = S' y) : fq_cnt S n = fq_cnt S' n := by
  induction n with
  | zero => rfl
  | succ n ih => rw [fq_cnt_s, fq_cnt_s, ih (fun y hy => h y (by omega)), h n (by omega)]
theorem fq_cnt_up {S : Nat → Bool} {x : Nat} (hx : ¬ S x = true) {n : Nat} (h : x < n) : fq_cnt (fq_su S x true) n = fq_cnt S n + 1 := by
  induction n with
  | zero => omega
  | succ n ih =>
    by_cases e : x = n
    · subst e
      rw [fq_cnt_t fq_su_s, fq_cnt_f hx, fq_cnt_same (S := fq_su S x true) (S' := S) (fun y hy => fq_su_n (by omega))]
    · rw [fq_cnt_s, fq_cnt_s S, ih (by omega), fq_su_n (by omega)]
      omega
theorem fq_su_back {S : Nat → Bool} {x : Nat} {b : Bool} {c : Bool} (h : S x = c) : fq_su (fq_su S x b) x c = S := by
  funext y
  by_cases e : y = x
  · subst e
    rw [fq_su_s, h]
  · rw [fq_su_n e, fq_su_n e]
theorem fq_cnt_dn {S : Nat → Bool} {x : Nat} (hx : S x = true) {n : Nat} (h : x < n) : fq_cnt S n = fq_cnt (fq_su S x false) n + 1 := by
  have := fq_cnt_up (S := fq_su S x false) (x := x) (by rw [fq_su_s]; decide) h
  rw [fq_su_back hx] at this
  exact this
theorem fq_cnt_eq {S : Nat → Bool} {a b : Nat} (h : a ≤ b) (hn : ∀ z, a ≤ z → z < b → ¬ S z = true) : fq_cnt S a = fq_cnt S b := by
  obtain ⟨d, rfl⟩ : ∃ d, b = a + d := ⟨b - a, by omega⟩
  clear h
  induction d with
  | zero => rfl
  | succ d ih =>
    rw [ih (fun z h1 h2 => hn z h1 (by omega)), ← Nat.add_assoc, fq_cnt_f (hn (a + d) (by omega) (by omega))]
theorem fq_cnt_mono {S : Nat → Bool} {a b : Nat} (h : a ≤ b) : fq_cnt S a ≤ fq_cnt S b := by
  obtain ⟨d, rfl⟩ : ∃ d, b = a + d := ⟨b - a, by omega⟩
  clear h
  induction d with
  | zero => exact Nat.le_refl _
  | succ d ih =>
    rw [← Nat.add_assoc, fq_cnt_s]
    omega
/-! ===== the clusters and the summary hold T; the whole holds S ===== -/
def fq_cs (T : Nat → Prop) (a1 a2 a3 a4 : Nat → Int32) : Prop :=
  (∀ c, c < 16 → fq_cl (fun y => T (16 * c + y)) c a1 a2 a3 a4) ∧ fq_cl (fun c => ∃ y, y < 16 ∧ T (16 * c + y)) 16 a1 a2 a3 a4
def fq_wh (S : Nat → Bool) (f0 f1 f2 : Int32) (a1 a2 a3 a4 : Nat → Int32) : Prop :=
  ∃ l g, f0 = fq_en 256 l ∧ f1 = fq_dn g ∧ f2 = nI (fq_cnt S 256) ∧ fq_fs (fun y => S y = true) 0 256 l ∧ fq_pv (fun y => S y = true) 256 g ∧ fq_cs (fun y => S y = true ∧ y ≠ l) a1 a2 a3 a4
theorem fq_sh4 : ∀ x, x < 256 → nI x >>> ((4 : Int32) &&& 31) = nI (x / 16) := by decide +kernel
theorem fq_a15 : ∀ x, x < 256 → nI x &&& 15 = nI (x % 16) := by decide +kernel
theorem fq_in {T : Nat → Prop} {z : Nat} (h : T z) : T (16 * (z / 16) + z % 16) := by
  rw [show 16 * (z / 16) + z % 16 = z by omega]
  exact h
theorem fq_sm {T : Nat → Prop} {z : Nat} (h : T z) : ∃ y, y < 16 ∧ T (16 * (z / 16) + y) := ⟨z % 16, by omega, fq_in h⟩
section
variable {f0 f1 f2 : Int32} {a1 a2 a3 a4 : Nat → Int32} {m T : Nat → Prop} {S : Nat → Bool} {x l g : Nat}
theorem fq_cs_c {T' : Nat → Prop} (e : ∀ y, y < 256 → (T y ↔ T' y)) (h : fq_cs T a1 a2 a3 a4) : fq_cs T' a1 a2 a3 a4 := by
  refine ⟨fun c hc => fq_cl_c (fun y hy => e _ (by omega)) (h.1 c hc), fq_cl_c (fun c hc => ?_) h.2⟩
  constructor
  · rintro ⟨y, hy, t⟩
    exact ⟨y, hy, (e _ (by omega)).mp t⟩
  · rintro ⟨y, hy, t⟩
    exact ⟨y, hy, (e _ (by omega)).mpr t⟩
/-! ===== insert ===== -/
theorem fq_ins90 {post : Int32 → St1 → Prop} (hx : x < 256) (hg : g ≤ 256) (hcl : fq_cl m (x / 16) a1 a2 a3 a4) (hn : ¬ m (x % 16))
    (H : ∀ g' a1' a2' a3' a4', (x < g ∧ g' = g ∨ g ≤ x ∧ g' = x + 1) → fq_cl (fun y => m y ∨ y = x % 16) (x / 16) a1' a2' a3' a4' → fq_f4 (x / 16) a1 a2 a3 a4 a1' a2' a3' a4' → post 1 (f0, fq_dn g', f2, a1', a2', a3', a4')) :
    wX_insert_90 post (nI x) (nI (x / 16)) f0 (fq_dn g) f2 a1 a2 a3 a4 := by
  unfold wX_insert_90
  rw [fq_a15 x hx]
  refine fq_insInto (by omega) (by omega) hcl hn (fun a1' a2' a3' a4' hcl' fr => ?_)
  try dsimp only
  refine br_c (fun g1 => ?_) (fun g1 => ?_)
  · rw [fq_le_dn (by omega) (by omega)] at g1
    exact H g _ _ _ _ (Or.inl ⟨g1, rfl⟩) hcl' fr
  · rw [fq_le_dn (by omega) (by omega)] at g1
    have := H (x + 1) _ _ _ _ (Or.inr ⟨by omega, rfl⟩) hcl' fr
    rw [fq_dn_s] at this
    exact this
theorem fq_ins70 {post : Int32 → St1 → Prop} (hx : x < 256) (hg : g ≤ 256) (hcs : fq_cs T a1 a2 a3 a4) (hn : ¬ T x)
    (H : ∀ g' a1' a2' a3' a4', (x < g ∧ g' = g ∨ g ≤ x ∧ g' = x + 1) → fq_cs (fun y => T y ∨ y = x) a1' a2' a3' a4' → post 1 (f0, fq_dn g', f2, a1', a2', a3', a4')) :
    wX_insert_70 post (nI x) f0 (fq_dn g) f2 a1 a2 a3 a4 := by
  obtain ⟨hcs, hsm⟩ := hcs
  have hc1 := hcs (x / 16) (by omega)
  have hn' : ¬ T (16 * (x / 16) + x % 16) := by
    rw [show 16 * (x / 16) + x % 16 = x by omega]
    exact hn
  have hc2 := hc1
  obtain ⟨l, h, e1, e2, hl, hh, hp⟩ := hc2
  unfold wX_insert_70
  refine nm_r (fq_sh4 x hx) ?_
  rw [nI_clamp (show x / 16 < 2 ^ 31 by omega), e1]
  refine ⟨vp_in_nI (by omega) (by omega), br_c (fun g1 => ?_) (fun g1 => ?_)⟩
  · rw [fq_en_0le (by omega)] at g1
    refine fq_ins90 hx hg hc1 hn' (fun g' a1' a2' a3' a4' hg' hcl' fr => H g' _ _ _ _ hg' ⟨fun c hc => ?_, fq_cl_c (fun c hc => ?_) (fq_cl_f fr (by omega) hsm)⟩)
    · by_cases e : c = x / 16
      · subst e
        exact fq_cl_c (fun y hy => or_congr Iff.rfl ⟨fun t => by omega, fun t => by omega⟩) hcl'
      · exact fq_cl_c (fun y hy => ⟨Or.inl, fun t => t.resolve_right (by omega)⟩) (fq_cl_f fr e (hcs c hc))
    · constructor
      · rintro ⟨y, hy, t⟩
        exact ⟨y, hy, Or.inl t⟩
      · rintro ⟨y, hy, t | t⟩
        · exact ⟨y, hy, t⟩
        · have hc' : c = x / 16 := by omega
          subst hc'
          exact ⟨l, g1, hl.2.2.1 g1⟩
  · rw [fq_en_0le (by omega)] at g1
    refine fq_insInto (c := 16) (x := x / 16) (by omega) (by omega) hsm (fun ⟨y, hy, t⟩ => hl.2.2.2 y (by omega) (by omega) t) (fun b1 b2 b3 b4 hsm' fr1 => ?_)
    try dsimp only
    refine fq_ins90 hx hg (fq_cl_f fr1 (by omega) hc1) hn' (fun g' a1' a2' a3' a4' hg' hcl' fr => H g' _ _ _ _ hg' ⟨fun c hc => ?_, fq_cl_c (fun c hc => ?_) (fq_cl_f fr (by omega) hsm')⟩)
    · by_cases e : c = x / 16
      · subst e
        exact fq_cl_c (fun y hy => or_congr Iff.rfl ⟨fun t => by omega, fun t => by omega⟩) hcl'
      · exact fq_cl_c (fun y hy => ⟨Or.inl, fun t => t.resolve_right (by omega)⟩) (fq_cl_f fr e (fq_cl_f fr1 (by omega) (hcs c hc)))
    · constructor
      · rintro (⟨y, hy, t⟩ | t)
        · exact ⟨y, hy, Or.inl t⟩
        · exact ⟨x % 16, by omega, Or.inr (by omega)⟩
      · rintro ⟨y, hy, t | t⟩
        · exact Or.inl ⟨y, hy, t⟩
        · exact Or.inr (by omega)
theorem fq_member {post : Int32 → Prop} (hx : x < 256) (w : fq_wh S f0 f1 f2 a1 a2 a3 a4) (H1 : S x = true → post 1) (H0 : ¬ S x = true → post 0) :
    wpX_member post (f0, f1, f2, a1, a2, a3, a4) (nI x) := by
  obtain ⟨l, g, rfl, rfl, rfl, hl, hg, hcs⟩ := w
  unfold wpX_member
  try dsimp only
  refine br_f (nI_pos (by omega)) (br_f (nI_ge (b := 256) hx (by decide)) (br_c (fun e => ?_) (fun e => ?_)))
  · have e' := (fq_en_eq (by omega) hx).mp e.symm
    subst e'
    exact H1 (hl.2.2.1 hx)
  · have e' : ¬ l = x := fun t => e ((fq_en_eq (by omega) hx).mpr t).symm
    rw [fq_sh4 x hx, fq_a15 x hx]
    refine fq_inCl (by omega) (by omega) (hcs.1 (x / 16) (by omega)) (fun t => ?_) (fun t => ?_)
    · try dsimp only at t
      rw [show 16 * (x / 16) + x % 16 = x by omega] at t
      exact br_f (by decide) (H1 t.1)
    · try dsimp only at t
      rw [show 16 * (x / 16) + x % 16 = x by omega] at t
      exact br_t rfl (H0 (fun z => t ⟨z, by omega⟩))
theorem fq_insert {post : Int32 → St1 → Prop} (hx : x < 256) (w : fq_wh S f0 f1 f2 a1 a2 a3 a4)
    (H1 : ¬ S x = true → ∀ f0' f1' f2' a1' a2' a3' a4', fq_wh (fq_su S x true) f0' f1' f2' a1' a2' a3' a4' → post 1 (f0', f1', f2', a1', a2', a3', a4'))
    (H0 : S x = true → post 0 (f0, f1, f2, a1, a2, a3, a4)) :
    wpX_insert post (f0, f1, f2, a1, a2, a3, a4) (nI x) := by
  unfold wpX_insert
  try dsimp only
  refine br_f (nI_pos (by omega)) (br_f (nI_ge (b := 256) hx (by decide)) (fq_member hx w (fun t => br_f (by decide) (H0 t)) (fun t => br_t rfl ?_)))
  obtain ⟨l, g, rfl, rfl, rfl, ⟨l1, l2, l3, l4⟩, ⟨g1, g2, g3⟩, hcs⟩ := w
  have H := H1 t
  have hs : ∀ y, fq_su S x true y = true ↔ (S y = true ∨ y = x) := by
    intro y
    by_cases e : y = x
    · subst e
      exact ⟨fun _ => Or.inr rfl, fun _ => fq_su_s⟩
    · rw [fq_su_n e]
      exact ⟨Or.inl, fun z => z.resolve_right e⟩
  refine nm_r (show nI (fq_cnt S 256) + 1 = nI (fq_cnt (fq_su S x true) 256) by rw [nI_1, fq_cnt_up t hx]) ?_
  refine br_c (fun h0 => ?_) (fun h0 => ?_)
  · have hl256 : l < 256 := (fq_en_0le (by omega)).mp h0
    have hlx : l ≠ x := fun e => t (e ▸ l3 hl256)
    have hlg : l < g := Nat.lt_of_not_le (fun z => g3 l z hl256 (l3 hl256))
    rw [fq_en_lt hl256]
    refine pk_le l x (fun z => ?_) (fun z => ?_)
    · refine fq_ins70 hx g1 hcs (fun z => t z.1) (fun g' a1' a2' a3' a4' hg' hcs' => H _ _ _ _ _ _ _ ⟨l, g', (fq_en_lt hl256).symm, rfl, rfl, ⟨l1, l2, fun _ => (hs l).mpr (Or.inl (l3 hl256)), fun y y1 y2 hy => ?_⟩, ?_, fq_cs_c (fun y hy => ?_) hcs'⟩)
      · rcases (hs y).mp hy with z' | z'
        · exact l4 y y1 y2 z'
        · omega
      · rcases hg' with ⟨z1, z2⟩ | ⟨z1, z2⟩
        · subst z2
          refine ⟨g1, fun z => (hs _).mpr (Or.inl (g2 z)), fun y y1 y2 hy => ?_⟩
          rcases (hs y).mp hy with z' | z'
          · exact g3 y y1 y2 z'
          · omega
        · subst z2
          refine ⟨by omega, fun z => (hs _).mpr (Or.inr (by omega)), fun y y1 y2 hy => ?_⟩
          rcases (hs y).mp hy with z' | z'
          · exact g3 y (by omega) y2 z'
          · omega
      · rw [hs y]
        constructor
        · rintro (z | z)
          · exact ⟨Or.inl z.1, z.2⟩
          · exact ⟨Or.inr z, by omega⟩
        · rintro ⟨z | z, z'⟩
          · exact Or.inl ⟨z, z'⟩
          · exact Or.inr z
    · refine fq_ins70 hl256 g1 hcs (fun z => z.2 rfl) (fun g' a1' a2' a3' a4' hg' hcs' => H _ _ _ _ _ _ _ ⟨x, g', (fq_en_lt hx).symm, rfl, rfl, ⟨by omega, by omega, fun _ => (hs x).mpr (Or.inr rfl), fun y y1 y2 hy => ?_⟩, ?_, fq_cs_c (fun y hy => ?_) hcs'⟩)
      · rcases (hs y).mp hy with z' | z'
        · exact l4 y y1 (by omega) z'
        · omega
      · rcases hg' with ⟨z1, z2⟩ | ⟨z1, z2⟩
        · subst z2
          refine ⟨g1, fun z => (hs _).mpr (Or.inl (g2 z)), fun y y1 y2 hy => ?_⟩
          rcases (hs y).mp hy with z' | z'
          · exact g3 y y1 y2 z'
          · omega
        · omega
      · rw [hs y]
        constructor
        · rintro (z | z)
          · exact ⟨Or.inl z.1, fun e => t (e ▸ z.1)⟩
          · subst z
            exact ⟨Or.inl (l3 hl256), hlx⟩
        · rintro ⟨z | z, z'⟩
          · by_cases e : y = l
            · exact Or.inr e
            · exact Or.inl ⟨z, e⟩
          · exact absurd z z'
  · rw [fq_en_0le (by omega)] at h0
    refine H _ _ _ _ _ _ _ ⟨x, x + 1, (fq_en_lt hx).symm, (fq_dn_s x).symm, rfl, ⟨by omega, by omega, fun _ => (hs x).mpr (Or.inr rfl), fun y y1 y2 hy => ?_⟩, ⟨by omega, fun _ => (hs _).mpr (Or.inr (by omega)), fun y y1 y2 hy => ?_⟩, fq_cs_c (fun y hy => ?_) hcs⟩
    · rcases (hs y).mp hy with z' | z'
      · exact l4 y y1 (by omega) z'
      · omega
    · rcases (hs y).mp hy with z' | z'
      · exact l4 y (by omega) (by omega) z'
      · omega
    · rw [hs y]
      constructor
      · rintro ⟨z, _⟩
        exact absurd z (l4 y (by omega) (by omega))
      · rintro ⟨z | z, z'⟩
        · exact absurd z (l4 y (by omega) (by omega))
        · exact absurd z z'
end
end
section
section
variable {f0 f1 f2 : Int32} {a1 a2 a3 a4 : Nat → Int32} {m T : Nat → Prop} {S : Nat → Bool} {x l g : Nat}
/-! ===== least and greatest of T, as the summary shows them ===== -/
theorem fq_minT (hcs : fq_cs T a1 a2 a3 a4) : ∃ f, f ≤ 16 ∧ a1 16 = fq_en 16 f ∧ (f = 16 → ∀ y, y < 256 → ¬ T y) ∧ (f < 16 → ∃ k, k < 16 ∧ a1 f = nI k ∧ T (16 * f + k) ∧ ∀ y, y < 16 * f + k → ¬ T y) := by
  obtain ⟨hcs, f, h, e1, e2, ⟨s1, s2, s3, s4⟩, hh, hp⟩ := hcs
  refine ⟨f, s2, e1, fun hf y hy t => s4 (y / 16) (by omega) (by omega) (fq_sm t), fun hf => ?_⟩
  obtain ⟨y0, y1, y2⟩ := s3 hf
  obtain ⟨k, h', e1', e2', ⟨k1, k2, k3, k4⟩, hh', hp'⟩ := hcs f hf
  try dsimp only at k3 k4
  have hk : k < 16 := Nat.lt_of_not_le (fun z => k4 y0 (by omega) (by omega) y2)
  refine ⟨k, hk, by rw [e1', fq_en_lt hk], k3 hk, fun y hy t => ?_⟩
  by_cases e : y / 16 < f
  · exact s4 (y / 16) (by omega) e (fq_sm t)
  · refine k4 (y % 16) (by omega) (by omega) ?_
    rw [show 16 * f + y % 16 = y by omega]
    exact t
theorem fq_maxT (hcs : fq_cs T a1 a2 a3 a4) : ∃ h, h ≤ 16 ∧ a2 16 = fq_dn h ∧ (h = 0 → ∀ y, y < 256 → ¬ T y) ∧ (0 < h → ∃ k, k < 16 ∧ a2 (h - 1) = nI k ∧ fq_pv T 256 (16 * (h - 1) + k + 1)) := by
  obtain ⟨hcs, f, h, e1, e2, hf, ⟨s1, s2, s3⟩, hp⟩ := hcs
  refine ⟨h, s1, e2, fun hh y hy t => s3 (y / 16) (by omega) (by omega) (fq_sm t), fun hh => ?_⟩
  obtain ⟨y0, y1, y2⟩ := s2 hh
  obtain ⟨k', h', e1', e2', hk', ⟨k1, k2, k3⟩, hp'⟩ := hcs (h - 1) (by omega)
  try dsimp only at k2 k3
  have hk : 0 < h' := Nat.lt_of_not_le (fun z => k3 y0 (by omega) (by omega) y2)
  refine ⟨h' - 1, by omega, by rw [e2', fq_dn_p hk], by omega, fun _ => k2 hk, fun y z1 z2 t => ?_⟩
  by_cases e : h ≤ y / 16
  · exact s3 (y / 16) e (by omega) (fq_sm t)
  · refine k3 (y % 16) (by omega) (by omega) ?_
    rw [show 16 * (h - 1) + y % 16 = y by omega]
    exact t
/-! ===== delete ===== -/
theorem fq_del96 {post : Int32 → St1 → Prop} (hl : fq_fs (fun y => S y = true) 0 256 l) (hcs : fq_cs (fun y => S y = true ∧ y ≠ l) a1 a2 a3 a4)
    (H : ∀ f1', fq_wh S (fq_en 256 l) f1' (nI (fq_cnt S 256)) a1 a2 a3 a4 → post 1 (fq_en 256 l, f1', nI (fq_cnt S 256), a1, a2, a3, a4)) :
    wX_delete_96 post (fq_en 256 l) f1 (nI (fq_cnt S 256)) a1 a2 a3 a4 := by
  obtain ⟨h, h1, e2, h2, h3⟩ := fq_maxT hcs
  obtain ⟨l1, l2, l3, l4⟩ := id hl
  unfold wX_delete_96
  refine nm_r e2 (br_c (fun z => ?_) (fun z => ?_))
  · rw [fq_dn_0le (by omega)] at z
    obtain ⟨k, k1, k2, k3, k4, k5⟩ := h3 z
    try dsimp only at k4 k5
    rw [fq_dn_p z, nI_clamp (show h - 1 < 2 ^ 31 by omega), k2]
    refine ⟨vp_in_nI (by omega) (by omega), nm_r fq_16ik ?_⟩
    have hk := k4 (by omega)
    refine H _ ⟨l, 16 * (h - 1) + k + 1, rfl, (fq_dn_s _).symm, rfl, hl, ⟨k3, fun _ => hk.1, fun y y1 y2 hy => ?_⟩, hcs⟩
    by_cases e : y = l
    · subst e
      exact l4 _ (by omega) (by omega) hk.1
    · exact k5 y y1 y2 ⟨hy, e⟩
  · rw [fq_dn_0le (by omega)] at z
    have hT := h2 (by omega)
    by_cases hl256 : l < 256
    · refine H _ ⟨l, l + 1, rfl, by rw [fq_en_lt hl256, fq_dn_s], rfl, hl, ⟨by omega, fun _ => l3 hl256, fun y y1 y2 hy => hT y y2 ⟨hy, by omega⟩⟩, hcs⟩
    · refine H _ ⟨l, 0, rfl, by rw [fq_en_ge (by omega), fq_dn_0], rfl, hl, ⟨by omega, fun z => absurd z (by omega), fun y y1 y2 hy => hT y y2 ⟨hy, by omega⟩⟩, hcs⟩
theorem fq_del63 {post : Int32 → St1 → Prop} (hx : x < 256) (hcs : fq_cs T a1 a2 a3 a4) (ht : T x)
    (H : ∀ a1' a2' a3' a4', fq_cs (fun y => T y ∧ y ≠ x) a1' a2' a3' a4' → wX_delete_96 post f0 f1 f2 a1' a2' a3' a4') :
    wX_delete_63 post (nI x) f0 f1 f2 a1 a2 a3 a4 := by
  obtain ⟨hcs, hsm⟩ := hcs
  unfold wX_delete_63
  refine br_f (nI_pos (by omega)) (nm_r (fq_sh4 x hx) ?_)
  rw [fq_a15 x hx]
  refine fq_delFrom (by omega) (by omega) (hcs (x / 16) (by omega)) (fq_in ht) (fun b1 b2 b3 b4 hcl fr => ?_)
  try dsimp only
  have hcl' := hcl
  obtain ⟨k, h, e1, e2, ⟨k1, k2, k3, k4⟩, hh, hp⟩ := hcl'
  try dsimp only at k3 k4
  rw [nI_clamp (show x / 16 < 2 ^ 31 by omega), e1]
  have hall : ∀ c, c < 16 → fq_cl (fun y => T (16 * c + y) ∧ 16 * c + y ≠ x) c b1 b2 b3 b4 := by
    intro c hc
    by_cases e : c = x / 16
    · subst e
      exact fq_cl_c (fun y hy => and_congr Iff.rfl ⟨fun t => by omega, fun t => by omega⟩) hcl
    · exact fq_cl_c (fun y hy => ⟨fun t => ⟨t, by omega⟩, fun t => t.1⟩) (fq_cl_f fr e (hcs c hc))
  refine ⟨vp_in_nI (by omega) (by omega), br_c (fun z => ?_) (fun z => ?_)⟩
  · rw [fq_en_0le (by omega)] at z
    refine H _ _ _ _ ⟨hall, fq_cl_c (fun c hc => ?_) (fq_cl_f fr (by omega) hsm)⟩
    constructor
    · rintro ⟨y, hy, t⟩
      by_cases e : 16 * c + y = x
      · have ec : c = x / 16 := by omega
        subst ec
        have := k3 z
        exact ⟨k, z, this.1, by have := this.2; omega⟩
      · exact ⟨y, hy, t, e⟩
    · rintro ⟨y, hy, t, _⟩
      exact ⟨y, hy, t⟩
  · rw [fq_en_0le (by omega)] at z
    refine fq_delFrom (c := 16) (x := x / 16) (by omega) (by omega) (fq_cl_f fr (by omega) hsm) (fq_sm ht) (fun d1 d2 d3 d4 hsm' fr2 => ?_)
    try dsimp only
    refine H _ _ _ _ ⟨fun c hc => fq_cl_f fr2 (by omega) (hall c hc), fq_cl_c (fun c hc => ?_) hsm'⟩
    constructor
    · rintro ⟨⟨y, hy, t⟩, e⟩
      exact ⟨y, hy, t, by omega⟩
    · rintro ⟨y, hy, t, e⟩
      refine ⟨⟨y, hy, t⟩, fun ec => ?_⟩
      subst ec
      exact k4 y (by omega) (by omega) ⟨t, by omega⟩
theorem fq_delete {post : Int32 → St1 → Prop} (hx : x < 256) (w : fq_wh S f0 f1 f2 a1 a2 a3 a4)
    (H1 : S x = true → ∀ f0' f1' f2' a1' a2' a3' a4', fq_wh (fq_su S x false) f0' f1' f2' a1' a2' a3' a4' → post 1 (f0', f1', f2', a1', a2', a3', a4'))
    (H0 : ¬ S x = true → post 0 (f0, f1, f2, a1, a2, a3, a4)) :
    wpX_delete post (f0, f1, f2, a1, a2, a3, a4) (nI x) := by
  unfold wpX_delete
  try dsimp only
  refine fq_member hx w (fun t => br_f (by decide) ?_) (fun t => br_t rfl (H0 t))
  obtain ⟨l, g, rfl, rfl, rfl, ⟨l1, l2, l3, l4⟩, ⟨g1, g2, g3⟩, hcs⟩ := w
  have H := H1 t
  have hs : ∀ y, fq_su S x false y = true ↔ (S y = true ∧ y ≠ x) := by
    intro y
    by_cases e : y = x
    · subst e
      rw [fq_su_s]
      exact ⟨fun z => absurd z (by decide), fun z => absurd rfl z.2⟩
    · rw [fq_su_n e]
      exact ⟨fun z => ⟨z, e⟩, fun z => z.1⟩
  have hlx : l ≤ x := Nat.le_of_not_lt (fun z => l4 x (by omega) z t)
  refine nm_r (show nI (fq_cnt S 256) - 1 = nI (fq_cnt (fq_su S x false) 256) by rw [fq_cnt_dn t hx]; exact nI_pred _) ?_
  refine br_c (fun e => ?_) (fun e => ?_)
  · have e' := (fq_en_eq (by omega) hx).mp e.symm
    subst e'
    obtain ⟨f, hf, ef, hf0, hf1⟩ := fq_minT hcs
    refine nm_r ef (br_c (fun z => ?_) (fun z => ?_))
    · rw [fq_en_0le (by omega)] at z
      obtain ⟨k, hk, ek, ht, hmin⟩ := hf1 z
      try dsimp only at ht hmin
      rw [fq_en_lt z, nI_clamp (show f < 2 ^ 31 by omega), ek, fq_16ik]
      refine ⟨vp_in_nI (by omega) (by omega), ?_⟩
      unfold wX_delete_57
      refine fq_del63 (by omega) hcs ht (fun b1 b2 b3 b4 hcs' => ?_)
      rw [← fq_en_lt (show 16 * f + k < 256 by omega)]
      refine fq_del96 ⟨by omega, by omega, fun _ => (hs _).mpr ht, fun y y1 y2 hy => hmin y y2 ((hs y).mp hy)⟩ (fq_cs_c (fun y hy => and_congr (hs y).symm Iff.rfl) hcs') (fun f1' w' => H _ _ _ _ _ _ _ w')
    · rw [fq_en_0le (by omega)] at z
      have hT := hf0 (by omega)
      try dsimp only at hT
      unfold wX_delete_57 wX_delete_63
      refine br_t (by decide) ?_
      rw [← fq_en_ge (Nat.le_refl 256)]
      refine fq_del96 ⟨by omega, by omega, fun z => absurd z (by omega), fun y y1 y2 hy => hT y y2 ((hs y).mp hy)⟩ (fq_cs_c (fun y hy => ?_) hcs) (fun f1' w' => H _ _ _ _ _ _ _ w')
      rw [hs y]
      exact ⟨fun z => ⟨z, by omega⟩, fun z => z.1⟩
  · have e' : l ≠ x := fun t => e ((fq_en_eq (by omega) hx).mpr t).symm
    refine fq_del63 hx hcs ⟨t, fun z => e' z.symm⟩ (fun b1 b2 b3 b4 hcs' => ?_)
    refine fq_del96 ⟨l1, l2, fun z => (hs l).mpr ⟨l3 z, e'⟩, fun y y1 y2 hy => l4 y y1 y2 ((hs y).mp hy).1⟩ (fq_cs_c (fun y hy => ?_) hcs') (fun f1' w' => H _ _ _ _ _ _ _ w')
    rw [hs y]
    exact ⟨fun z => ⟨⟨z.1.1, z.2⟩, z.1.2⟩, fun z => ⟨⟨z.1.1, z.2⟩, z.1.2⟩⟩
/-! ===== after, before ===== -/
theorem fq_after {post : Int32 → Prop} (hx : x < 256) (w : fq_wh S f0 f1 f2 a1 a2 a3 a4) (H : ∀ y, fq_fs (fun y => S y = true) (x + 1) 256 y → post (fq_en 256 y)) :
    wpX_after post (f0, f1, f2, a1, a2, a3, a4) (nI x) := by
  obtain ⟨l, g, rfl, rfl, rfl, ⟨l1, l2, l3, l4⟩, ⟨g1, g2, g3⟩, hcs, hsm⟩ := w
  have Hn : (∀ y, x + 1 ≤ y → y < 256 → ¬ S y = true) → post (-1) := by
    intro h
    have := H 256 ⟨by omega, by omega, fun z => absurd z (by omega), h⟩
    rw [fq_en_ge (Nat.le_refl 256)] at this
    exact this
  unfold wpX_after
  try dsimp only
  refine br_c (fun z => ?_) (fun z => br_c (fun z2 => ?_) (fun z2 => ?_))
  · rw [fq_en_lt0 (by omega)] at z
    exact Hn (fun y y1 y2 => l4 y (by omega) (by omega))
  · rw [fq_en_lt0 (by omega)] at z
    rw [fq_lt_dn (by omega) (by omega)] at z2
    have hl256 : l < 256 := by omega
    have mg := g2 (by omega)
    rw [fq_en_lt hl256]
    refine pk_le l x (fun z3 => nm_r (fq_sh4 x hx) ?_) (fun z3 => ?_)
    · rw [fq_a15 x hx]
      refine fq_afterIn (by omega) (by omega) (hcs (x / 16) (by omega)) (fun y hy => ?_)
      obtain ⟨y1, y2, y3, y4⟩ := hy
      try dsimp only at y3 y4
      refine br_c (fun z4 => ?_) (fun z4 => ?_)
      · rw [fq_en_lt0 (by omega)] at z4
        have hlast : x / 16 < (g - 1) / 16 := by
          by_cases e : (g - 1) / 16 = x / 16
          · refine absurd ?_ (y4 ((g - 1) % 16) (by omega) (by omega))
            rw [show 16 * (x / 16) + (g - 1) % 16 = g - 1 by omega]
            exact ⟨mg, by omega⟩
          · omega
        refine fq_afterIn (c := 16) (x := x / 16) (by omega) (by omega) hsm (fun n hn => ?_)
        obtain ⟨n1, n2, n3, n4⟩ := hn
        try dsimp only at n3 n4
        have hn16 : n < 16 := by
          refine Nat.lt_of_not_le (fun t => n4 ((g - 1) / 16) (by omega) (by omega) ?_)
          exact fq_sm (T := fun y => S y = true ∧ y ≠ l) ⟨mg, by omega⟩
        obtain ⟨t0, t1, t2⟩ := n3 hn16
        obtain ⟨k, h', e1', e2', ⟨k1, k2, k3, k4⟩, hh', hp'⟩ := hcs n hn16
        try dsimp only at k3 k4
        have hk : k < 16 := Nat.lt_of_not_le (fun z => k4 t0 (by omega) (by omega) t2)
        rw [fq_en_lt hn16, nI_clamp (show n < 2 ^ 31 by omega), e1', fq_en_lt hk, fq_16ik]
        refine ⟨vp_in_nI (by omega) (by omega), ?_⟩
        have := H (16 * n + k) ⟨by omega, by omega, fun _ => (k3 hk).1, fun v v1 v2 hv => ?_⟩
        · rw [fq_en_lt (by omega)] at this
          exact this
        · by_cases e : v / 16 = x / 16
          · refine y4 (v % 16) (by omega) (by omega) ?_
            rw [show 16 * (x / 16) + v % 16 = v by omega]
            exact ⟨hv, by omega⟩
          · by_cases e2 : v / 16 < n
            · exact n4 (v / 16) (by omega) e2 (fq_sm (T := fun y => S y = true ∧ y ≠ l) ⟨hv, by omega⟩)
            · refine k4 (v % 16) (by omega) (by omega) ?_
              rw [show 16 * n + v % 16 = v by omega]
              exact ⟨hv, by omega⟩
      · rw [fq_en_lt0 (by omega)] at z4
        have hy16 : y < 16 := by omega
        rw [fq_en_lt hy16, fq_16ik]
        have := H (16 * (x / 16) + y) ⟨by omega, by omega, fun _ => (y3 hy16).1, fun v v1 v2 hv => ?_⟩
        · rw [fq_en_lt (by omega)] at this
          exact this
        · refine y4 (v % 16) (by omega) (by omega) ?_
          rw [show 16 * (x / 16) + v % 16 = v by omega]
          exact ⟨hv, by omega⟩
    · have := H l ⟨by omega, l2, l3, fun v v1 v2 => l4 v (by omega) v2⟩
      rw [fq_en_lt hl256] at this
      exact this
  · rw [fq_lt_dn (by omega) (by omega)] at z2
    exact Hn (fun y y1 y2 => g3 y (by omega) y2)
theorem fq_before {post : Int32 → Prop} (hx : x < 256) (w : fq_wh S f0 f1 f2 a1 a2 a3 a4) (H : ∀ y, fq_pv (fun y => S y = true) x y → post (fq_dn y)) :
    wpX_before post (f0, f1, f2, a1, a2, a3, a4) (nI x) := by
  obtain ⟨l, g, rfl, rfl, rfl, ⟨l1, l2, l3, l4⟩, ⟨g1, g2, g3⟩, hcs, hsm⟩ := w
  have Hn : (∀ y, y < x → ¬ S y = true) → post (-1) := by
    intro h
    have := H 0 ⟨by omega, fun z => absurd z (by omega), fun y _ y2 => h y y2⟩
    rw [fq_dn_0] at this
    exact this
  unfold wpX_before
  try dsimp only
  refine br_c (fun z => ?_) (fun z => ?_)
  · rw [fq_en_lt0 (by omega)] at z
    exact Hn (fun y y1 => l4 y (by omega) (by omega))
  · rw [fq_en_lt0 (by omega)] at z
    have hl256 : l < 256 := by omega
    have ml := l3 hl256
    rw [fq_en_lt hl256]
    refine pk_lt l x (fun z3 => br_c (fun z2 => nm_r (fq_sh4 x hx) ?_) (fun z2 => ?_)) (fun z3 => ?_)
    · rw [fq_le_dn (by omega) (by omega)] at z2
      rw [fq_a15 x hx]
      refine fq_beforeIn (by omega) (by omega) (hcs (x / 16) (by omega)) (fun y hy => ?_)
      obtain ⟨y1, y3, y4⟩ := hy
      try dsimp only at y3 y4
      refine br_c (fun z4 => ?_) (fun z4 => ?_)
      · rw [fq_dn_lt0 (by omega)] at z4
        subst z4
        refine fq_beforeIn (c := 16) (x := x / 16) (by omega) (by omega) hsm (fun n hn => ?_)
        obtain ⟨n1, n3, n4⟩ := hn
        try dsimp only at n3 n4
        refine br_c (fun z5 => ?_) (fun z5 => ?_)
        · rw [fq_dn_0le (by omega)] at z5
          obtain ⟨t0, t1, t2⟩ := n3 z5
          obtain ⟨k', h', e1', e2', hk', ⟨k1, k2, k3⟩, hp'⟩ := hcs (n - 1) (by omega)
          try dsimp only at k2 k3
          have hk : 0 < h' := Nat.lt_of_not_le (fun z => k3 t0 (by omega) (by omega) t2)
          have mk := k2 hk
          rw [fq_dn_p z5, nI_clamp (show n - 1 < 2 ^ 31 by omega), e2', fq_dn_p hk, fq_16ik]
          refine ⟨vp_in_nI (by omega) (by omega), ?_⟩
          have := H (16 * (n - 1) + (h' - 1) + 1) ⟨by omega, fun _ => mk.1, fun v v1 v2 hv => ?_⟩
          · rw [fq_dn_s] at this
            exact this
          · have hlk : l < 16 * (n - 1) + (h' - 1) := by
              rcases Nat.lt_or_ge l (16 * (n - 1) + (h' - 1)) with t | t
              · exact t
              · exact absurd mk.1 (l4 _ (by omega) (by have := mk.2; omega))
            by_cases e : v / 16 = x / 16
            · refine y4 (v % 16) (by omega) (by omega) ?_
              rw [show 16 * (x / 16) + v % 16 = v by omega]
              exact ⟨hv, by omega⟩
            · by_cases e2 : n ≤ v / 16
              · exact n4 (v / 16) e2 (by omega) (fq_sm (T := fun y => S y = true ∧ y ≠ l) ⟨hv, by omega⟩)
              · refine k3 (v % 16) (by omega) (by omega) ?_
                rw [show 16 * (n - 1) + v % 16 = v by omega]
                exact ⟨hv, by omega⟩
        · rw [fq_dn_0le (by omega)] at z5
          have := H (l + 1) ⟨by omega, fun _ => ml, fun v v1 v2 hv => ?_⟩
          · rw [fq_dn_s] at this
            exact this
          · by_cases e : v / 16 = x / 16
            · refine y4 (v % 16) (by omega) (by omega) ?_
              rw [show 16 * (x / 16) + v % 16 = v by omega]
              exact ⟨hv, by omega⟩
            · exact n4 (v / 16) (by omega) (by omega) (fq_sm (T := fun y => S y = true ∧ y ≠ l) ⟨hv, by omega⟩)
      · rw [fq_dn_lt0 (by omega)] at z4
        have mk := y3 (by omega)
        rw [fq_dn_p (by omega), fq_16ik]
        have := H (16 * (x / 16) + (y - 1) + 1) ⟨by omega, fun _ => mk.1, fun v v1 v2 hv => ?_⟩
        · rw [fq_dn_s] at this
          exact this
        · have hlk : l < 16 * (x / 16) + (y - 1) := by
            rcases Nat.lt_or_ge l (16 * (x / 16) + (y - 1)) with t | t
            · exact t
            · exact absurd mk.1 (l4 _ (by omega) (by have := mk.2; omega))
          refine y4 (v % 16) (by omega) (by omega) ?_
          rw [show 16 * (x / 16) + v % 16 = v by omega]
          exact ⟨hv, by omega⟩
    · rw [fq_le_dn (by omega) (by omega)] at z2
      exact H g ⟨by omega, g2, fun v v1 v2 => g3 v v1 (by omega)⟩
    · exact Hn (fun y y1 => l4 y (by omega) (by omega))
end
end
section
section
variable {f0 f1 f2 : Int32} {a1 a2 a3 a4 : Nat → Int32} {S : Nat → Bool} {x : Nat}
theorem fq_cntNext {y y' : Nat} (hS : S y = true) (h : fq_fs (fun y => S y = true) (y + 1) 256 y') : fq_cnt S y' = fq_cnt S y + 1 := by
  rw [← fq_cnt_t hS]
  exact (fq_cnt_eq h.1 (fun z z1 z2 => h.2.2.2 z z1 z2)).symm
theorem fq_cntLeast {l : Nat} (h : fq_fs (fun y => S y = true) 0 256 l) : fq_cnt S l = 0 :=
  (fq_cnt_eq (S := S) (a := 0) (b := l) (by omega) (fun z z1 z2 => h.2.2.2 z z1 z2)).symm
/-! ===== select ===== -/
theorem fq_select {post : Int32 → Prop} {k : Nat} (hk : k ≤ 256) (w : fq_wh S f0 f1 f2 a1 a2 a3 a4)
    (H : ∀ y, y ≤ 256 → (y < 256 → S y = true ∧ fq_cnt S y = k) → (y = 256 → fq_cnt S 256 ≤ k) → post (fq_en 256 y)) :
    wpX_select post (f0, f1, f2, a1, a2, a3, a4) (nI k) := by
  have w' := w
  obtain ⟨l, g, e0, e1, e2, hl, hg, hcs⟩ := w'
  unfold wpX_select
  try dsimp only
  refine br_t (nI_pos' (by omega)) ?_
  rw [e0] at w ⊢
  refine pk_loop (fun n i y => wX_select_15 post (nI k) (fq_en 256 l) f1 f2 a1 a2 a3 a4 n (fq_en 256 y) (nI i)) (fun i y => y ≤ 256 ∧ fq_cnt S y = i ∧ (y < 256 → S y = true)) k 0 l (by omega) ⟨hl.2.1, fq_cntLeast hl, hl.2.2.1⟩ ?_ ?_
  · intro n y ⟨h1, h2, h3⟩
    refine pk_le k k (fun _ => H y h1 (fun z => ⟨h3 z, h2⟩) (fun z => ?_)) (fun z => absurd z (by omega))
    rw [← z]
    omega
  · intro n i y hi ⟨h1, h2, h3⟩ hw
    refine pk_le k i (fun z => absurd z (by omega)) (fun _ => br_c (fun z => ?_) (fun z => ?_))
    · rw [fq_en_lt0 (by omega)] at z
      refine H y h1 (fun t => absurd t (by omega)) (fun t => ?_)
      rw [← t]
      omega
    · rw [fq_en_lt0 (by omega)] at z
      have hy : y < 256 := by omega
      rw [fq_en_lt hy]
      refine fq_after hy w (fun y' hy' => nm_r (nI_1 i) (hw y' ⟨hy'.2.1, ?_, hy'.2.2.1⟩))
      rw [fq_cntNext (h3 hy) hy', h2]
theorem fq_selectN {post : Int32 → Prop} (H : post (-1)) : wpX_select post (f0, f1, f2, a1, a2, a3, a4) (-1) :=
  br_f (by decide) ⟨1, br_t (by decide) H⟩
/-! ===== countBetween ===== -/
theorem fq_cb {post : Int32 → Prop} {b : Nat} (hb : b < 256) (w : fq_wh S f0 f1 f2 a1 a2 a3 a4) (H : post (nI (fq_cnt S (b + 1)))) :
    wpX_countBetween post (f0, f1, f2, a1, a2, a3, a4) 0 (nI b) := by
  have w' := w
  obtain ⟨l, g, e0, e1, e2, hl, hg, hcs⟩ := w'
  unfold wpX_countBetween
  try dsimp only
  unfold wpX_from
  try dsimp only
  refine br_f (by decide) ?_
  rw [e0] at w ⊢
  refine pk_loop (fun n i y => wX_countBetween_12 post (nI b) (fq_en 256 l) f1 f2 a1 a2 a3 a4 n (nI i) (fq_en 256 y) (nI i)) (fun i y => y ≤ 256 ∧ fq_cnt S y = i ∧ (y < 256 → S y = true) ∧ ∀ z, z < y → S z = true → z ≤ b) 256 0 l (by omega) ⟨hl.2.1, fq_cntLeast hl, hl.2.2.1, fun z z1 z2 => absurd z2 (hl.2.2.2 z (by omega) z1)⟩ ?_ ?_
  · intro n y ⟨h1, h2, h3, h4⟩
    refine pk_le 256 256 (fun _ => ?_) (fun z => absurd z (by omega))
    have hle := fq_cnt_le S y
    have hy : y = 256 := by omega
    rw [← h2, ← fq_cnt_eq (S := S) (a := b + 1) (b := y) (by omega) (fun z z1 z2 t => absurd (h4 z z2 t) (by omega))]
    exact H
  · intro n i y hi ⟨h1, h2, h3, h4⟩ hw
    refine pk_le 256 i (fun z => absurd z (by omega)) (fun _ => br_c (fun z => ?_) (fun z => ?_))
    · rw [fq_en_lt0 (by omega)] at z
      rw [← h2, ← fq_cnt_eq (S := S) (a := b + 1) (b := y) (by omega) (fun z z1 z2 t => absurd (h4 z z2 t) (by omega))]
      exact H
    · rw [fq_en_lt0 (by omega)] at z
      have hy : y < 256 := by omega
      rw [fq_en_lt hy]
      refine pk_lt b y (fun z2 => ?_) (fun z2 => nm_r (nI_1 i) (fq_after hy w (fun y' hy' => nm_r (nI_1 i) (hw y' ⟨hy'.2.1, ?_, hy'.2.2.1, fun v v1 v2 => ?_⟩))))
      · rw [← h2, ← fq_cnt_eq (S := S) (a := b + 1) (b := y) (by omega) (fun z z1 z2 t => absurd (h4 z z2 t) (by omega))]
        exact H
      · rw [fq_cntNext (h3 hy) hy', h2]
      · by_cases e : v ≤ y
        · omega
        · exact absurd v2 (hy'.2.2.2 v (by omega) v1)
/-! ===== gapFrom, nearest ===== -/
theorem fq_gap {post : Int32 → Prop} (hx : x < 256) (w : fq_wh S f0 f1 f2 a1 a2 a3 a4) (hS : ¬ S x = true) (H : post (nI x)) :
    wpX_gapFrom post (f0, f1, f2, a1, a2, a3, a4) (nI x) := by
  unfold wpX_gapFrom
  try dsimp only
  refine br_t (nI_pos' (by omega)) ⟨1, br_f (nI_ge (b := 256) hx (by decide)) (fq_member hx w (fun z => absurd z hS) (fun _ => br_t rfl ?_))⟩
  exact br_f (nI_ge (b := 256) hx (by decide)) H
theorem fq_near {post : Int32 → Prop} (hx : x < 256) (w : fq_wh S f0 f1 f2 a1 a2 a3 a4) (hS : S x = true) (H : post (nI x)) :
    wpX_nearest post (f0, f1, f2, a1, a2, a3, a4) (nI x) := by
  unfold wpX_nearest
  try dsimp only
  refine fq_after hx w (fun y hy => fq_member hx w (fun _ => br_f (by decide) ?_) (fun z => absurd hS z))
  obtain ⟨y1, y2, y3, y4⟩ := hy
  unfold wX_nearest_23
  refine br_c (fun z => ?_) (fun z => br_t (nI_pos' (by omega)) (br_f ?_ H))
  · have hz := z
    rw [fq_en_lt0 (by omega)] at hz
    rw [fq_en_ge hz]
    exact br_f (by decide) H
  · rw [fq_en_lt0 (by omega)] at z
    rw [fq_en_lt (by omega), fq_lt (pk_sub_toInt (by omega) (by omega)) (pk_sub_toInt (by omega) (by omega))]
    omega
/-! ===== from, deleteBetween, takeLeast, takeGreatest ===== -/
theorem fq_from {post : Int32 → Prop} (hx : x < 256) (w : fq_wh S f0 f1 f2 a1 a2 a3 a4) (H : ∀ y, y ≤ 256 → post (fq_en 256 y)) :
    wpX_from post (f0, f1, f2, a1, a2, a3, a4) (nI x) := by
  unfold wpX_from
  try dsimp only
  refine pk_lt 0 x (fun z => ?_) (fun z => ?_)
  · rw [show nI x - 1 = nI (x - 1) from fq_dn_p z]
    exact fq_after (by omega) w (fun y hy => H y hy.2.1)
  · obtain ⟨l, g, rfl, e1, e2, hl, hg, hcs⟩ := w
    exact H l hl.2.1
theorem fq_delNeg {post : Int32 → St1 → Prop} (H : post 0 (f0, f1, f2, a1, a2, a3, a4)) : wpX_delete post (f0, f1, f2, a1, a2, a3, a4) (-1) := by
  unfold wpX_delete
  try dsimp only
  unfold wpX_member
  try dsimp only
  exact br_t (by decide) (br_t rfl H)
theorem fq_delB {post : Int32 → St1 → Prop} {b : Int32} (hx : x < 256) (w : fq_wh S f0 f1 f2 a1 a2 a3 a4)
    (H : ∀ r S' f0' f1' f2' a1' a2' a3' a4', fq_wh S' f0' f1' f2' a1' a2' a3' a4' → post r (f0', f1', f2', a1', a2', a3', a4')) :
    wpX_deleteBetween post (f0, f1, f2, a1, a2, a3, a4) (nI x) b := by
  unfold wpX_deleteBetween
  try dsimp only
  refine fq_from hx w (fun y hy => ?_)
  refine lp10 (wX_deleteBetween_12 post b) (fun x3 x4 x5 f0 f1 f2 a1 a2 a3 a4 => ∃ k y S, x5 = nI k ∧ k ≤ 256 ∧ x4 = fq_en 256 y ∧ fq_wh S f0 f1 f2 a1 a2 a3 a4) (fun x3 x4 x5 f0 f1 f2 a1 a2 a3 a4 => 256 - x5.toNatClampNeg) ?_ 0 (fq_en 256 y) 0 f0 f1 f2 a1 a2 a3 a4 ⟨0, y, S, rfl, by omega, rfl, w⟩
  intro n x3 x4 x5 f0 f1 f2 a1 a2 a3 a4 ⟨k, y, S, ek, hk, ey, w⟩ hw
  subst ek ey
  refine pk_le 256 k (fun z => H _ _ _ _ _ _ _ _ _ w) (fun z => br_c (fun z2 => H _ _ _ _ _ _ _ _ _ w) (fun z2 => br_c (fun z3 => H _ _ _ _ _ _ _ _ _ w) (fun z3 => ?_)))
  rw [fq_en_lt0 (by omega)] at z2
  have hy : y < 256 := by omega
  rw [fq_en_lt hy]
  have step : ∀ S' f0' f1' f2' a1' a2' a3' a4', fq_wh S' f0' f1' f2' a1' a2' a3' a4' → ∀ x3', wpX_after (fun r_22 => ∀ x5_23 : Int32, x5_23 = nI k + 1 → wX_deleteBetween_12 post b n x3' r_22 x5_23 f0' f1' f2' a1' a2' a3' a4') (f0', f1', f2', a1', a2', a3', a4') (nI y) := by
    intro S' f0' f1' f2' a1' a2' a3' a4' w' x3'
    refine fq_after hy w' (fun y' hy' => nm_r (nI_1 k) (hw _ _ _ _ _ _ _ _ _ _ ⟨k + 1, y', S', rfl, by omega, rfl, w'⟩ ?_))
    rw [nI_clamp (by omega), nI_clamp (by omega)]
    omega
  exact fq_delete hy w (fun _ f0' f1' f2' a1' a2' a3' a4' w' => nm_e (step _ _ _ _ _ _ _ _ w' _)) (fun _ => nm_e (step _ _ _ _ _ _ _ _ w _))
theorem fq_takeL {post : Int32 → St1 → Prop} (w : fq_wh S f0 f1 f2 a1 a2 a3 a4)
    (H : ∀ r S' f0' f1' f2' a1' a2' a3' a4', fq_wh S' f0' f1' f2' a1' a2' a3' a4' → post r (f0', f1', f2', a1', a2', a3', a4')) :
    wpX_takeLeast post (f0, f1, f2, a1, a2, a3, a4) := by
  have w' := w
  obtain ⟨l, g, rfl, e1, e2, hl, hg, hcs⟩ := w'
  unfold wpX_takeLeast
  try dsimp only
  by_cases h : l < 256
  · rw [fq_en_lt h] at w ⊢
    exact fq_delete h w (fun _ f0' f1' f2' a1' a2' a3' a4' w' => br_f (by decide) (H _ _ _ _ _ _ _ _ _ w')) (fun _ => br_t rfl (H _ _ _ _ _ _ _ _ _ w))
  · rw [fq_en_ge (by omega)] at w ⊢
    exact fq_delNeg (br_t rfl (H _ _ _ _ _ _ _ _ _ w))
theorem fq_takeG {post : Int32 → St1 → Prop} (w : fq_wh S f0 f1 f2 a1 a2 a3 a4)
    (H : ∀ r S' f0' f1' f2' a1' a2' a3' a4', fq_wh S' f0' f1' f2' a1' a2' a3' a4' → post r (f0', f1', f2', a1', a2', a3', a4')) :
    wpX_takeGreatest post (f0, f1, f2, a1, a2, a3, a4) := by
  have w' := w
  obtain ⟨l, g, e0, rfl, e2, hl, hg, hcs⟩ := w'
  have hg1 := hg.1
  unfold wpX_takeGreatest
  try dsimp only
  by_cases h : 0 < g
  · rw [fq_dn_p h] at w ⊢
    exact fq_delete (by omega) w (fun _ f0' f1' f2' a1' a2' a3' a4' w' => br_f (by decide) (H _ _ _ _ _ _ _ _ _ w')) (fun _ => br_t rfl (H _ _ _ _ _ _ _ _ _ w))
  · have hg0 : g = 0 := by omega
    subst hg0
    rw [fq_dn_0] at w ⊢
    exact fq_delNeg (br_t rfl (H _ _ _ _ _ _ _ _ _ w))
end
end
section
section
variable {f0 f1 f2 : Int32} {a1 a2 a3 a4 : Nat → Int32} {S : Nat → Bool} {x y : Nat}
/-! ===== quarter, undone ===== -/
def fq_qv (S : Nat → Bool) (q : Nat) : Nat → Int64
  | 0 => 0
  | b + 1 => if S (64 * q + b) = true then fq_qv S q b ||| ((1 : Int64) <<< ((nI b).toInt64 &&& 63)) else fq_qv S q b
theorem fq_quarter {post : Int64 → Prop} {q : Nat} (hq : q < 4) (w : fq_wh S f0 f1 f2 a1 a2 a3 a4) (H : post (fq_qv S q 64)) :
    wpL_quarter post (f0, f1, f2, a1, a2, a3, a4) (nI q) := by
  unfold wpL_quarter
  try dsimp only
  refine pk_loop (fun n i m => wL_quarter_5 post (nI q) f0 f1 f2 a1 a2 a3 a4 n m (nI i)) (fun i m => m = fq_qv S q i) 64 0 0 (by omega) rfl ?_ ?_
  · intro n m h
    subst h
    exact pk_le 64 64 (fun _ => H) (fun z => absurd z (by omega))
  · intro n i m hi h hw
    subst h
    refine pk_le 64 i (fun z => absurd z (by omega)) (fun _ => ?_)
    rw [show (64 : Int32) * nI q + nI i = nI (64 * q + i) by rw [show (64 : Int32) = nI 64 from rfl, pk_mul, nI_add]]
    refine fq_member (by omega) w (fun t => br_f (by decide) (nm_e (nm_r (nI_1 i) (hw _ ?_)))) (fun t => br_t rfl (nm_r (nI_1 i) (hw _ ?_)))
    · exact (if_pos t).symm
    · exact (if_neg t).symm
theorem fq_undone {post : Int32 → St1 → Prop} (hx : x < 256) (w : fq_wh S f0 f1 f2 a1 a2 a3 a4)
    (H : ∀ f0' f1' f2' a1' a2' a3' a4', fq_wh S f0' f1' f2' a1' a2' a3' a4' → post 1 (f0', f1', f2', a1', a2', a3', a4')) :
    wpL_undone post (f0, f1, f2, a1, a2, a3, a4) (nI x) := by
  have q61 : ∀ f0' f1' f2' a1' a2' a3' a4', fq_wh S f0' f1' f2' a1' a2' a3' a4' → wL_undone_61 post (fq_qv S 0 64) (fq_qv S 1 64) (fq_qv S 2 64) (fq_qv S 3 64) f0' f1' f2' a1' a2' a3' a4' := by
    intro f0' f1' f2' a1' a2' a3' a4' w'
    unfold wL_undone_61
    exact fq_quarter (q := 0) (by omega) w' (br_t rfl (fq_quarter (q := 1) (by omega) w' (br_t rfl (fq_quarter (q := 2) (by omega) w' (br_t rfl (fq_quarter (q := 3) (by omega) w' (br_t rfl (H _ _ _ _ _ _ _ w'))))))))
  unfold wpL_undone
  try dsimp only
  refine fq_quarter (q := 0) (by omega) w (fq_quarter (q := 1) (by omega) w (fq_quarter (q := 2) (by omega) w (fq_quarter (q := 3) (by omega) w (fq_member hx w (fun t => ?_) (fun t => ?_)))))
  · exact fq_insert hx w (fun z => absurd t z) (fun _ => br_f (by decide) (br_f (by decide) (q61 _ _ _ _ _ _ _ w)))
  · refine fq_insert hx w (fun _ f0' f1' f2' a1' a2' a3' a4' w' => br_f (by decide) (br_t rfl ?_)) (fun z => absurd z t)
    refine fq_delete hx w' (fun _ f0' f1' f2' a1' a2' a3' a4' w'' => br_f (by decide) (q61 _ _ _ _ _ _ _ ?_)) (fun z => absurd fq_su_s z)
    rw [fq_su_back (by cases e : S x with | false => rfl | true => exact absurd e t)] at w''
    exact w''
/-! ===== upward ===== -/
theorem fq_cnt_lt {a b : Nat} (h : a < b) (hS : S a = true) : fq_cnt S a < fq_cnt S b := by
  have := fq_cnt_mono (S := S) (show a + 1 ≤ b by omega)
  rw [fq_cnt_t hS] at this
  omega
theorem fq_cnt_inj {a b : Nat} (ha : S a = true) (hb : S b = true) (h : fq_cnt S a = fq_cnt S b) : a = b := by
  rcases Nat.lt_trichotomy a b with z | z | z
  · have := fq_cnt_lt z ha
    omega
  · exact z
  · have := fq_cnt_lt z hb
    omega
theorem fq_cnt_none {a : Nat} (h : fq_cnt S a = 0) {z : Nat} (hz : z < a) : ¬ S z = true := by
  intro t
  have := fq_cnt_lt hz t
  omega
theorem fq_up130 {post : Int32 → Prop} (w : fq_wh S f0 f1 f2 a1 a2 a3 a4) (hy : fq_pv (fun y => S y = true) 256 y) (H : post 1) :
    wL_upward_130 post (fq_dn y) (nI (fq_cnt S 256)) f0 f1 f2 a1 a2 a3 a4 := by
  have w' := w
  obtain ⟨l, g, e0, e1, e2, hl, hg, hcs⟩ := w'
  have hc := fq_cnt_le S 256
  unfold wL_upward_130 wpX_greatest
  try dsimp only
  refine br_t (by rw [e1, fq_pv_u hg hy]) ?_
  unfold wpX_size
  try dsimp only
  refine br_t e2 (fq_cb (b := 255) (by decide) w (br_t rfl (fq_select hc w (fun v h1 h2 h3 => br_t ?_ (fq_selectN (br_t rfl H))))))
  rcases Nat.lt_or_ge v 256 with z | z
  · have h4 := h2 z
    have := fq_cnt_lt z h4.1
    omega
  · exact fq_en_ge z
theorem fq_up59 {post : Int32 → Prop} {J : Int32 → Int32 → Int32 → Prop} (hx : x < 256) (w : fq_wh S f0 f1 f2 a1 a2 a3 a4) (hS : S x = true) (H : J (nI x) (nI (fq_cnt S (x + 1))) (nI (x + 1))) :
    wL_upward_59 post J (nI (fq_cnt S x)) (nI x) f0 f1 f2 a1 a2 a3 a4 := by
  have hc := fq_cnt_le S x
  unfold wL_upward_59
  refine fq_select (by omega) w (fun v h1 h2 h3 => br_t ?_ (fq_cb hx w (br_t (by rw [nI_1, fq_cnt_t hS]) (fq_near hx w hS (br_t rfl (nm_r (by rw [nI_1, fq_cnt_t hS]) (nm_r (nI_1 x) H)))))))
  rcases Nat.lt_or_ge v 256 with z | z
  · rw [fq_en_lt z, fq_cnt_inj (h2 z).1 hS (h2 z).2]
  · have h4 := h3 (by omega)
    have := fq_cnt_lt hx hS
    omega
theorem fq_up44 {post : Int32 → Prop} {J : Int32 → Int32 → Int32 → Prop} (hx : x < 256) (w : fq_wh S f0 f1 f2 a1 a2 a3 a4) (hS : S x = true) (hy : fq_pv (fun y => S y = true) x y) (H : J (nI x) (nI (fq_cnt S (x + 1))) (nI (x + 1))) :
    wL_upward_44 post J (fq_dn y) (nI (fq_cnt S x)) (nI x) f0 f1 f2 a1 a2 a3 a4 := by
  have hc := fq_cnt_le S x
  obtain ⟨y1, y2, y3⟩ := hy
  unfold wL_upward_44
  refine pk_le (fq_cnt S x) 0 (fun _ => fq_up59 hx w hS H) (fun z => ?_)
  have hy0 : 0 < y := by
    refine Nat.lt_of_not_le (fun t => ?_)
    have := fq_cnt_eq (S := S) (a := 0) (b := x) (by omega) (fun v v1 v2 => y3 v (by omega) v2)
    rw [← this] at z
    exact absurd z (Nat.lt_irrefl 0)
  rw [fq_dn_p hy0]
  refine fq_after (by omega) w (fun y' hy' => br_t ?_ (fq_up59 hx w hS H))
  have e : y' = x := fq_fs_u hy' ⟨by omega, by omega, fun _ => hS, fun v v1 v2 => y3 v (by omega) v2⟩
  rw [e, fq_en_lt hx]
theorem fq_upward {post : Int32 → Prop} (w : fq_wh S f0 f1 f2 a1 a2 a3 a4) (H : post 1) : wpL_upward post (f0, f1, f2, a1, a2, a3, a4) := by
  have key : ∃ n, wL_upward_6 post f0 f1 f2 a1 a2 a3 a4 n (fq_dn 0) (nI (fq_cnt S 0)) (nI 0) := by
    refine pk_loop (fun n i y => wL_upward_6 post f0 f1 f2 a1 a2 a3 a4 n (fq_dn y) (nI (fq_cnt S i)) (nI i)) (fun i y => fq_pv (fun y => S y = true) i y) 256 0 0 (by omega) ⟨by omega, fun z => absurd z (by omega), fun z z1 z2 => absurd z2 (by omega)⟩ ?_ ?_
    · intro n y h
      have hc := fq_cnt_le S 256
      refine pk_le 256 256 (fun _ => pk_eq (fq_cnt S 256) 0 (fun z => ?_) (fun z => fq_up130 w h H)) (fun z => absurd z (by omega))
      have w' := w
      obtain ⟨l, g, e0, e1, e2, hl, hg, hcs⟩ := w'
      unfold wpX_least
      try dsimp only
      refine br_t ?_ (fq_up130 w h H)
      rw [e0]
      refine fq_en_ge (Nat.le_of_not_lt (fun t => ?_))
      exact fq_cnt_none z t (hl.2.2.1 t)
    · intro n i y hi h hw
      have hc := fq_cnt_le S i
      refine pk_le 256 i (fun z => absurd z (by omega)) (fun _ => fq_before hi w (fun y' hy' => br_t (by rw [fq_pv_u hy' h]) (fq_member hi w (fun t => br_f (by decide) ?_) (fun t => br_t rfl (fq_gap hi w t (br_t rfl (nm_r (nI_1 i) ?_)))))))
      · have h59 := hw (i + 1) ⟨by omega, fun _ => t, fun z z1 z2 => absurd z2 (by omega)⟩
        rw [fq_dn_s] at h59
        refine pk_eq (fq_cnt S i) 0 (fun z => ?_) (fun z => fq_up44 hi w t h h59)
        have w' := w
        obtain ⟨l, g, e0, e1, e2, hl, hg, hcs⟩ := w'
        unfold wpX_least
        try dsimp only
        refine br_t ?_ (fq_up44 hi w t h h59)
        rw [e0, fq_fs_u hl ⟨by omega, by omega, fun _ => t, fun v v1 v2 => fq_cnt_none z v2⟩, fq_en_lt hi]
      · have hn := hw y ⟨by have := h.1; omega, h.2.1, fun v v1 v2 => by
          by_cases e : v = i
          · rw [e]
            exact t
          · exact h.2.2 v v1 (by omega)⟩
        rw [fq_cnt_f t] at hn
        exact hn
  rw [fq_dn_0] at key
  exact key
/-! ===== downward ===== -/
theorem fq_m1 (i : Nat) : nI i + (-1) = fq_dn i := (Int32.sub_eq_add_neg (nI i) 1).symm
theorem fq_downward {post : Int32 → Prop} (w : fq_wh S f0 f1 f2 a1 a2 a3 a4) (H : post 1) : wpL_downward post (f0, f1, f2, a1, a2, a3, a4) := by
  have key := pk_loopD (fun n i y => wL_downward_6 post f0 f1 f2 a1 a2 a3 a4 n (fq_en 256 y) (fq_dn i)) (fun i y => i ≤ 256 ∧ fq_fs (fun y => S y = true) i 256 y) ?_ ?_ 256 256 ⟨by omega, by omega, by omega, fun z => absurd z (by omega), fun z z1 z2 => absurd z2 (by omega)⟩
  · try dsimp only at key
    rw [fq_en_ge (Nat.le_refl 256), fq_dn_s 255] at key
    exact ⟨_, key⟩
  · intro n y h
    exact br_t (by decide) H
  · intro n i y ⟨hi, h⟩ hw
    show wL_downward_6 post f0 f1 f2 a1 a2 a3 a4 (n + 1) (fq_en 256 y) (fq_dn (i + 1))
    rw [fq_dn_s]
    refine br_f (nI_pos (by omega)) (fq_after (by omega) w (fun y' hy' => br_t (by rw [fq_fs_u hy' h]) (fq_member (by omega) w (fun t => br_f (by decide) (nm_r (fq_m1 i) ?_)) (fun t => br_t rfl (nm_r (fq_m1 i) (hw y ⟨by omega, ?_⟩))))))
    · have hn := hw i ⟨by omega, by omega, by omega, fun _ => t, fun z z1 z2 => absurd z2 (by omega)⟩
      rw [fq_en_lt (by omega)] at hn
      exact hn
    · refine ⟨by have := h.1; omega, h.2.1, h.2.2.1, fun v v1 v2 => ?_⟩
      by_cases e : v = i
      · rw [e]
        exact t
      · exact h.2.2.2 v (by omega) v2
/-! ===== the law's turn ===== -/
theorem fq_pick {post : Int32 → Prop} {L n i : Nat} {xs : Nat → Int32} {u : St2} (hn0 : 0 < n) (hn : n < 2 ^ 31) (hL : L ≤ 260) (hi : i < 2 ^ 31) (H : ∀ j, j < n → post (nI j)) : wpL_pick post L xs u (nI i) (nI n) := by
  have key : ∀ v : Int32, post ((v &&& 2147483647) - (v &&& 2147483647) / nI n * nI n) := by
    intro v
    obtain ⟨j, hj, e⟩ := pk_andE v (m := 2147483647) 31 (by decide)
    rw [e, pk_rem hj hn0 hn]
    exact H _ (Nat.mod_lt _ hn0)
  unfold wpL_pick
  exact pk_le L i (fun z => ⟨nI_ne0 hn0 hn, key 0⟩) (fun z => ⟨vp_in_nI z (by omega), nm_e ⟨nI_ne0 hn0 hn, key _⟩⟩)
theorem fq_139 {post : Int32 → Prop} {L : Nat} {xs : Nat → Int32} {J : Int32 → Int32 → Int32 → Int32 → (Nat → Int32) → (Nat → Int32) → (Nat → Int32) → (Nat → Int32) → Prop} {x2 : Int32} {kc ks : Nat} (w : fq_wh S f0 f1 f2 a1 a2 a3 a4)
    (H : J (x2 + 3) f0 f1 f2 a1 a2 a3 a4) : wL_law_139 post L xs J x2 kc ks f0 f1 f2 a1 a2 a3 a4 := by
  unfold wL_law_139
  exact fq_upward w (br_f (by decide) (fq_downward w (br_f (by decide) (nm_e H))))
theorem fq_loop {xs : Nat → Int32} {L kc ks : Nat} (hL : L ≤ 260) (w : fq_wh S f0 f1 f2 a1 a2 a3 a4) : ∃ n, wL_law_10 (fun r => r = 1) L xs kc ks n 0 f0 f1 f2 a1 a2 a3 a4 := by
  refine lp8 (wL_law_10 (fun r => r = 1) L xs kc ks) (fun x2 f0 f1 f2 a1 a2 a3 a4 => ∃ i S, x2 = nI i ∧ i ≤ 300 ∧ fq_wh S f0 f1 f2 a1 a2 a3 a4) (fun x2 f0 f1 f2 a1 a2 a3 a4 => 300 - x2.toNatClampNeg) ?_ 0 f0 f1 f2 a1 a2 a3 a4 ⟨0, S, rfl, by omega, w⟩
  clear w
  intro n x2 f0 f1 f2 a1 a2 a3 a4 ⟨i, S, ei, hi, w⟩ hw
  subst ei
  refine pk_le L i (fun _ => rfl) (fun hiL => ?_)
  have K : ∀ S' f0' f1' f2' a1' a2' a3' a4', fq_wh S' f0' f1' f2' a1' a2' a3' a4' → wL_law_139 (fun r => r = 1) L xs (wL_law_10 (fun r => r = 1) L xs kc ks n) (nI i) kc ks f0' f1' f2' a1' a2' a3' a4' := by
    intro S' f0' f1' f2' a1' a2' a3' a4' w'
    refine fq_139 w' ?_
    rw [show nI i + 3 = nI (i + 3) from nI_add i 3]
    refine hw _ _ _ _ _ _ _ _ ⟨i + 3, S', rfl, by omega, w'⟩ ?_
    rw [nI_clamp (by omega), nI_clamp (by omega)]
    omega
  rw [nI_1 i, show nI i + 2 = nI (i + 2) from nI_add i 2]
  refine fq_pick (n := 16) (by decide) (by decide) hL (by omega) (fun op _ => fq_pick (n := 256) (by decide) (by decide) hL (by omega) (fun v hv => fq_pick (n := 32) (by decide) (by decide) hL (by omega) (fun d _ => ?_)))
  refine br_c (fun _ => br_c (fun _ => br_c (fun _ => ?_) (fun _ => br_c (fun _ => ?_) (fun _ => br_c (fun _ => ?_) (fun _ => ?_)))) (fun _ => ?_)) (fun _ => ?_)
  · exact fq_takeL w (fun _ S' f0' f1' f2' a1' a2' a3' a4' w' => K S' f0' f1' f2' a1' a2' a3' a4' w')
  · exact fq_takeG w (fun _ S' f0' f1' f2' a1' a2' a3' a4' w' => K S' f0' f1' f2' a1' a2' a3' a4' w')
  · exact fq_delB hv w (fun _ S' f0' f1' f2' a1' a2' a3' a4' w' => K S' f0' f1' f2' a1' a2' a3' a4' w')
  · exact fq_undone hv w (fun f0' f1' f2' a1' a2' a3' a4' w' => br_f (by decide) (K S f0' f1' f2' a1' a2' a3' a4' w'))
  · exact fq_delete hv w (fun _ f0' f1' f2' a1' a2' a3' a4' w' => K _ f0' f1' f2' a1' a2' a3' a4' w') (fun _ => K S _ _ _ _ _ _ _ w)
  · exact fq_insert hv w (fun _ f0' f1' f2' a1' a2' a3' a4' w' => K _ f0' f1' f2' a1' a2' a3' a4' w') (fun _ => K S _ _ _ _ _ _ _ w)
/-! ===== the constructor ===== -/
theorem fq_cl0 {m : Nat → Prop} {c : Nat} (e1 : a1 c = -1) (e2 : a2 c = -1) (hm : ∀ y, y < 16 → ¬ m y) : fq_cl m c a1 a2 (fun _ => 0) (fun _ => 0) := by
  refine ⟨16, 0, by rw [e1, fq_en_ge (Nat.le_refl 16)], by rw [e2, fq_dn_0], ⟨by omega, by omega, fun z => absurd z (by omega), fun z _ z2 => hm z z2⟩, ⟨by omega, fun z => absurd z (by omega), fun z _ z2 => hm z z2⟩, fun i hi => ⟨0, by decide, rfl, fun k hk => ?_⟩, 0, by decide, rfl, fun i hi => ?_⟩
  · rw [Nat.zero_testBit]
    exact ⟨fun z => absurd z (by decide), fun z => absurd z.1 (hm _ (by omega))⟩
  · rw [Nat.zero_testBit]
    exact ⟨fun z => absurd z (by decide), fun ⟨k, hk, z⟩ => absurd z.1 (hm _ (by omega))⟩
theorem fq_wh0 (h : ∀ j, j < 17 → a1 j = -1 ∧ a2 j = -1) : fq_wh (fun _ => false) (-1) (-1) 0 a1 a2 (fun _ => 0) (fun _ => 0) := by
  refine ⟨256, 0, (fq_en_ge (Nat.le_refl 256)).symm, fq_dn_0.symm, ?_, ⟨by omega, by omega, fun z => absurd z (by omega), fun z _ _ t => Bool.false_ne_true t⟩, ⟨by omega, fun z => absurd z (by omega), fun z _ _ t => Bool.false_ne_true t⟩, fun c hc => fq_cl0 (h c (by omega)).1 (h c (by omega)).2 (fun y _ t => Bool.false_ne_true t.1), fq_cl0 (h 16 (by omega)).1 (h 16 (by omega)).2 (fun y _ ⟨_, _, t⟩ => Bool.false_ne_true t.1)⟩
  rw [← fq_cnt_eq (S := fun _ => false) (a := 0) (b := 256) (by omega) (fun z _ _ t => Bool.false_ne_true t)]
  rfl
end
theorem fq_init {post : St1 → Prop} (H : ∀ a1 a2, (∀ j, j < 17 → a1 j = -1 ∧ a2 j = -1) → post (-1, -1, 0, a1, a2, fun _ => 0, fun _ => 0)) : wpX_init post 4 119 (0, 0, 0) := by
  unfold wpX_init
  try dsimp only
  refine ⟨by omega, by omega, by omega, by omega, by omega, by omega, by omega, by omega, ?_⟩
  refine pk_loop (σ := (Nat → Int32) × (Nat → Int32)) (fun n i s => wX_init_48 post 4 119 4 119 (-1) (-1) 0 n (nI i) s.1 s.2 (fun _ => 0) (fun _ => 0)) (fun i s => ∀ j, j < i → s.1 j = -1 ∧ s.2 j = -1) 17 0 (fun _ => 0, fun _ => 0) (by omega) (fun j hj => absurd hj (by omega)) ?_ ?_
  · intro n s h
    exact pk_lt 16 17 (fun _ => H _ _ h) (fun z => absurd z (by omega))
  · intro n i s hi h hw
    refine pk_lt 16 i (fun z => absurd z (by omega)) (fun _ => ⟨pk_in i 17 hi, ?_⟩)
    rw [nI_clamp (show i < 2 ^ 31 by omega)]
    refine nm_e ⟨pk_in i 17 hi, nm_e (nm_r (nI_1 i) (hw (upd s.1 i (-1), upd s.2 i (-1)) (fun j hj => ?_)))⟩
    by_cases e : j = i
    · subst e
      exact ⟨pk_us, pk_us⟩
    · exact ⟨(pk_un e).trans (h j (by omega)).1, (pk_un e).trans (h j (by omega)).2⟩
end
section
theorem i_vc (xs : Nat → Int32) (L : Nat) (hL : L ≤ 260) : wpL_law (fun r => r = 1) L xs := by
  refine ⟨4, 119, by omega, by omega, ?_⟩
  exact fq_init (fun a1 a2 h => fq_loop hL (fq_wh0 h))
end
