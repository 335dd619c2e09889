section
/-! counts: pure -/
/-- m more at c -/
def oc_ad (f : Nat → Nat) (c m : Nat) : Nat → Nat := fun j => if j = c then f j + m else f j
/-- how many of the first n facts are seen as each cell -/
def oc_ct (g : Nat → Nat) : Nat → Nat → Nat
  | 0 => fun _ => 0
  | n + 1 => oc_ad (oc_ct g n) (g n) 1
/-- counts f pushed along h, the first k cells -/
def oc_pu (h f : Nat → Nat) : Nat → Nat → Nat
  | 0 => fun _ => 0
  | k + 1 => oc_ad (oc_pu h f k) (h k) (f k)
/-- how many of the first m cells are full -/
def oc_nz (f : Nat → Nat) : Nat → Nat
  | 0 => 0
  | m + 1 => oc_nz f m + if f m = 0 then 0 else 1
def oc_sm (f : Nat → Nat) : Nat → Nat
  | 0 => 0
  | m + 1 => oc_sm f m + f m
theorem oc_ad_s {f : Nat → Nat} {c m : Nat} : oc_ad f c m c = f c + m := if_pos rfl
theorem oc_ad_n {f : Nat → Nat} {c m j : Nat} (h : j ≠ c) : oc_ad f c m j = f j := if_neg h
theorem oc_ad_0 (f : Nat → Nat) (c : Nat) : oc_ad f c 0 = f := by
  funext j
  unfold oc_ad
  split <;> rfl
theorem oc_ad_comm (f : Nat → Nat) (a b m k : Nat) : oc_ad (oc_ad f a m) b k = oc_ad (oc_ad f b k) a m := by
  funext j
  unfold oc_ad
  (repeat' split) <;> omega
theorem oc_ad_ad (f : Nat → Nat) (a m k : Nat) : oc_ad (oc_ad f a m) a k = oc_ad f a (m + k) := by
  funext j
  unfold oc_ad
  (repeat' split) <;> omega
theorem oc_ct_s (g : Nat → Nat) (n : Nat) : oc_ct g (n + 1) = oc_ad (oc_ct g n) (g n) 1 := rfl
theorem oc_pu_s (h f : Nat → Nat) (k : Nat) : oc_pu h f (k + 1) = oc_ad (oc_pu h f k) (h k) (f k) := rfl
theorem oc_nz_s (f : Nat → Nat) (m : Nat) : oc_nz f (m + 1) = oc_nz f m + if f m = 0 then 0 else 1 := rfl
theorem oc_sm_s (f : Nat → Nat) (m : Nat) : oc_sm f (m + 1) = oc_sm f m + f m := rfl
theorem oc_ct_congr {g g' : Nat → Nat} (n : Nat) (h : ∀ i, i < n → g i = g' i) : oc_ct g n = oc_ct g' n := by
  induction n with
  | zero => rfl
  | succ n ih => rw [oc_ct_s, oc_ct_s, ih (fun i hi => h i (by omega)), h n (by omega)]
theorem oc_ct_le (g : Nat → Nat) (c n : Nat) : oc_ct g n c ≤ n := by
  induction n with
  | zero => exact Nat.le_refl 0
  | succ n ih =>
    rw [oc_ct_s]
    unfold oc_ad
    split <;> omega
theorem oc_ct_pos {g : Nat → Nat} {c : Nat} (n : Nat) (h : 0 < oc_ct g n c) : ∃ i, i < n ∧ g i = c := by
  induction n with
  | zero => exact absurd h (Nat.lt_irrefl 0)
  | succ n ih =>
    by_cases e : c = g n
    · exact ⟨n, by omega, e.symm⟩
    · rw [oc_ct_s, oc_ad_n e] at h
      obtain ⟨i, hi, hg⟩ := ih h
      exact ⟨i, by omega, hg⟩
theorem oc_nz_0 (M : Nat) : oc_nz (fun _ => 0) M = 0 := by
  induction M with
  | zero => rfl
  | succ M ih => rw [oc_nz_s, ih, if_pos rfl]
theorem oc_sm_0 (M : Nat) : oc_sm (fun _ => 0) M = 0 := by
  induction M with
  | zero => rfl
  | succ M ih => rw [oc_sm_s, ih]
theorem oc_nz_out {f : Nat → Nat} {c m : Nat} (M : Nat) (h : M ≤ c) : oc_nz (oc_ad f c m) M = oc_nz f M := by
  induction M with
  | zero => rfl
  | succ M ih => rw [oc_nz_s, oc_nz_s, ih (by omega), oc_ad_n (show M ≠ c by omega)]
theorem oc_nz_ad {f : Nat → Nat} {c m : Nat} (hm : 0 < m) (M : Nat) (h : c < M) : oc_nz (oc_ad f c m) M = oc_nz f M + (if f c = 0 then 1 else 0) := by
  induction M with
  | zero => exact absurd h (by omega)
  | succ M ih =>
    rw [oc_nz_s, oc_nz_s]
    by_cases e : M = c
    · rw [e, oc_nz_out c (Nat.le_refl c), oc_ad_s, if_neg (show ¬ f c + m = 0 by omega)]
      by_cases z : f c = 0
      · rw [if_pos z, if_pos z]
      · rw [if_neg z, if_neg z]
    · rw [ih (by omega), oc_ad_n e]
      exact Nat.add_right_comm _ _ _
theorem oc_sm_out {f : Nat → Nat} {c m : Nat} (M : Nat) (h : M ≤ c) : oc_sm (oc_ad f c m) M = oc_sm f M := by
  induction M with
  | zero => rfl
  | succ M ih => rw [oc_sm_s, oc_sm_s, ih (by omega), oc_ad_n (show M ≠ c by omega)]
theorem oc_sm_ad {f : Nat → Nat} {c m : Nat} (M : Nat) (h : c < M) : oc_sm (oc_ad f c m) M = oc_sm f M + m := by
  induction M with
  | zero => exact absurd h (by omega)
  | succ M ih =>
    rw [oc_sm_s, oc_sm_s]
    by_cases e : M = c
    · rw [e, oc_sm_out c (Nat.le_refl c), oc_ad_s]
      omega
    · rw [ih (by omega), oc_ad_n e]
      omega
theorem oc_sm_ct {g : Nat → Nat} {M : Nat} (n : Nat) (h : ∀ i, i < n → g i < M) : oc_sm (oc_ct g n) M = n := by
  induction n with
  | zero => exact oc_sm_0 M
  | succ n ih => rw [oc_ct_s, oc_sm_ad M (h n (by omega)), ih (fun i hi => h i (by omega))]
theorem oc_nz_sm (f : Nat → Nat) (M : Nat) : oc_nz f M ≤ oc_sm f M := by
  induction M with
  | zero => exact Nat.le_refl 0
  | succ M ih =>
    rw [oc_nz_s, oc_sm_s]
    split <;> omega
theorem oc_nz_le {f : Nat → Nat} {a : Nat} (b : Nat) (h : a ≤ b) : oc_nz f a ≤ oc_nz f b := by
  induction b with
  | zero => rw [Nat.le_zero.mp h]; exact Nat.le_refl _
  | succ b ih =>
    by_cases e : a = b + 1
    · rw [e]; exact Nat.le_refl _
    · rw [oc_nz_s]
      exact Nat.le_trans (ih (by omega)) (Nat.le_add_right _ _)
/-- nothing stands between a and b -/
theorem oc_gap {f : Nat → Nat} {a : Nat} (b : Nat) (h : a ≤ b) (hz : ∀ j, a ≤ j → j < b → f j = 0) : oc_nz f b = oc_nz f a ∧ oc_sm f b = oc_sm f a := by
  induction b with
  | zero => rw [Nat.le_zero.mp h]; exact ⟨rfl, rfl⟩
  | succ b ih =>
    by_cases e : a = b + 1
    · rw [e]; exact ⟨rfl, rfl⟩
    · have i := ih (by omega) (fun j h1 h2 => hz j h1 (by omega))
      have z := hz b (by omega) (by omega)
      rw [oc_nz_s, oc_sm_s, i.1, i.2, z, if_pos rfl]
      exact ⟨rfl, rfl⟩
/-! a view worked out of another -/
theorem oc_pu_out {h f : Nat → Nat} {c m : Nat} (K : Nat) (hk : K ≤ c) : oc_pu h (oc_ad f c m) K = oc_pu h f K := by
  induction K with
  | zero => rfl
  | succ K ih => rw [oc_pu_s, oc_pu_s, ih (by omega), oc_ad_n (show K ≠ c by omega)]
theorem oc_pu_ad {h f : Nat → Nat} {c m : Nat} (K : Nat) (hk : c < K) : oc_pu h (oc_ad f c m) K = oc_ad (oc_pu h f K) (h c) m := by
  induction K with
  | zero => exact absurd hk (by omega)
  | succ K ih =>
    rw [oc_pu_s, oc_pu_s]
    by_cases e : K = c
    · rw [e, oc_pu_out c (Nat.le_refl c), oc_ad_s, oc_ad_ad]
    · rw [ih (by omega), oc_ad_n e, oc_ad_comm]
theorem oc_pu_0 (h : Nat → Nat) (K : Nat) : oc_pu h (fun _ => 0) K = fun _ => 0 := by
  induction K with
  | zero => rfl
  | succ K ih => rw [oc_pu_s, ih, oc_ad_0]
theorem oc_pu_ct {h g : Nat → Nat} {K : Nat} (n : Nat) (hg : ∀ i, i < n → g i < K) : oc_pu h (oc_ct g n) K = oc_ct (fun i => h (g i)) n := by
  induction n with
  | zero => exact oc_pu_0 h K
  | succ n ih => rw [oc_ct_s, oc_pu_ad K (hg n (by omega)), ih (fun i hi => hg i (by omega)), oc_ct_s]
theorem oc_pu_le {h f : Nat → Nat} {c k : Nat} (K : Nat) (hk : k ≤ K) : oc_pu h f k c ≤ oc_pu h f K c := by
  induction K with
  | zero => rw [Nat.le_zero.mp hk]; exact Nat.le_refl _
  | succ K ih =>
    by_cases e : k = K + 1
    · rw [e]; exact Nat.le_refl _
    · have i := ih (by omega)
      rw [oc_pu_s]
      unfold oc_ad
      split <;> omega
theorem oc_nz_pu {h f : Nat → Nat} {M : Nat} (k : Nat) (hh : ∀ j, j < k → 0 < f j → h j < M) : oc_nz (oc_pu h f k) M ≤ oc_nz f k := by
  induction k with
  | zero => exact Nat.le_of_eq (oc_nz_0 M)
  | succ k ih =>
    have i := ih (fun j hj => hh j (by omega))
    rw [oc_pu_s, oc_nz_s]
    by_cases z : f k = 0
    · rw [z, oc_ad_0, if_pos rfl]
      exact i
    · rw [oc_nz_ad (by omega) M (hh k (by omega) (by omega)), if_neg z]
      split <;> omega
/-! what a place is seen as -/
def oc_wA (l : Nat) : Nat := if l = 2 then 0 else l + 1
def oc_wB (l : Nat) : Nat := if l = 3 then 0 else l + 1
def oc_wC (l : Nat) : Nat := if l = 3 then 0 else 2 ^ l
def oc_dA (v : Nat) : Nat := oc_wA (v / 16)
def oc_dB (v : Nat) : Nat := oc_wB (v / 4 % 4)
def oc_dC (v : Nat) : Nat := oc_wC (v % 4)
def oc_sa (v p : Nat) : Nat := 48 * (p / 48 / oc_dA v) + 8 * (p / 8 % 6 / oc_dB v) + p % 8 / oc_dC v
def oc_cq (f c : Nat) : Nat := 48 * (oc_dA f * (c / 48)) + 8 * (oc_dB f * (c / 8 % 6)) + oc_dC f * (c % 8)
def oc_fi (f v : Nat) : Prop := (f / 4 % 4 ≤ v / 4 % 4 ∧ ¬ (f / 4 % 4 = 1 ∧ v / 4 % 4 = 2)) ∧ f / 16 ≤ v / 16 ∧ f % 4 ≤ v % 4
theorem oc_dec {a b c : Nat} (hb : b < 6) (hc : c < 8) : (48 * a + 8 * b + c) / 48 = a ∧ (48 * a + 8 * b + c) / 8 % 6 = b ∧ (48 * a + 8 * b + c) % 8 = c := by
  refine ⟨?_, ?_, ?_⟩ <;> omega
theorem oc_mixlt {a b c p : Nat} (hp : p < 192) (ha : a ≤ p / 48) (hb : b ≤ p / 8 % 6) (hc : c ≤ p % 8) : 48 * a + 8 * b + c < 192 := by omega
theorem oc_sa_lt {v p : Nat} (hp : p < 192) : oc_sa v p < 192 :=
  oc_mixlt hp (Nat.div_le_self _ _) (Nat.div_le_self _ _) (Nat.div_le_self _ _)
theorem oc_sa_0 {p : Nat} (hp : p < 192) : oc_sa 0 p = p := by
  have hA : oc_dA 0 = 1 := by decide
  have hB : oc_dB 0 = 1 := by decide
  have hC : oc_dC 0 = 1 := by decide
  unfold oc_sa
  rw [hA, hB, hC, Nat.div_one, Nat.div_one, Nat.div_one]
  omega
theorem oc_tA : ∀ k, k < 3 → ∀ l, l < 3 → k ≤ l → ∀ a, a < 4 → oc_wA k * (a / oc_wA k) / oc_wA l = a / oc_wA l := by decide +kernel
theorem oc_tB : ∀ k, k < 4 → ∀ l, l < 4 → (k ≤ l ∧ ¬ (k = 1 ∧ l = 2)) → ∀ a, a < 6 → oc_wB k * (a / oc_wB k) / oc_wB l = a / oc_wB l := by decide +kernel
theorem oc_tC : ∀ k, k < 4 → ∀ l, l < 4 → k ≤ l → ∀ a, a < 8 → oc_wC k * (a / oc_wC k) / oc_wC l = a / oc_wC l := by decide +kernel
/-- the place that cellFrom takes for the cell of p -/
theorem oc_cq_sa (f p : Nat) : oc_cq f (oc_sa f p) = 48 * (oc_dA f * (p / 48 / oc_dA f)) + 8 * (oc_dB f * (p / 8 % 6 / oc_dB f)) + oc_dC f * (p % 8 / oc_dC f) := by
  have hb : p / 8 % 6 / oc_dB f < 6 := Nat.lt_of_le_of_lt (Nat.div_le_self _ _) (Nat.mod_lt _ (by decide))
  have hc : p % 8 / oc_dC f < 8 := Nat.lt_of_le_of_lt (Nat.div_le_self _ _) (Nat.mod_lt _ (by decide))
  have d := oc_dec (a := p / 48 / oc_dA f) hb hc
  unfold oc_cq oc_sa
  rw [d.1, d.2.1, d.2.2]
theorem oc_cq_lt {f p : Nat} (hp : p < 192) : oc_cq f (oc_sa f p) < 192 := by
  rw [oc_cq_sa]
  exact oc_mixlt hp (Nat.mul_div_le _ _) (Nat.mul_div_le _ _) (Nat.mul_div_le _ _)
theorem oc_key {f v p : Nat} (hf : f < 48) (hv : v < 48) (h : oc_fi f v) (hp : p < 192) : oc_sa v (oc_cq f (oc_sa f p)) = oc_sa v p := by
  rw [oc_cq_sa]
  have hb : oc_dB f * (p / 8 % 6 / oc_dB f) < 6 := Nat.lt_of_le_of_lt (Nat.mul_div_le _ _) (Nat.mod_lt _ (by decide))
  have hc : oc_dC f * (p % 8 / oc_dC f) < 8 := Nat.lt_of_le_of_lt (Nat.mul_div_le _ _) (Nat.mod_lt _ (by decide))
  have d := oc_dec (a := oc_dA f * (p / 48 / oc_dA f)) hb hc
  have eA : oc_dA f * (p / 48 / oc_dA f) / oc_dA v = p / 48 / oc_dA v := oc_tA (f / 16) (by omega) (v / 16) (by omega) h.2.1 (p / 48) (by omega)
  have eB : oc_dB f * (p / 8 % 6 / oc_dB f) / oc_dB v = p / 8 % 6 / oc_dB v := oc_tB (f / 4 % 4) (Nat.mod_lt _ (by decide)) (v / 4 % 4) (Nat.mod_lt _ (by decide)) h.1 (p / 8 % 6) (Nat.mod_lt _ (by decide))
  have eC : oc_dC f * (p % 8 / oc_dC f) / oc_dC v = p % 8 / oc_dC v := oc_tC (f % 4) (Nat.mod_lt _ (by decide)) (v % 4) (Nat.mod_lt _ (by decide)) h.2.2 (p % 8) (Nat.mod_lt _ (by decide))
  unfold oc_sa
  rw [d.1, d.2.1, d.2.2, eA, eB, eC]
theorem oc_fi_0 (v : Nat) : oc_fi 0 v := by
  unfold oc_fi
  refine ⟨⟨?_, ?_⟩, ?_, ?_⟩ <;> omega
theorem oc_fi_v (v : Nat) : oc_fi v v := by
  unfold oc_fi
  refine ⟨⟨?_, ?_⟩, ?_, ?_⟩ <;> omega
/-! the facts as a view sees them -/
def oc_g (v : Nat) (pl : Nat → Nat) : Nat → Nat := fun i => oc_sa v (pl i)
/-- view v worked out of view f -/
theorem oc_out {f v n : Nat} {pl : Nat → Nat} (hf : f < 48) (hv : v < 48) (h : oc_fi f v) (hp : ∀ i, i < n → pl i < 192) :
    oc_pu (fun c => oc_sa v (oc_cq f c)) (oc_ct (oc_g f pl) n) 192 = oc_ct (oc_g v pl) n := by
  rw [oc_pu_ct (g := oc_g f pl) n (fun i hi => oc_sa_lt (hp i hi))]
  exact oc_ct_congr n (fun i hi => oc_key hf hv h (hp i hi))
theorem oc_mono {f v n : Nat} {pl : Nat → Nat} (hf : f < 48) (hv : v < 48) (h : oc_fi f v) (hp : ∀ i, i < n → pl i < 192) :
    oc_nz (oc_ct (oc_g v pl) n) 192 ≤ oc_nz (oc_ct (oc_g f pl) n) 192 := by
  rw [← oc_out hf hv h hp]
  refine oc_nz_pu 192 (fun j hj hz => ?_)
  obtain ⟨i, hi, e⟩ := oc_ct_pos n hz
  rw [← e]
  exact oc_sa_lt (oc_cq_lt (hp i hi))
theorem oc_full_le {v n : Nat} {pl : Nat → Nat} (hp : ∀ i, i < n → pl i < 192) : oc_nz (oc_ct (oc_g v pl) n) 192 ≤ n := by
  have h := oc_nz_sm (oc_ct (oc_g v pl) n) 192
  rw [oc_sm_ct (g := oc_g v pl) n (fun i hi => oc_sa_lt (hp i hi))] at h
  exact h
end
section
/-! the methods without a state -/
theorem oc_192 (s c : Nat) : 192 * nI s + nI c = nI (192 * s + c) := by
  rw [show (192 : Int32) = nI 192 from rfl, pk_mul, nI_add]
theorem oc_mix (a b c : Nat) : (48 * nI a + 8 * nI b) + nI c = nI (48 * a + 8 * b + c) := by
  rw [show (48 : Int32) = nI 48 from rfl, show (8 : Int32) = nI 8 from rfl, pk_mul, pk_mul, nI_add, nI_add]
theorem oc_s4 {v : Nat} (h : v < 2 ^ 31) : nI v >>> ((4 : Int32) &&& 31) = nI (v / 16) := pk_shrN h ((4 : Int32) &&& 31) 4 (by decide)
theorem oc_s2 {v : Nat} (h : v < 2 ^ 31) : nI v >>> ((2 : Int32) &&& 31) = nI (v / 4) := pk_shrN h ((2 : Int32) &&& 31) 2 (by decide)
theorem oc_a3 {v : Nat} (h : v < 2 ^ 31) : nI v &&& 3 = nI (v % 4) := pk_andN (m := 3) (by omega) 2 (by decide)
theorem oc_b3 {v : Nat} (h : v < 2 ^ 31) : (nI v >>> ((2 : Int32) &&& 31)) &&& 3 = nI (v / 4 % 4) := by
  rw [oc_s2 h]
  exact oc_a3 (by omega)
theorem oc_one : ∀ l, l < 4 → (1 : Int32) <<< (nI l &&& 31) = nI (2 ^ l) := by decide +kernel
theorem oc_dA_lt {v : Nat} (hv : v < 48) : oc_dA v < 2 ^ 31 := by
  unfold oc_dA oc_wA
  split <;> omega
theorem oc_dB_lt (v : Nat) : oc_dB v < 2 ^ 31 := by
  unfold oc_dB oc_wB
  split <;> omega
theorem oc_tCl : ∀ l, l < 4 → oc_wC l < 2 ^ 31 := by decide
theorem oc_dC_lt (v : Nat) : oc_dC v < 2 ^ 31 := oc_tCl (v % 4) (Nat.mod_lt _ (by decide))
theorem oc_byA {post : Int32 → Prop} {v : Nat} (hv : v < 48) (H : post (nI (oc_dA v))) : wpX_byA post () (nI v) := by
  unfold wpX_byA
  refine nm_r (oc_s4 (by omega)) ?_
  refine pk_eq (v / 16) 2 (fun z => ?_) (fun z => ?_)
  · have e : oc_dA v = 0 := if_pos z
    rw [e] at H
    exact H
  · have e : oc_dA v = v / 16 + 1 := if_neg z
    rw [e] at H
    rw [nI_1]
    exact H
theorem oc_byB {post : Int32 → Prop} {v : Nat} (hv : v < 48) (H : post (nI (oc_dB v))) : wpX_byB post () (nI v) := by
  unfold wpX_byB
  refine nm_r (oc_b3 (by omega)) ?_
  refine pk_eq (v / 4 % 4) 3 (fun z => ?_) (fun z => ?_)
  · have e : oc_dB v = 0 := if_pos z
    rw [e] at H
    exact H
  · have e : oc_dB v = v / 4 % 4 + 1 := if_neg z
    rw [e] at H
    rw [nI_1]
    exact H
theorem oc_byC {post : Int32 → Prop} {v : Nat} (hv : v < 48) (H : post (nI (oc_dC v))) : wpX_byC post () (nI v) := by
  unfold wpX_byC
  refine nm_r (oc_a3 (by omega)) ?_
  refine pk_eq (v % 4) 3 (fun z => ?_) (fun z => ?_)
  · have e : oc_dC v = 0 := if_pos z
    rw [e] at H
    exact H
  · have e : oc_dC v = 2 ^ (v % 4) := if_neg z
    rw [e] at H
    rw [oc_one (v % 4) (by omega)]
    exact H
theorem oc_co {post : Int32 → Prop} {X D : Int32} (x d : Nat) (hx : x < 2 ^ 31) (hd : d < 2 ^ 31) (hX : X = nI x) (hD : D = nI d) (H : post (nI (x / d))) : wpX_coarser post () X D := by
  subst hX hD
  unfold wpX_coarser
  refine pk_le d 0 (fun z => ?_) (fun z => ⟨nI_ne0 z hd, ?_⟩)
  · rw [Nat.le_zero.mp z, Nat.div_zero] at H
    exact H
  · rw [pk_div hx z hd]
    exact H
theorem oc_p48 {p : Nat} (hp : p < 192) : nI p / 48 = nI (p / 48) := pk_div (d := 48) (by omega) (by decide) (by decide)
theorem oc_p8 {p : Nat} (hp : p < 192) : nI p / 8 = nI (p / 8) := pk_div (d := 8) (by omega) (by decide) (by decide)
theorem oc_p86 {p : Nat} (hp : p < 192) : nI p / 8 - nI p / 8 / 6 * 6 = nI (p / 8 % 6) := by
  rw [oc_p8 hp]
  exact pk_rem (d := 6) (by omega) (by decide) (by decide)
theorem oc_pm8 {p : Nat} (hp : p < 192) : nI p - nI p / 8 * 8 = nI (p % 8) := pk_rem (d := 8) (by omega) (by decide) (by decide)
theorem oc_seenAs {post : Int32 → Prop} {v p : Nat} (hv : v < 48) (hp : p < 192) (H : post (nI (oc_sa v p))) : wpX_seenAs post () (nI v) (nI p) := by
  unfold wpX_seenAs
  refine ⟨by decide, oc_byA hv (oc_co (p / 48) (oc_dA v) (by omega) (oc_dA_lt hv) (oc_p48 hp) rfl ?_)⟩
  refine ⟨by decide, by decide, oc_byB hv (oc_co (p / 8 % 6) (oc_dB v) (by omega) (oc_dB_lt v) (oc_p86 hp) rfl ?_)⟩
  refine ⟨by decide, oc_byC hv (oc_co (p % 8) (oc_dC v) (by omega) (oc_dC_lt v) (oc_pm8 hp) rfl ?_)⟩
  rw [oc_mix]
  exact H
theorem oc_cellFrom {post : Int32 → Prop} {f c v : Nat} (hf : f < 48) (hc : c < 192) (hv : v < 48) (hq : oc_cq f c < 192) (H : post (nI (oc_sa v (oc_cq f c)))) : wpX_cellFrom post () (nI f) (nI c) (nI v) := by
  unfold wpX_cellFrom
  refine oc_byA hf ⟨by decide, nm_r (e' := nI (oc_dA f * (c / 48))) (by rw [oc_p48 hc, pk_mul]) ?_⟩
  refine oc_byB hf ⟨by decide, by decide, nm_r (e' := nI (oc_dB f * (c / 8 % 6))) (by rw [oc_p86 hc, pk_mul]) ?_⟩
  refine oc_byC hf ⟨by decide, nm_r (e' := nI (oc_dC f * (c % 8))) (by rw [oc_pm8 hc, pk_mul]) ?_⟩
  rw [oc_mix]
  exact oc_seenAs hv hq H
theorem oc_f31 {post : Int32 → Prop} {x y : Int32} (H : post 0) : wX_isFiner_31 post x y := by
  unfold wX_isFiner_31 wX_isFiner_32
  exact br_c (fun _ => H) (fun _ => br_c (fun _ => H) (fun _ => br_t rfl H))
theorem oc_isFiner {post : Int32 → Prop} {f v : Nat} (hf : f < 48) (hv : v < 48) (H1 : oc_fi f v → post 1) (H0 : ¬ oc_fi f v → post 0) : wpX_isFiner post () (nI f) (nI v) := by
  have B : (f / 4 % 4 ≤ v / 4 % 4 ∧ ¬ (f / 4 % 4 = 1 ∧ v / 4 % 4 = 2)) → wX_isFiner_27 post (nI f) (nI v) := by
    intro hb
    unfold wX_isFiner_27 wX_isFiner_32
    rw [oc_s4 (show v < 2 ^ 31 by omega), oc_s4 (show f < 2 ^ 31 by omega), oc_a3 (show v < 2 ^ 31 by omega), oc_a3 (show f < 2 ^ 31 by omega)]
    exact pk_lt (v / 16) (f / 16) (fun z => H0 (fun t => absurd t.2.1 (by omega))) (fun z => pk_lt (v % 4) (f % 4) (fun y => H0 (fun t => absurd t.2.2 (by omega))) (fun y => br_f (by decide) (H1 ⟨hb, z, y⟩)))
  unfold wpX_isFiner
  refine nm_r (oc_b3 (by omega)) (nm_r (oc_b3 (by omega)) ?_)
  exact pk_lt (v / 4 % 4) (f / 4 % 4) (fun z => oc_f31 (H0 (fun t => absurd t.1.1 (by omega))))
    (fun z => pk_eq (f / 4 % 4) 1 (fun z1 => pk_eq (v / 4 % 4) 2 (fun z2 => oc_f31 (H0 (fun t => t.1.2 ⟨z1, z2⟩))) (fun z2 => B ⟨z, fun t => z2 t.2⟩)) (fun z1 => B ⟨z, fun t => z1 t.1⟩))
theorem oc_isView {post : Int32 → Prop} {v : Nat} (hv : v < 2 ^ 31) (H1 : v < 48 → post 1) (H0 : 48 ≤ v → post 0) : wpX_isView post () (nI v) := by
  unfold wpX_isView
  exact br_f (nI_pos hv) (pk_le 48 v H0 H1)
theorem oc_isCell {post : Int32 → Prop} {v : Nat} (hv : v < 2 ^ 31) (H1 : v < 192 → post 1) (H0 : 192 ≤ v → post 0) : wpX_isCell post () (nI v) := by
  unfold wpX_isCell
  exact br_f (nI_pos hv) (pk_le 192 v H0 H1)
theorem oc_isMeasure {post : Int32 → Prop} {x : Int32} (H1 : post 1) (H0 : post 0) : wpX_isMeasure post () x := by
  unfold wpX_isMeasure
  exact br_c (fun _ => H0) (fun _ => br_c (fun _ => H0) (fun _ => H1))
/-- a cell of a script, masked and brought below d -/
theorem oc_m255 (x : Int32) {D : Int32} (d : Nat) (h0 : 0 < d) (hd : d < 2 ^ 31) (hD : D = nI d) : ∃ j, j < d ∧ (x &&& 255) - (x &&& 255) / D * D = nI j := by
  obtain ⟨j, hj, e⟩ := pk_andE x (m := 255) 8 (by decide)
  subst hD
  rw [e]
  exact ⟨j % d, Nat.mod_lt _ h0, pk_rem (by omega) h0 hd⟩
theorem oc_m1 {v : Nat} (hv : v < 48) : ¬ nI v = -1 := by
  intro h
  have h' := congrArg Int32.toInt h
  rw [nI_toInt (by omega), show (-1 : Int32).toInt = -1 from by decide] at h'
  omega
end
section
/-! slots: what one holds, and that only one is touched -/
def oc_S (a4 a6 a8 a9 : Nat → Int32) (s : Nat) (f : Nat → Nat) : Prop :=
  a4 s = nI (oc_nz f 192) ∧ (∀ c, c < 192 → a6 (192 * s + c) = nI (f c)) ∧ ∀ c, c < 192 → 0 < f c → a8 (192 * s + c) ≤ a9 (192 * s + c)
def oc_F (s : Nat) (a4 a6 a8 a9 b4 b6 b8 b9 : Nat → Int32) : Prop :=
  ∀ t, t ≠ s → b4 t = a4 t ∧ ∀ c, c < 192 → b6 (192 * t + c) = a6 (192 * t + c) ∧ b8 (192 * t + c) = a8 (192 * t + c) ∧ b9 (192 * t + c) = a9 (192 * t + c)
theorem oc_F_S {a4 a6 a8 a9 b4 b6 b8 b9 : Nat → Int32} {s t : Nat} {f : Nat → Nat} (h : oc_F s a4 a6 a8 a9 b4 b6 b8 b9) (ht : t ≠ s) (hS : oc_S a4 a6 a8 a9 t f) : oc_S b4 b6 b8 b9 t f := by
  obtain ⟨e4, e⟩ := h t ht
  refine ⟨by rw [e4]; exact hS.1, fun c hc => ?_, fun c hc hz => ?_⟩
  · rw [(e c hc).1]
    exact hS.2.1 c hc
  · rw [(e c hc).2.1, (e c hc).2.2]
    exact hS.2.2 c hc hz
theorem oc_F_tr {a4 a6 a8 a9 b4 b6 b8 b9 c4 c6 c8 c9 : Nat → Int32} {s : Nat} (h : oc_F s a4 a6 a8 a9 b4 b6 b8 b9) (k : oc_F s b4 b6 b8 b9 c4 c6 c8 c9) : oc_F s a4 a6 a8 a9 c4 c6 c8 c9 := by
  intro t ht
  obtain ⟨e4, e⟩ := h t ht
  obtain ⟨d4, d⟩ := k t ht
  refine ⟨by rw [d4, e4], fun c hc => ⟨?_, ?_, ?_⟩⟩
  · rw [(d c hc).1, (e c hc).1]
  · rw [(d c hc).2.1, (e c hc).2.1]
  · rw [(d c hc).2.2, (e c hc).2.2]
theorem oc_wipe {post : St1 → Prop} {sz ck : Int32} {a1 a2 a3 a4 a5 a6 a7 a8 a9 : Nat → Int32} {s : Nat} (hs : s < 5)
    (H : ∀ b4 b6 b7 b8 b9 : Nat → Int32, oc_F s a4 a6 a8 a9 b4 b6 b8 b9 → oc_S b4 b6 b8 b9 s (fun _ => 0) → post (sz, ck, a1, a2, a3, b4, a5, b6, b7, b8, b9)) :
    wpX_wipe post (sz, ck, a1, a2, a3, a4, a5, a6, a7, a8, a9) (nI s) := by
  have e0 : (192 : Int32) * nI s = nI (192 * s) := by rw [show (192 : Int32) = nI 192 from rfl, pk_mul]
  have ec : (nI s).toNatClampNeg = s := nI_clamp (by omega)
  refine ⟨pk_in s 5 hs, nm_r (e' := upd a4 s 0) (by rw [ec]) (nm_r e0 ?_)⟩
  refine pk_loop (σ := (Nat → Int32) × (Nat → Int32) × (Nat → Int32) × (Nat → Int32)) (fun k i st => wX_wipe_13 post (nI s) sz ck k (nI i) a1 a2 a3 (upd a4 s 0) a5 st.1 st.2.1 st.2.2.1 st.2.2.2)
    (fun i st => 192 * s ≤ i ∧ (∀ j, ¬ (192 * s ≤ j ∧ j < 192 * s + 192) → st.1 j = a6 j ∧ st.2.2.1 j = a8 j ∧ st.2.2.2 j = a9 j) ∧ ∀ j, 192 * s ≤ j → j < i → st.1 j = nI 0)
    (192 * s + 192) (192 * s) (a6, a7, a8, a9) (by omega) ⟨Nat.le_refl _, fun j _ => ⟨rfl, rfl, rfl⟩, fun j h1 h2 => absurd h2 (by omega)⟩ ?_ ?_
  · rintro k ⟨b6, b7, b8, b9⟩ ⟨_, h1, h2⟩
    dsimp only at h1 h2
    refine pk_le (192 * s + 192) (192 * s + 192) (fun _ => H _ _ _ _ _ (fun t ht => ⟨pk_un ht, fun c hc => h1 _ (by omega)⟩) ⟨?_, fun c hc => h2 _ (by omega) (by omega), fun c hc z => absurd z (Nat.lt_irrefl 0)⟩) (fun z => absurd z (by omega)) (hx := oc_192 s 192)
    rw [oc_nz_0, pk_us]
    rfl
  · rintro k i ⟨b6, b7, b8, b9⟩ hi ⟨h0, h1, h2⟩ hw
    dsimp only at h0 h1 h2
    have ei : (nI i).toNatClampNeg = i := nI_clamp (by omega)
    have hin : vp_in (nI i) 960 := vp_in_nI (by omega) (by decide)
    show wX_wipe_13 post (nI s) sz ck (k + 1) (nI i) a1 a2 a3 (upd a4 s 0) a5 b6 b7 b8 b9
    refine pk_le (192 * s + 192) i (fun z => absurd z (by omega)) (fun _ => ⟨hin, nm_e ⟨hin, nm_e ⟨hin, nm_e ⟨hin, nm_e (nm_r (nI_1 i) (hw (upd b6 (nI i).toNatClampNeg 0, upd b7 (nI i).toNatClampNeg 0, upd b8 (nI i).toNatClampNeg 10000, upd b9 (nI i).toNatClampNeg (-10000)) ?_))⟩⟩⟩⟩) (hx := oc_192 s 192)
    dsimp only
    rw [ei]
    refine ⟨by omega, fun j hj => ?_, fun j j1 j2 => ?_⟩
    · have ne : j ≠ i := by omega
      rw [pk_un ne, pk_un ne, pk_un ne]
      exact h1 j hj
    · by_cases e : j = i
      · rw [e, pk_us]
        rfl
      · rw [pk_un e]
        exact h2 j j1 (by omega)
/-- the five stores of enter -/
theorem oc_five {a4 a6 a8 a9 : Nat → Int32} {s c m : Nat} {f : Nat → Nat} {z lo hi : Int32} (hc : c < 192) (hm : 0 < m) (h : oc_S a4 a6 a8 a9 s f)
    (hz : z = nI (if f c = 0 then 1 else 0)) (hl : lo ≤ hi) :
    oc_F s a4 a6 a8 a9 (upd a4 s (a4 s + z)) (upd a6 (192 * s + c) (a6 (192 * s + c) + nI m)) (upd a8 (192 * s + c) lo) (upd a9 (192 * s + c) hi) ∧
    oc_S (upd a4 s (a4 s + z)) (upd a6 (192 * s + c) (a6 (192 * s + c) + nI m)) (upd a8 (192 * s + c) lo) (upd a9 (192 * s + c) hi) s (oc_ad f c m) := by
  constructor
  · intro t ht
    refine ⟨pk_un ht, fun d hd => ?_⟩
    have ne : 192 * t + d ≠ 192 * s + c := by omega
    exact ⟨pk_un ne, pk_un ne, pk_un ne⟩
  · refine ⟨?_, fun d hd => ?_, fun d hd hp => ?_⟩
    · rw [pk_us, h.1, hz, nI_add, oc_nz_ad hm 192 hc]
    · by_cases e : d = c
      · rw [e, pk_us, h.2.1 c hc, nI_add, oc_ad_s]
      · rw [pk_un (show 192 * s + d ≠ 192 * s + c by omega), oc_ad_n e]
        exact h.2.1 d hd
    · by_cases e : d = c
      · rw [e, pk_us, pk_us]
        exact hl
      · rw [oc_ad_n e] at hp
        rw [pk_un (show 192 * s + d ≠ 192 * s + c by omega), pk_un (show 192 * s + d ≠ 192 * s + c by omega)]
        exact h.2.2 d hd hp
theorem oc_enter {post : St1 → Prop} {sz ck : Int32} {a1 a2 a3 a4 a5 a6 a7 a8 a9 : Nat → Int32} {s c m : Nat} {f : Nat → Nat} {tot lo hi : Int32}
    (hs : s < 5) (hc : c < 192) (hm : 0 < m) (hb : f c < 2 ^ 31) (h : oc_S a4 a6 a8 a9 s f) (hl : lo ≤ hi)
    (H : ∀ b4 b6 b7 b8 b9 : Nat → Int32, oc_F s a4 a6 a8 a9 b4 b6 b8 b9 → oc_S b4 b6 b8 b9 s (oc_ad f c m) → post (sz, ck, a1, a2, a3, b4, a5, b6, b7, b8, b9)) :
    wpX_enter post (sz, ck, a1, a2, a3, a4, a5, a6, a7, a8, a9) (nI s) (nI c) (nI m) tot lo hi := by
  have es : (nI s).toNatClampNeg = s := nI_clamp (by omega)
  have ea : (nI (192 * s + c)).toNatClampNeg = 192 * s + c := nI_clamp (by omega)
  have his : vp_in (nI s) 5 := vp_in_nI hs (by decide)
  have hin : vp_in (nI (192 * s + c)) 960 := vp_in_nI (by omega) (by decide)
  have K : ∀ z, z = nI (if f c = 0 then 1 else 0) → wX_enter_31 post (nI m) tot lo hi (nI (192 * s + c)) z (a4 s) (nI s) sz ck a1 a2 a3 a4 a5 a6 a7 a8 a9 := by
    intro z hz
    have J : ∀ l, l ≤ lo → wX_enter_86 post hi (nI (192 * s + c)) l (nI (192 * s + c)) sz ck a1 a2 a3 (upd a4 s (a4 s + z)) a5 (upd a6 (192 * s + c) (a6 (192 * s + c) + nI m)) (upd a7 (192 * s + c) (a7 (192 * s + c) + tot)) a8 a9 := by
      intro l hll
      unfold wX_enter_86
      rw [ea]
      refine ⟨hin, nm_e ⟨hin, br_c (fun g => ⟨hin, hin, nm_e ?_⟩) (fun g => ⟨hin, nm_e ?_⟩)⟩⟩
      · have P := oc_five hc hm h hz (Int32.le_trans hll (Int32.le_trans hl g))
        exact H _ _ _ _ _ P.1 P.2
      · have P := oc_five hc hm h hz (Int32.le_trans hll hl)
        exact H _ _ _ _ _ P.1 P.2
    unfold wX_enter_31
    rw [es, ea]
    exact ⟨his, nm_e ⟨hin, hin, nm_e ⟨hin, hin, nm_e ⟨hin, br_c (fun g => ⟨hin, J _ g⟩) (fun g => J _ (Int32.le_refl lo))⟩⟩⟩⟩
  refine nm_r (oc_192 s c) ⟨his, hin, ?_⟩
  rw [es, ea, h.2.1 c hc]
  exact pk_eq (f c) 0 (fun z => K 1 (by rw [if_pos z]; rfl)) (fun z => K 0 (by rw [if_neg z]; rfl))
end
section
/-! the world matches n facts at pl -/
def oc_V (n : Nat) (pl : Nat → Nat) (a3 a4 a6 a8 a9 : Nat → Int32) (s : Nat) : Prop :=
  a3 s = -1 ∨ ∃ v, v < 48 ∧ a3 s = nI v ∧ oc_S a4 a6 a8 a9 s (oc_ct (oc_g v pl) n)
def oc_P (n : Nat) (pl : Nat → Nat) (a1 : Nat → Int32) : Prop := ∀ i, i < n → pl i < 192 ∧ a1 i = nI (pl i)
def oc_R (n : Nat) (pl : Nat → Nat) (sz : Int32) (a1 a3 a4 a6 a8 a9 : Nat → Int32) : Prop :=
  n ≤ 40 ∧ sz = nI n ∧ oc_P n pl a1 ∧ a3 0 = nI 0 ∧ ∀ s, s < 5 → oc_V n pl a3 a4 a6 a8 a9 s
theorem oc_add {post : St1 → Prop} {n p : Nat} {pl : Nat → Nat} {m sz ck : Int32} {a1 a2 a3 a4 a5 a6 a7 a8 a9 : Nat → Int32} (hn : n < 40) (hp : p < 192)
    (h : oc_R n pl sz a1 a3 a4 a6 a8 a9)
    (H : ∀ (sz' : Int32) (ql : Nat → Nat) (b1 b2 b4 b6 b7 b8 b9 : Nat → Int32), oc_R (n + 1) ql sz' b1 a3 b4 b6 b8 b9 → post (sz', ck, b1, b2, a3, b4, a5, b6, b7, b8, b9)) :
    wpX_add post (sz, ck, a1, a2, a3, a4, a5, a6, a7, a8, a9) (nI p) m := by
  obtain ⟨h40, rfl, hP, h0, hV⟩ := h
  have en : (nI n).toNatClampNeg = n := nI_clamp (by omega)
  have hin : vp_in (nI n) 40 := vp_in_nI hn (by decide)
  obtain ⟨ql, q1, q2⟩ : ∃ ql : Nat → Nat, (∀ i, i < n → ql i = pl i) ∧ ql n = p :=
    ⟨fun i => if i = n then p else pl i, fun i hi => if_neg (by omega), if_pos rfl⟩
  have qV : ∀ s, s < 5 → oc_V n ql a3 a4 a6 a8 a9 s := by
    intro s hs
    rcases hV s hs with z | ⟨v, hv, e, hS⟩
    · exact Or.inl z
    · refine Or.inr ⟨v, hv, e, ?_⟩
      rw [oc_ct_congr n (g := oc_g v ql) (g' := oc_g v pl) (fun i hi => by unfold oc_g; rw [q1 i hi])]
      exact hS
  have qP : oc_P (n + 1) ql (upd a1 n (nI p)) := by
    intro i hi
    by_cases e : i = n
    · rw [e, pk_us, q2]
      exact ⟨hp, rfl⟩
    · rw [pk_un e, q1 i (by omega)]
      exact hP i (by omega)
  refine ⟨hin, nm_r (e' := upd a1 n (nI p)) (by rw [en]) ⟨hin, nm_r (e' := upd a2 n m) (by rw [en]) (nm_r (nI_1 n) ?_)⟩⟩
  refine pk_loop (σ := (Nat → Int32) × (Nat → Int32) × (Nat → Int32) × (Nat → Int32) × (Nat → Int32))
    (fun k i st => wX_add_32 post (nI p) m k (nI i) (nI (n + 1)) ck (upd a1 n (nI p)) (upd a2 n m) a3 st.1 a5 st.2.1 st.2.2.1 st.2.2.2.1 st.2.2.2.2)
    (fun i st => ∀ t, t < 5 → (t < i → oc_V (n + 1) ql a3 st.1 st.2.1 st.2.2.2.1 st.2.2.2.2 t) ∧ (i ≤ t → oc_V n ql a3 st.1 st.2.1 st.2.2.2.1 st.2.2.2.2 t))
    5 0 (a4, a6, a7, a8, a9) (by omega) (fun t ht => ⟨fun z => absurd z (by omega), fun _ => qV t ht⟩) ?_ ?_
  · rintro k ⟨b4, b6, b7, b8, b9⟩ hI
    exact pk_le 5 5 (fun _ => H _ ql _ _ _ _ _ _ _ ⟨by omega, rfl, qP, h0, fun s hs => (hI s hs).1 hs⟩) (fun z => absurd z (by omega))
  · rintro k i ⟨b4, b6, b7, b8, b9⟩ hi hI hw
    have ei : (nI i).toNatClampNeg = i := nI_clamp (by omega)
    have hii : vp_in (nI i) 5 := vp_in_nI hi (by decide)
    show wX_add_32 post (nI p) m (k + 1) (nI i) (nI (n + 1)) ck (upd a1 n (nI p)) (upd a2 n m) a3 b4 a5 b6 b7 b8 b9
    refine pk_le 5 i (fun z => absurd z (by omega)) (fun _ => ⟨hii, ?_⟩)
    rw [ei]
    rcases (hI i hi).2 (Nat.le_refl i) with z | ⟨v, hv, e, hS⟩
    · refine br_t z (nm_r (nI_1 i) (hw (b4, b6, b7, b8, b9) (fun t ht => ⟨fun y => ?_, fun y => (hI t ht).2 (by omega)⟩)))
      by_cases et : t = i
      · rw [et]
        exact Or.inl z
      · exact (hI t ht).1 (by omega)
    · rw [e]
      refine br_f (oc_m1 hv) ⟨hii, oc_seenAs hv hp ?_⟩
      refine oc_enter (m := 1) hi (oc_sa_lt hp) (by omega) (Nat.lt_of_le_of_lt (oc_ct_le _ _ n) (by omega)) hS (Int32.le_refl m) (fun c4 c6 c7 c8 c9 hF hS' => nm_r (nI_1 i) (hw (c4, c6, c7, c8, c9) (fun t ht => ⟨fun y => ?_, fun y => ?_⟩)))
      · by_cases et : t = i
        · rw [et]
          refine Or.inr ⟨v, hv, e, ?_⟩
          have eg : oc_g v ql n = oc_sa v p := by unfold oc_g; rw [q2]
          rw [oc_ct_s, eg]
          exact hS'
        · rcases (hI t ht).1 (by omega) with z' | ⟨v', hv', e', hS2⟩
          · exact Or.inl z'
          · exact Or.inr ⟨v', hv', e', oc_F_S hF et hS2⟩
      · rcases (hI t ht).2 (by omega) with z' | ⟨v', hv', e', hS2⟩
        · exact Or.inl z'
        · exact Or.inr ⟨v', hv', e', oc_F_S hF (by omega) hS2⟩
theorem oc_putm {post : Int32 → St1 → Prop} {n p : Nat} {pl : Nat → Nat} {m sz ck : Int32} {a1 a2 a3 a4 a5 a6 a7 a8 a9 : Nat → Int32} (hp : p < 2 ^ 31)
    (h : oc_R n pl sz a1 a3 a4 a6 a8 a9)
    (H : ∀ (r : Int32) (n' : Nat) (ql : Nat → Nat) (sz' ck' : Int32) (b1 b2 b3 b4 b5 b6 b7 b8 b9 : Nat → Int32), oc_R n' ql sz' b1 b3 b4 b6 b8 b9 → post r (sz', ck', b1, b2, b3, b4, b5, b6, b7, b8, b9)) :
    wpX_put post (sz, ck, a1, a2, a3, a4, a5, a6, a7, a8, a9) (nI p) m := by
  unfold wpX_put
  refine oc_isCell hp (fun h1 => br_f (by decide) ?_) (fun _ => br_t rfl (H _ _ _ _ _ _ _ _ _ _ _ _ _ _ h))
  refine oc_isMeasure (br_f (by decide) ?_) (br_t rfl (H _ _ _ _ _ _ _ _ _ _ _ _ _ _ h))
  have h40 := h.1
  have hz := h.2.1
  refine pk_eq n 40 (fun _ => H _ _ _ _ _ _ _ _ _ _ _ _ _ _ h) (fun ne => ?_) (hx := hz)
  exact oc_add (by omega) h1 h (fun sz' ql b1 b2 b4 b6 b7 b8 b9 hR => H _ _ _ _ _ _ _ _ _ _ _ _ _ _ hR)
theorem oc_sow {post : Int32 → St1 → Prop} {n p q c : Nat} {pl : Nat → Nat} {sz ck : Int32} {a1 a2 a3 a4 a5 a6 a7 a8 a9 : Nat → Int32} (hp : p < 2 ^ 31) (hq : q < 2 ^ 31) (hc : c < 2 ^ 31)
    (h : oc_R n pl sz a1 a3 a4 a6 a8 a9)
    (H : ∀ (r : Int32) (n' : Nat) (ql : Nat → Nat) (sz' ck' : Int32) (b1 b2 b3 b4 b5 b6 b7 b8 b9 : Nat → Int32), oc_R n' ql sz' b1 b3 b4 b6 b8 b9 → post r (sz', ck', b1, b2, b3, b4, b5, b6, b7, b8, b9)) :
    wpX_sow post (sz, ck, a1, a2, a3, a4, a5, a6, a7, a8, a9) (nI p) (nI q) (nI c) := by
  unfold wpX_sow
  refine oc_isCell hp (fun h1 => br_f (by decide) ?_) (fun _ => br_t rfl (H _ _ _ _ _ _ _ _ _ _ _ _ _ _ h))
  refine oc_isCell hq (fun h2 => br_f (by decide) ?_) (fun _ => br_t rfl (H _ _ _ _ _ _ _ _ _ _ _ _ _ _ h))
  refine pk_lt c 1 (fun _ => H _ _ _ _ _ _ _ _ _ _ _ _ _ _ h) (fun c1 => pk_le c 40 (fun c40 => ?_) (fun _ => H _ _ _ _ _ _ _ _ _ _ _ _ _ _ h))
  refine pk_loop (σ := St1)
    (fun k i u => wX_sow_36 post (nI p) (nI q) (nI c) k (nI i) u.1 u.2.1 u.2.2.1 u.2.2.2.1 u.2.2.2.2.1 u.2.2.2.2.2.1 u.2.2.2.2.2.2.1 u.2.2.2.2.2.2.2.1 u.2.2.2.2.2.2.2.2.1 u.2.2.2.2.2.2.2.2.2.1 u.2.2.2.2.2.2.2.2.2.2)
    (fun i u => ∃ n' ql, oc_R n' ql u.1 u.2.2.1 u.2.2.2.2.1 u.2.2.2.2.2.1 u.2.2.2.2.2.2.2.1 u.2.2.2.2.2.2.2.2.2.1 u.2.2.2.2.2.2.2.2.2.2)
    c 0 (sz, ck, a1, a2, a3, a4, a5, a6, a7, a8, a9) (by omega) ⟨n, pl, h⟩ ?_ ?_
  · rintro k ⟨sz', ck', b1, b2, b3, b4, b5, b6, b7, b8, b9⟩ ⟨n', ql, h'⟩
    exact pk_le c c (fun _ => H _ _ _ _ _ _ _ _ _ _ _ _ _ _ h') (fun z => absurd z (by omega))
  · rintro k i ⟨sz', ck', b1, b2, b3, b4, b5, b6, b7, b8, b9⟩ hi ⟨n', ql, h'⟩ hw
    have hm : i * q ≤ 40 * 192 := Nat.mul_le_mul (by omega) (by omega)
    have e : (nI p + nI i * nI q) - (nI p + nI i * nI q) / 192 * 192 = nI ((p + i * q) % 192) := by
      rw [pk_mul, nI_add]
      exact pk_rem (d := 192) (by omega) (by decide) (by decide)
    have h40 : n' ≤ 40 := h'.1
    have es : sz' = nI n' := h'.2.1
    show wX_sow_36 post (nI p) (nI q) (nI c) (k + 1) (nI i) sz' ck' b1 b2 b3 b4 b5 b6 b7 b8 b9
    refine pk_le c i (fun z => absurd z (by omega)) (fun _ => pk_le 40 n' (fun _ => H _ _ _ _ _ _ _ _ _ _ _ _ _ _ h') (fun z => ⟨by decide, by decide, ?_⟩) (hy := es))
    rw [e]
    exact oc_add z (Nat.mod_lt _ (by decide)) h' (fun s2 ql2 c1 c2 c4 c6 c7 c8 c9 hR => nm_r (nI_1 i) (hw (s2, ck', c1, c2, b3, c4, b5, c6, c7, c8, c9) ⟨_, ql2, hR⟩))
theorem oc_anew {post : St1 → Prop} {n : Nat} {pl : Nat → Nat} {sz ck : Int32} {a1 a2 a3 a4 a5 a6 a7 a8 a9 : Nat → Int32} (h40 : n ≤ 40) (hz : sz = nI n) (hP : oc_P n pl a1) (h0 : a3 0 = nI 0)
    (H : ∀ (b3 b4 b6 b7 b8 b9 : Nat → Int32), oc_R n pl sz a1 b3 b4 b6 b8 b9 → post (sz, ck, a1, a2, b3, b4, a5, b6, b7, b8, b9)) :
    wpX_startAnew post (sz, ck, a1, a2, a3, a4, a5, a6, a7, a8, a9) := by
  refine pk_loop (σ := Nat → Int32) (fun k i b3 => wX_startAnew_2 post sz ck k (nI i) a1 a2 b3 a4 a5 a6 a7 a8 a9) (fun i b3 => 1 ≤ i ∧ b3 0 = nI 0 ∧ ∀ t, 1 ≤ t → t < i → b3 t = -1)
    5 1 a3 (by omega) ⟨by omega, h0, fun t h1 h2 => absurd h2 (by omega)⟩ ?_ ?_
  · intro k b3 ⟨_, g0, g1⟩
    refine pk_le 5 5 (fun _ => ?_) (fun z => absurd z (by omega))
    refine oc_wipe (s := 0) (by omega) (fun b4 b6 b7 b8 b9 hF hS => ?_)
    refine pk_loop (σ := (Nat → Int32) × (Nat → Int32) × (Nat → Int32) × (Nat → Int32) × (Nat → Int32))
      (fun k i st => wX_startAnew_27 post k (nI i) sz ck a1 a2 b3 st.1 a5 st.2.1 st.2.2.1 st.2.2.2.1 st.2.2.2.2)
      (fun i st => oc_S st.1 st.2.1 st.2.2.2.1 st.2.2.2.2 0 (oc_ct (oc_g 0 pl) i)) n 0 (b4, b6, b7, b8, b9) (by omega) hS ?_ ?_
    · rintro k ⟨c4, c6, c7, c8, c9⟩ hI
      refine pk_le n n (fun _ => H _ _ _ _ _ _ ⟨h40, hz, hP, g0, fun s hs => ?_⟩) (fun z => absurd z (by omega)) (hx := hz)
      by_cases e : s = 0
      · rw [e]
        exact Or.inr ⟨0, by omega, g0, hI⟩
      · exact Or.inl (g1 s (by omega) hs)
    · rintro k i ⟨c4, c6, c7, c8, c9⟩ hi hI hw
      have ei : (nI i).toNatClampNeg = i := nI_clamp (by omega)
      have hii : vp_in (nI i) 40 := vp_in_nI (by omega) (by decide)
      obtain ⟨hp, e1⟩ := hP i hi
      show wX_startAnew_27 post (k + 1) (nI i) sz ck a1 a2 b3 c4 a5 c6 c7 c8 c9
      refine pk_le n i (fun z => absurd z (by omega)) (fun _ => ⟨hii, hii, hii, hii, ?_⟩) (hx := hz)
      rw [ei, e1]
      refine oc_enter (s := 0) (m := 1) (by omega) hp (by omega) (Nat.lt_of_le_of_lt (oc_ct_le _ _ i) (by omega)) hI (Int32.le_refl _) (fun d4 d6 d7 d8 d9 hF' hS' => nm_r (nI_1 i) (hw (d4, d6, d7, d8, d9) ?_))
      have eg : oc_g 0 pl i = pl i := oc_sa_0 hp
      show oc_S d4 d6 d8 d9 0 (oc_ct (oc_g 0 pl) (i + 1))
      rw [oc_ct_s, eg]
      exact hS'
  · intro k i b3 hi ⟨gi, g0, g1⟩ hw
    have ei : (nI i).toNatClampNeg = i := nI_clamp (by omega)
    refine pk_le 5 i (fun z => absurd z (by omega)) (fun _ => ⟨pk_in i 5 hi, nm_r (e' := upd b3 i (-1)) (by rw [ei]) (nm_r (nI_1 i) (hw _ ⟨by omega, ?_, fun t h1 h2 => ?_⟩))⟩)
    · rw [pk_un (by omega)]
      exact g0
    · by_cases e : t = i
      · rw [e, pk_us]
      · rw [pk_un e]
        exact g1 t h1 (by omega)
theorem oc_isFact {post : Int32 → Prop} {n x : Nat} {sz ck : Int32} {a1 a2 a3 a4 a5 a6 a7 a8 a9 : Nat → Int32} (hn : n < 2 ^ 31) (hx : x < 2 ^ 31) (hz : sz = nI n) (H1 : x < n → post 1) (H0 : post 0) :
    wpX_isFact post (sz, ck, a1, a2, a3, a4, a5, a6, a7, a8, a9) (nI x) :=
  br_f (nI_pos hx) (pk_le n x (fun _ => H0) H1 (hx := hz))
theorem oc_drop {post : Int32 → St1 → Prop} {n x : Nat} {pl : Nat → Nat} {sz ck : Int32} {a1 a2 a3 a4 a5 a6 a7 a8 a9 : Nat → Int32} (hx : x < 2 ^ 31)
    (h : oc_R n pl sz a1 a3 a4 a6 a8 a9)
    (H : ∀ (r : Int32) (n' : Nat) (ql : Nat → Nat) (sz' ck' : Int32) (b1 b2 b3 b4 b5 b6 b7 b8 b9 : Nat → Int32), oc_R n' ql sz' b1 b3 b4 b6 b8 b9 → post r (sz', ck', b1, b2, b3, b4, b5, b6, b7, b8, b9)) :
    wpX_drop post (sz, ck, a1, a2, a3, a4, a5, a6, a7, a8, a9) (nI x) := by
  have h40 : n ≤ 40 := h.1
  have hz : sz = nI n := h.2.1
  have hP : oc_P n pl a1 := h.2.2.1
  have h0 : a3 0 = nI 0 := h.2.2.2.1
  unfold wpX_drop
  refine oc_isFact (n := n) (by omega) hx hz (fun hxn => br_f (by decide) (nm_r (nI_1 x) ?_)) (br_t rfl (H _ _ _ _ _ _ _ _ _ _ _ _ _ _ h))
  refine pk_loop (σ := (Nat → Int32) × (Nat → Int32)) (fun k i st => wX_drop_14 post sz ck k (nI i) st.1 st.2 a3 a4 a5 a6 a7 a8 a9)
    (fun i st => 1 ≤ i ∧ ∀ j, j < n → ∃ p, p < 192 ∧ st.1 j = nI p) n (x + 1) (a1, a2) (by omega) ⟨by omega, fun j hj => ⟨pl j, hP j hj⟩⟩ ?_ ?_
  · rintro k ⟨b1, b2⟩ ⟨hn1, hI⟩
    dsimp only at hI
    refine pk_le n n (fun _ => nm_r (e' := nI (n - 1)) (by rw [hz]; exact pk_sub (b := 1) hn1) ?_) (fun z => absurd z (by omega)) (hx := hz)
    refine oc_anew (n := n - 1) (pl := fun i => (b1 i).toNatClampNeg) (by omega) rfl (fun i hi => ?_) h0 (fun c3 c4 c6 c7 c8 c9 hR => H _ _ _ _ _ _ _ _ _ _ _ _ _ _ hR)
    obtain ⟨p, hp, e⟩ := hI i (by omega)
    dsimp only
    rw [e, nI_clamp (by omega)]
    exact ⟨hp, rfl⟩
  · rintro k i ⟨b1, b2⟩ hi ⟨hi1, hI⟩ hw
    dsimp only at hI
    have ei : (nI i).toNatClampNeg = i := nI_clamp (by omega)
    have em : nI i - 1 = nI (i - 1) := pk_sub (b := 1) hi1
    have ej : (nI (i - 1)).toNatClampNeg = i - 1 := nI_clamp (by omega)
    have hii : vp_in (nI i) 40 := vp_in_nI (by omega) (by decide)
    have hij : vp_in (nI (i - 1)) 40 := vp_in_nI (by omega) (by decide)
    show wX_drop_14 post sz ck (k + 1) (nI i) b1 b2 a3 a4 a5 a6 a7 a8 a9
    refine pk_le n i (fun z => absurd z (by omega)) (fun _ => ?_) (hx := hz)
    rw [em, ei, ej]
    refine ⟨hii, hij, nm_e ⟨hii, hij, nm_e (nm_r (nI_1 i) (hw (upd b1 (i - 1) (b1 i), upd b2 (i - 1) (b2 i)) ⟨by omega, fun j hj => ?_⟩))⟩⟩
    dsimp only
    by_cases e : j = i - 1
    · rw [e, pk_us]
      exact hI i hi
    · rw [pk_un e]
      exact hI j hj
theorem oc_measure {post : Int32 → St1 → Prop} {n x : Nat} {pl : Nat → Nat} {sz ck m : Int32} {a1 a2 a3 a4 a5 a6 a7 a8 a9 : Nat → Int32} (hx : x < 2 ^ 31)
    (h : oc_R n pl sz a1 a3 a4 a6 a8 a9)
    (H : ∀ (r : Int32) (n' : Nat) (ql : Nat → Nat) (sz' ck' : Int32) (b1 b2 b3 b4 b5 b6 b7 b8 b9 : Nat → Int32), oc_R n' ql sz' b1 b3 b4 b6 b8 b9 → post r (sz', ck', b1, b2, b3, b4, b5, b6, b7, b8, b9)) :
    wpX_measure post (sz, ck, a1, a2, a3, a4, a5, a6, a7, a8, a9) (nI x) m := by
  have h40 : n ≤ 40 := h.1
  have hz : sz = nI n := h.2.1
  have hP : oc_P n pl a1 := h.2.2.1
  have h0 : a3 0 = nI 0 := h.2.2.2.1
  unfold wpX_measure
  refine oc_isFact (n := n) (by omega) hx hz (fun hxn => br_f (by decide) ?_) (br_t rfl (H _ _ _ _ _ _ _ _ _ _ _ _ _ _ h))
  refine oc_isMeasure (br_f (by decide) ?_) (br_t rfl (H _ _ _ _ _ _ _ _ _ _ _ _ _ _ h))
  exact ⟨pk_in x 40 (by omega), nm_e ⟨pk_in x 40 (by omega), nm_e (oc_anew h40 hz hP h0 (fun c3 c4 c6 c7 c8 c9 hR => H _ _ _ _ _ _ _ _ _ _ _ _ _ _ hR))⟩⟩
end
section
/-! workOut and slotFor -/
theorem oc_work {post : St1 → Prop} {n v v' src tg : Nat} {pl : Nat → Nat} {sz ck : Int32} {a1 a2 a3 a4 a5 a6 a7 a8 a9 : Nat → Int32}
    (h : oc_R n pl sz a1 a3 a4 a6 a8 a9) (hv : v < 48) (hv' : v' < 48) (hsrc : src < 5) (hS : oc_S a4 a6 a8 a9 src (oc_ct (oc_g v' pl) n)) (ha : a3 src = nI v') (hf : oc_fi v' v)
    (ht1 : 1 ≤ tg) (ht : tg < 5) (hne : tg ≠ src)
    (H : ∀ (b4 b5 b6 b7 b8 b9 : Nat → Int32), oc_R n pl sz a1 (upd a3 tg (nI v)) b4 b6 b8 b9 → oc_S b4 b6 b8 b9 tg (oc_ct (oc_g v pl) n) → post (sz, ck, a1, a2, upd a3 tg (nI v), b4, b5, b6, b7, b8, b9)) :
    wpX_workOut post (sz, ck, a1, a2, a3, a4, a5, a6, a7, a8, a9) (nI v) (nI src) (nI tg) := by
  obtain ⟨h40, hz, hP, h0, hV⟩ := h
  have hp : ∀ i, i < n → pl i < 192 := fun i hi => (hP i hi).1
  have etg : (nI tg).toNatClampNeg = tg := nI_clamp (by omega)
  have esr : (nI src).toNatClampNeg = src := nI_clamp (by omega)
  have hit : vp_in (nI tg) 5 := vp_in_nI ht (by decide)
  have his : vp_in (nI src) 5 := vp_in_nI hsrc (by decide)
  have ea : upd a3 tg (nI v) src = nI v' := by rw [pk_un (fun z => hne z.symm)]; exact ha
  unfold wpX_workOut
  refine oc_wipe ht (fun b4 b6 b7 b8 b9 hF0 hS0 => ⟨hit, nm_r (e' := upd a3 tg (nI v)) (by rw [etg]) ⟨hit, nm_r (e' := upd a5 tg ck) (by rw [etg]) ?_⟩⟩)
  refine pk_loop (σ := (Nat → Int32) × (Nat → Int32) × (Nat → Int32) × (Nat → Int32) × (Nat → Int32))
    (fun k i st => wX_workOut_25 post (nI v) (nI src) (nI tg) k (nI i) sz ck a1 a2 (upd a3 tg (nI v)) st.1 (upd a5 tg ck) st.2.1 st.2.2.1 st.2.2.2.1 st.2.2.2.2)
    (fun i st => oc_F tg a4 a6 a8 a9 st.1 st.2.1 st.2.2.2.1 st.2.2.2.2 ∧ oc_S st.1 st.2.1 st.2.2.2.1 st.2.2.2.2 tg (oc_pu (fun c => oc_sa v (oc_cq v' c)) (oc_ct (oc_g v' pl) n) i))
    192 0 (b4, b6, b7, b8, b9) (by omega) ⟨hF0, hS0⟩ ?_ ?_
  · rintro k ⟨c4, c6, c7, c8, c9⟩ ⟨hF, hT⟩
    dsimp only at hF hT
    rw [oc_out hv' hv hf hp] at hT
    refine pk_le 192 192 (fun _ => H _ _ _ _ _ _ ⟨h40, hz, hP, ?_, fun s hs => ?_⟩ hT) (fun z => absurd z (by omega))
    · rw [pk_un (show 0 ≠ tg by omega)]
      exact h0
    · by_cases e : s = tg
      · rw [e]
        exact Or.inr ⟨v, hv, pk_us, hT⟩
      · rcases hV s hs with z | ⟨w, hw, ew, hSw⟩
        · exact Or.inl (by rw [pk_un e]; exact z)
        · exact Or.inr ⟨w, hw, by rw [pk_un e]; exact ew, oc_F_S hF e hSw⟩
  · rintro k i ⟨c4, c6, c7, c8, c9⟩ hi ⟨hF, hT⟩ hw
    dsimp only at hF hT
    have ei : (nI (192 * src + i)).toNatClampNeg = 192 * src + i := nI_clamp (by omega)
    have hin : vp_in (nI (192 * src + i)) 960 := vp_in_nI (by omega) (by decide)
    have hSs := oc_F_S hF (fun z => hne z.symm) hS
    have e6 := hSs.2.1 i hi
    have hb : oc_ct (oc_g v' pl) n i ≤ n := oc_ct_le _ _ n
    show wX_workOut_25 post (nI v) (nI src) (nI tg) (k + 1) (nI i) sz ck a1 a2 (upd a3 tg (nI v)) c4 (upd a5 tg ck) c6 c7 c8 c9
    refine pk_le 192 i (fun z => absurd z (by omega)) (fun _ => nm_r (oc_192 src i) ⟨hin, ?_⟩)
    rw [ei, esr, e6, ea]
    refine pk_le (oc_ct (oc_g v' pl) n i) 0 (fun z => nm_r (nI_1 i) (hw (c4, c6, c7, c8, c9) ⟨hF, ?_⟩)) (fun z => ⟨his, ?_⟩)
    · show oc_S c4 c6 c8 c9 tg (oc_pu _ _ (i + 1))
      rw [oc_pu_s, Nat.le_zero.mp z, oc_ad_0]
      exact hT
    · obtain ⟨j, hj, ej⟩ := oc_ct_pos n z
      have hq : oc_cq v' i < 192 := by rw [← ej]; exact oc_cq_lt (hp j hj)
      have hle : oc_pu (fun c => oc_sa v (oc_cq v' c)) (oc_ct (oc_g v' pl) n) i (oc_sa v (oc_cq v' i)) ≤ n := by
        refine Nat.le_trans (oc_pu_le 192 (by omega)) ?_
        rw [oc_out hv' hv hf hp]
        exact oc_ct_le _ _ n
      refine oc_cellFrom hv' hi hv hq ⟨hin, hin, hin, hin, ?_⟩
      exact oc_enter ht (oc_sa_lt hq) z (by omega) hT (hSs.2.2 i hi z) (fun d4 d6 d7 d8 d9 hF' hS' => nm_r (nI_1 i) (hw (d4, d6, d7, d8, d9) ⟨oc_F_tr hF hF', hS'⟩))
/-- the view stands in a slot -/
theorem oc_hit {post : Int32 → St1 → Prop} {v s : Nat} {sz ck : Int32} {a1 a2 a3 a4 a5 a6 a7 a8 a9 : Nat → Int32} (hs : s < 5) (h3 : a3 s = nI v) (hlt : ∀ t, t < s → ¬ a3 t = nI v)
    (H : ∀ (ck' : Int32) (b5 : Nat → Int32), post (nI s) (sz, ck', a1, a2, a3, a4, b5, a6, a7, a8, a9)) :
    wpX_slotFor post (sz, ck, a1, a2, a3, a4, a5, a6, a7, a8, a9) (nI v) := by
  unfold wpX_slotFor
  refine nm_e (pk_loop (σ := Unit) (fun k i _ => wX_slotFor_12 post (nI v) sz (ck + 1) a1 a2 a3 a4 a5 a6 a7 a8 a9 k (nI i)) (fun _ _ => True) s 0 () (by omega) trivial ?_ ?_)
  · intro k _ _
    refine pk_le 5 s (fun z => absurd z (by omega)) (fun _ => ⟨pk_in s 5 hs, ?_⟩)
    rw [nI_clamp (show s < 2 ^ 31 by omega)]
    exact br_t h3 ⟨pk_in s 5 hs, nm_e (H _ _)⟩
  · intro k i _ hi _ hw
    refine pk_le 5 i (fun z => absurd z (by omega)) (fun _ => ⟨pk_in i 5 (by omega), ?_⟩)
    rw [nI_clamp (show i < 2 ^ 31 by omega)]
    exact br_f (hlt i hi) (nm_r (nI_1 i) (hw () trivial))
/-- the slot to work out into -/
theorem oc_s130 {post : Int32 → St1 → Prop} {n v v' src tg : Nat} {pl : Nat → Nat} {sz ck : Int32} {a1 a2 a3 a4 a5 a6 a7 a8 a9 : Nat → Int32}
    (h : oc_R n pl sz a1 a3 a4 a6 a8 a9) (hv : v < 48) (hv' : v' < 48) (hsrc : src < 5) (hS : oc_S a4 a6 a8 a9 src (oc_ct (oc_g v' pl) n)) (ha : a3 src = nI v') (hf : oc_fi v' v)
    (ht1 : 1 ≤ tg) (ht : tg < 5) (hne : tg ≠ src) (hno : ∀ t, t < 5 → ¬ a3 t = nI v)
    (H : ∀ (s : Nat) (ck' : Int32) (b3 b4 b5 b6 b7 b8 b9 : Nat → Int32), s < 5 → oc_R n pl sz a1 b3 b4 b6 b8 b9 → oc_S b4 b6 b8 b9 s (oc_ct (oc_g v pl) n) → b3 s = nI v → (∀ t, t < s → ¬ b3 t = nI v) → post (nI s) (sz, ck', a1, a2, b3, b4, b5, b6, b7, b8, b9)) :
    ∃ k, wX_slotFor_130 post (nI v) (nI src) sz ck a1 a2 a3 a4 a5 a6 a7 a8 a9 k (nI tg) 1 := by
  refine pk_loop (σ := Nat) (fun k i tg => wX_slotFor_130 post (nI v) (nI src) sz ck a1 a2 a3 a4 a5 a6 a7 a8 a9 k (nI tg) (nI i)) (fun i tg => 1 ≤ i ∧ 1 ≤ tg ∧ tg < 5 ∧ tg ≠ src)
    5 1 tg (by omega) ⟨by omega, ht1, ht, hne⟩ ?_ ?_
  · intro k t ⟨_, t1, t5, tn⟩
    refine pk_le 5 5 (fun _ => ?_) (fun z => absurd z (by omega))
    refine oc_work h hv hv' hsrc hS ha hf t1 t5 tn (fun b4 b5 b6 b7 b8 b9 hR hT => H t _ _ _ _ _ _ _ _ t5 hR hT pk_us (fun y hy => ?_))
    rw [pk_un (show y ≠ t by omega)]
    exact hno y (by omega)
  · intro k i t hi ⟨i1, t1, t5, tn⟩ hw
    have hii : vp_in (nI i) 5 := vp_in_nI hi (by decide)
    have hit : vp_in (nI t) 5 := vp_in_nI t5 (by decide)
    refine pk_le 5 i (fun z => absurd z (by omega)) (fun _ => pk_eq i src (fun _ => nm_r (nI_1 i) (hw t ⟨by omega, t1, t5, tn⟩)) (fun ne => ⟨hii, ?_⟩))
    have J : wX_slotFor_169 post (wX_slotFor_130 post (nI v) (nI src) sz ck a1 a2 a3 a4 a5 a6 a7 a8 a9 k) (nI v) (nI src) (nI t) (nI i) sz ck a1 a2 a3 a4 a5 a6 a7 a8 a9 :=
      ⟨hit, br_c (fun _ => nm_r (nI_1 i) (hw t ⟨by omega, t1, t5, tn⟩)) (fun _ => nm_r (nI_1 i) (hw i ⟨by omega, i1, hi, ne⟩))⟩
    exact br_c (fun _ => J) (fun _ => ⟨hii, hit, br_c (fun _ => nm_r (nI_1 i) (hw t ⟨by omega, t1, t5, tn⟩)) (fun _ => J)⟩)
/-- the slot to work out of -/
theorem oc_s49 {post : Int32 → St1 → Prop} {n v : Nat} {pl : Nat → Nat} {sz ck : Int32} {a1 a2 a3 a4 a5 a6 a7 a8 a9 : Nat → Int32}
    (h : oc_R n pl sz a1 a3 a4 a6 a8 a9) (hv : v < 48) (hno : ∀ t, t < 5 → ¬ a3 t = nI v)
    (H : ∀ (s : Nat) (ck' : Int32) (b3 b4 b5 b6 b7 b8 b9 : Nat → Int32), s < 5 → oc_R n pl sz a1 b3 b4 b6 b8 b9 → oc_S b4 b6 b8 b9 s (oc_ct (oc_g v pl) n) → b3 s = nI v → (∀ t, t < s → ¬ b3 t = nI v) → post (nI s) (sz, ck', a1, a2, b3, b4, b5, b6, b7, b8, b9)) :
    ∃ k, wX_slotFor_49 post (nI v) sz ck a1 a2 a3 a4 a5 a6 a7 a8 a9 k 0 1 := by
  have hV := h.2.2.2.2
  have h0 := h.2.2.2.1
  refine pk_loop (σ := Nat) (fun k i src => wX_slotFor_49 post (nI v) sz ck a1 a2 a3 a4 a5 a6 a7 a8 a9 k (nI src) (nI i))
    (fun i src => src < 5 ∧ ∃ v', v' < 48 ∧ a3 src = nI v' ∧ oc_fi v' v ∧ oc_S a4 a6 a8 a9 src (oc_ct (oc_g v' pl) n)) 5 1 0 (by omega) ⟨by omega, ?_⟩ ?_ ?_
  · rcases hV 0 (by omega) with z | ⟨w, hw, ew, hSw⟩
    · rw [h0] at z
      exact absurd z (oc_m1 (by omega))
    · rw [h0] at ew
      have e : 0 = w := (nI_eq (by omega) (by omega)).mp ew
      rw [← e] at hSw
      exact ⟨0, by omega, h0, oc_fi_0 v, hSw⟩
  · intro k src ⟨s5, v', hv', ha, hf, hS⟩
    refine pk_le 5 5 (fun _ => pk_eq src 1 (fun z => ?_) (fun z => ?_)) (fun z => absurd z (by omega))
    · exact oc_s130 (tg := 2) h hv hv' s5 hS ha hf (by omega) (by omega) (by omega) hno H
    · exact oc_s130 (tg := 1) h hv hv' s5 hS ha hf (by omega) (by omega) (by omega) hno H
  · intro k i src hi hI hw
    have s5 := hI.1
    have hii : vp_in (nI i) 5 := vp_in_nI hi (by decide)
    have his : vp_in (nI src) 5 := vp_in_nI s5 (by decide)
    have J : wX_slotFor_81 post (wX_slotFor_49 post (nI v) sz ck a1 a2 a3 a4 a5 a6 a7 a8 a9 k) (nI v) (nI src) (nI i) sz ck a1 a2 a3 a4 a5 a6 a7 a8 a9 :=
      br_t rfl (nm_r (nI_1 i) (hw src hI))
    refine pk_le 5 i (fun z => absurd z (by omega)) (fun _ => ⟨hii, ?_⟩)
    rw [nI_clamp (show i < 2 ^ 31 by omega)]
    rcases hV i hi with z | ⟨w, hw', ew, hSw⟩
    · exact br_t z J
    · rw [ew]
      refine br_f (oc_m1 hw') ⟨hii, oc_isFiner hw' hv (fun hf => br_f (by decide) ?_) (fun _ => br_t rfl J)⟩
      exact br_f (by decide) ⟨hii, his, br_c (fun _ => nm_r (nI_1 i) (hw src hI)) (fun _ => nm_r (nI_1 i) (hw i ⟨hi, w, hw', ew, hf, hSw⟩))⟩
theorem oc_slotFor {post : Int32 → St1 → Prop} {n v : Nat} {pl : Nat → Nat} {sz ck : Int32} {a1 a2 a3 a4 a5 a6 a7 a8 a9 : Nat → Int32}
    (h : oc_R n pl sz a1 a3 a4 a6 a8 a9) (hv : v < 48)
    (H : ∀ (s : Nat) (ck' : Int32) (b3 b4 b5 b6 b7 b8 b9 : Nat → Int32), s < 5 → oc_R n pl sz a1 b3 b4 b6 b8 b9 → oc_S b4 b6 b8 b9 s (oc_ct (oc_g v pl) n) → b3 s = nI v → (∀ t, t < s → ¬ b3 t = nI v) → post (nI s) (sz, ck', a1, a2, b3, b4, b5, b6, b7, b8, b9)) :
    wpX_slotFor post (sz, ck, a1, a2, a3, a4, a5, a6, a7, a8, a9) (nI v) := by
  rcases Classical.em (∃ t, t < 5 ∧ a3 t = nI v) with hy | hn
  · obtain ⟨s, ⟨hs, h3⟩, hl⟩ := pk_least (fun t => t < 5 ∧ a3 t = nI v) hy
    have hlt : ∀ t, t < s → ¬ a3 t = nI v := fun t ht z => hl t ht ⟨by omega, z⟩
    refine oc_hit hs h3 hlt (fun ck' b5 => H s _ _ _ _ _ _ _ _ hs h ?_ h3 hlt)
    rcases h.2.2.2.2 s hs with z | ⟨w, hw, ew, hSw⟩
    · rw [h3] at z
      exact absurd z (oc_m1 hv)
    · rw [h3] at ew
      have e : v = w := (nI_eq (by omega) (by omega)).mp ew
      rw [e]
      exact hSw
  · have hno : ∀ t, t < 5 → ¬ a3 t = nI v := fun t ht z => hn ⟨t, ht, z⟩
    unfold wpX_slotFor
    refine nm_e (pk_loop (σ := Unit) (fun k i _ => wX_slotFor_12 post (nI v) sz (ck + 1) a1 a2 a3 a4 a5 a6 a7 a8 a9 k (nI i)) (fun _ _ => True) 5 0 () (by omega) trivial ?_ ?_)
    · intro k _ _
      exact pk_le 5 5 (fun _ => oc_s49 h hv hno H) (fun z => absurd z (by omega))
    · intro k i _ hi _ hw
      refine pk_le 5 i (fun z => absurd z (by omega)) (fun _ => ⟨pk_in i 5 hi, ?_⟩)
      rw [nI_clamp (show i < 2 ^ 31 by omega)]
      exact br_f (hno i hi) (nm_r (nI_1 i) (hw () trivial))
end
section
/-! what is asked of a view -/
theorem oc_full {post : Int32 → St1 → Prop} {n v : Nat} {pl : Nat → Nat} {sz ck : Int32} {a1 a2 a3 a4 a5 a6 a7 a8 a9 : Nat → Int32}
    (h : oc_R n pl sz a1 a3 a4 a6 a8 a9) (hv : v < 48)
    (H : ∀ (s : Nat) (ck' : Int32) (b3 b4 b5 b6 b7 b8 b9 : Nat → Int32), s < 5 → oc_R n pl sz a1 b3 b4 b6 b8 b9 → oc_S b4 b6 b8 b9 s (oc_ct (oc_g v pl) n) → b3 s = nI v → (∀ t, t < s → ¬ b3 t = nI v) → post (nI (oc_nz (oc_ct (oc_g v pl) n) 192)) (sz, ck', a1, a2, b3, b4, b5, b6, b7, b8, b9)) :
    wpX_full post (sz, ck, a1, a2, a3, a4, a5, a6, a7, a8, a9) (nI v) := by
  unfold wpX_full
  refine oc_isView (by omega) (fun _ => br_f (by decide) ?_) (fun z => absurd z (by omega))
  refine oc_slotFor h hv (fun s ck' b3 b4 b5 b6 b7 b8 b9 hs hR hS h3 hlt => ⟨pk_in s 5 hs, ?_⟩)
  rw [nI_clamp (show s < 2 ^ 31 by omega), hS.1]
  exact H s _ _ _ _ _ _ _ _ hs hR hS h3 hlt
theorem oc_prep {post : Int32 → St1 → Prop} {n v : Nat} {pl : Nat → Nat} {sz ck : Int32} {a1 a2 a3 a4 a5 a6 a7 a8 a9 : Nat → Int32} (hv : v < 2 ^ 31)
    (h : oc_R n pl sz a1 a3 a4 a6 a8 a9)
    (H : ∀ (r : Int32) (n' : Nat) (ql : Nat → Nat) (sz' ck' : Int32) (b1 b2 b3 b4 b5 b6 b7 b8 b9 : Nat → Int32), oc_R n' ql sz' b1 b3 b4 b6 b8 b9 → post r (sz', ck', b1, b2, b3, b4, b5, b6, b7, b8, b9)) :
    wpX_prepare post (sz, ck, a1, a2, a3, a4, a5, a6, a7, a8, a9) (nI v) := by
  unfold wpX_prepare
  by_cases z : v < 48
  · exact oc_full h z (fun s ck' b3 b4 b5 b6 b7 b8 b9 hs hR hS h3 hlt => H _ _ _ _ _ _ _ _ _ _ _ _ _ _ hR)
  · unfold wpX_full
    exact oc_isView hv (fun y => absurd y z) (fun _ => br_t rfl (H _ _ _ _ _ _ _ _ _ _ _ _ _ _ h))
/-! the same where the view stands in slot s: only the clock and the uses change -/
theorem oc_hprep {post : Int32 → St1 → Prop} {v s : Nat} {sz ck : Int32} {a1 a2 a3 a4 a5 a6 a7 a8 a9 : Nat → Int32} (hv : v < 48) (hs : s < 5) (h3 : a3 s = nI v) (hlt : ∀ t, t < s → ¬ a3 t = nI v)
    (H : ∀ (ck' : Int32) (b5 : Nat → Int32), post (a4 s) (sz, ck', a1, a2, a3, a4, b5, a6, a7, a8, a9)) :
    wpX_prepare post (sz, ck, a1, a2, a3, a4, a5, a6, a7, a8, a9) (nI v) := by
  unfold wpX_prepare wpX_full
  refine oc_isView (by omega) (fun _ => br_f (by decide) ?_) (fun z => absurd z (by omega))
  refine oc_hit hs h3 hlt (fun ck' b5 => ⟨pk_in s 5 hs, ?_⟩)
  rw [nI_clamp (show s < 2 ^ 31 by omega)]
  exact H _ _
theorem oc_hcount {post : Int32 → St1 → Prop} {v s c : Nat} {sz ck : Int32} {a1 a2 a3 a4 a5 a6 a7 a8 a9 : Nat → Int32} (hv : v < 48) (hs : s < 5) (h3 : a3 s = nI v) (hlt : ∀ t, t < s → ¬ a3 t = nI v) (hc : c < 192)
    (H : ∀ (ck' : Int32) (b5 : Nat → Int32), post (a6 (192 * s + c)) (sz, ck', a1, a2, a3, a4, b5, a6, a7, a8, a9)) :
    wpX_count post (sz, ck, a1, a2, a3, a4, a5, a6, a7, a8, a9) (nI v) (nI c) := by
  unfold wpX_count
  refine oc_isView (by omega) (fun _ => br_f (by decide) ?_) (fun z => absurd z (by omega))
  refine oc_isCell (by omega) (fun _ => br_f (by decide) ?_) (fun z => absurd z (by omega))
  refine oc_hit hs h3 hlt (fun ck' b5 => ?_)
  dsimp only
  rw [oc_192, nI_clamp (show 192 * s + c < 2 ^ 31 by omega)]
  exact ⟨vp_in_nI (by omega) (by decide), H _ _⟩
theorem oc_hleast {post : Int32 → St1 → Prop} {v s c : Nat} {sz ck : Int32} {a1 a2 a3 a4 a5 a6 a7 a8 a9 : Nat → Int32} (hv : v < 48) (hs : s < 5) (h3 : a3 s = nI v) (hlt : ∀ t, t < s → ¬ a3 t = nI v) (hc : c < 192)
    (H : ∀ (ck' : Int32) (b5 : Nat → Int32), post (a8 (192 * s + c)) (sz, ck', a1, a2, a3, a4, b5, a6, a7, a8, a9)) :
    wpX_least post (sz, ck, a1, a2, a3, a4, a5, a6, a7, a8, a9) (nI v) (nI c) := by
  unfold wpX_least
  refine oc_isView (by omega) (fun _ => br_f (by decide) ?_) (fun z => absurd z (by omega))
  refine oc_isCell (by omega) (fun _ => br_f (by decide) ?_) (fun z => absurd z (by omega))
  refine oc_hit hs h3 hlt (fun ck' b5 => ?_)
  dsimp only
  rw [oc_192, nI_clamp (show 192 * s + c < 2 ^ 31 by omega)]
  exact ⟨vp_in_nI (by omega) (by decide), H _ _⟩
theorem oc_hmost {post : Int32 → St1 → Prop} {v s c : Nat} {sz ck : Int32} {a1 a2 a3 a4 a5 a6 a7 a8 a9 : Nat → Int32} (hv : v < 48) (hs : s < 5) (h3 : a3 s = nI v) (hlt : ∀ t, t < s → ¬ a3 t = nI v) (hc : c < 192)
    (H : ∀ (ck' : Int32) (b5 : Nat → Int32), post (a9 (192 * s + c)) (sz, ck', a1, a2, a3, a4, b5, a6, a7, a8, a9)) :
    wpX_most post (sz, ck, a1, a2, a3, a4, a5, a6, a7, a8, a9) (nI v) (nI c) := by
  unfold wpX_most
  refine oc_isView (by omega) (fun _ => br_f (by decide) ?_) (fun z => absurd z (by omega))
  refine oc_isCell (by omega) (fun _ => br_f (by decide) ?_) (fun z => absurd z (by omega))
  refine oc_hit hs h3 hlt (fun ck' b5 => ?_)
  dsimp only
  rw [oc_192, nI_clamp (show 192 * s + c < 2 ^ 31 by omega)]
  exact ⟨vp_in_nI (by omega) (by decide), H _ _⟩
theorem oc_n30 {post : Int32 → St1 → Prop} {s lo : Nat} {f : Nat → Nat} {x sz ck : Int32} {a1 a2 a3 a4 a5 a6 a7 a8 a9 : Nat → Int32} (hs : s < 5)
    (h6 : ∀ c, c < 192 → a6 (192 * s + c) = nI (f c)) (hb : ∀ c, f c < 2 ^ 31) (hx : ∀ i, i < 192 → (nI i ≤ x ↔ i < lo))
    (H1 : ∀ c, lo ≤ c → c < 192 → 0 < f c → (∀ j, lo ≤ j → j < c → f j = 0) → post (nI c) (sz, ck, a1, a2, a3, a4, a5, a6, a7, a8, a9))
    (H2 : (∀ j, lo ≤ j → j < 192 → f j = 0) → post (-2) (sz, ck, a1, a2, a3, a4, a5, a6, a7, a8, a9)) :
    ∃ k, wX_next_30 post (nI s) x sz ck a1 a2 a3 a4 a5 a6 a7 a8 a9 k 0 := by
  refine pk_loop (σ := Unit) (fun k i _ => wX_next_30 post (nI s) x sz ck a1 a2 a3 a4 a5 a6 a7 a8 a9 k (nI i)) (fun i _ => ∀ j, lo ≤ j → j < i → f j = 0) 192 0 () (by omega) (fun j _ hj => absurd hj (by omega)) ?_ ?_
  · intro k _ hI
    exact pk_le 192 192 (fun _ => H2 hI) (fun z => absurd z (by omega))
  · intro k i _ hi hI hw
    refine pk_le 192 i (fun z => absurd z (by omega)) (fun _ => ek_if (hx i hi) (fun z => nm_r (nI_1 i) (hw () (fun j j1 j2 => absurd j2 (by omega)))) (fun z => ?_))
    rw [oc_192, nI_clamp (show 192 * s + i < 2 ^ 31 by omega), h6 i hi]
    have hb' := hb i
    refine ⟨vp_in_nI (by omega) (by decide), pk_le (f i) 0 (fun y => nm_r (nI_1 i) (hw () (fun j j1 j2 => ?_))) (fun y => H1 i (by omega) hi y hI)⟩
    by_cases e : j = i
    · rw [e]
      exact Nat.le_zero.mp y
    · exact hI j j1 (by omega)
theorem oc_ge1 {i : Nat} (hi : i < 2 ^ 31) : (-1 : Int32) ≤ nI i := by
  rw [Int32.le_iff_toInt_le, nI_toInt hi, show (-1 : Int32).toInt = -1 from by decide]
  omega
theorem oc_le1 {i : Nat} (hi : i < 2 ^ 31) : ¬ nI i ≤ (-1 : Int32) := by
  rw [Int32.le_iff_toInt_le, nI_toInt hi, show (-1 : Int32).toInt = -1 from by decide]
  omega
theorem oc_hnext {post : Int32 → St1 → Prop} {v s lo : Nat} {f : Nat → Nat} {x sz ck : Int32} {a1 a2 a3 a4 a5 a6 a7 a8 a9 : Nat → Int32} (hv : v < 48) (hs : s < 5) (h3 : a3 s = nI v) (hlt : ∀ t, t < s → ¬ a3 t = nI v)
    (h6 : ∀ c, c < 192 → a6 (192 * s + c) = nI (f c)) (hb : ∀ c, f c < 2 ^ 31) (hx1 : (-1) ≤ x) (hx : ∀ i, i < 192 → (nI i ≤ x ↔ i < lo))
    (H1 : ∀ (ck' : Int32) (b5 : Nat → Int32) (c : Nat), lo ≤ c → c < 192 → 0 < f c → (∀ j, lo ≤ j → j < c → f j = 0) → post (nI c) (sz, ck', a1, a2, a3, a4, b5, a6, a7, a8, a9))
    (H2 : ∀ (ck' : Int32) (b5 : Nat → Int32), (∀ j, lo ≤ j → j < 192 → f j = 0) → post (-2) (sz, ck', a1, a2, a3, a4, b5, a6, a7, a8, a9)) :
    wpX_next post (sz, ck, a1, a2, a3, a4, a5, a6, a7, a8, a9) (nI v) x := by
  unfold wpX_next
  refine oc_isView (by omega) (fun _ => br_f (by decide) ?_) (fun z => absurd z (by omega))
  exact oc_hit hs h3 hlt (fun ck' b5 => br_t hx1 (oc_n30 hs h6 hb hx (H1 ck' b5) (H2 ck' b5)))
/-! the walk over a view's full cells -/
def oc_I (f : Nat → Nat) (i : Nat) (x4 x5 x6 : Int32) : Prop :=
  ∃ q, q ≤ 192 ∧ x4 = nI (oc_sm f q) ∧ x5 = nI (oc_nz f q) ∧ ((q = 192 ∧ x6 = -2) ∨ (q < 192 ∧ 0 < f q ∧ x6 = nI q ∧ oc_nz f q = i))
theorem oc_w28 {post : Int32 → St1 → Prop} {n v s : Nat} {f : Nat → Nat} {x4 x5 x6 sz ck : Int32} {a1 a2 a3 a4 a5 a6 a7 a8 a9 : Nat → Int32} (hv : v < 48) (hs : s < 5) (h3 : a3 s = nI v) (hlt : ∀ t, t < s → ¬ a3 t = nI v)
    (hS : oc_S a4 a6 a8 a9 s f) (hb : ∀ c, f c < 2 ^ 31) (hn : n ≤ 40) (hsum : oc_sm f 192 = n) (hI : oc_I f 0 x4 x5 x6)
    (H : ∀ (ck' : Int32) (b5 : Nat → Int32), post 1 (sz, ck', a1, a2, a3, a4, b5, a6, a7, a8, a9)) :
    ∃ k, wL_walks_28 post (nI v) (nI n) (nI (oc_nz f 192)) k x4 x5 x6 0 sz ck a1 a2 a3 a4 a5 a6 a7 a8 a9 := by
  have hfull : oc_nz f 192 ≤ 40 := by
    have z := oc_nz_sm f 192
    omega
  refine pk_loop (σ := Int32 × Int32 × Int32 × Int32 × (Nat → Int32)) (fun k i st => wL_walks_28 post (nI v) (nI n) (nI (oc_nz f 192)) k st.1 st.2.1 st.2.2.1 (nI i) sz st.2.2.2.1 a1 a2 a3 a4 st.2.2.2.2 a6 a7 a8 a9)
    (fun i st => oc_I f i st.1 st.2.1 st.2.2.1) 41 0 (x4, x5, x6, ck, a5) (by omega) hI ?_ ?_
  · rintro k ⟨y4, y5, y6, ck', b5⟩ ⟨q, hq, e4, e5, hc⟩
    dsimp only at e4 e5 hc
    refine pk_le 41 41 (fun _ => ?_) (fun z => absurd z (by omega))
    rcases hc with ⟨rfl, e6⟩ | ⟨q1, q2, q3, q4⟩
    · refine oc_hprep hv hs h3 hlt (fun ck2 c5 => ?_)
      rw [hsum] at e4
      exact br_t e6 (br_t e4 (br_t e5 (br_t hS.1 (H _ _))))
    · have z := oc_nz_le (f := f) 192 (show q + 1 ≤ 192 by omega)
      rw [oc_nz_s, if_neg (by omega)] at z
      omega
  · rintro k i ⟨y4, y5, y6, ck', b5⟩ hi ⟨q, hq, e4, e5, hc⟩ hw
    dsimp only at e4 e5 hc
    show wL_walks_28 post (nI v) (nI n) (nI (oc_nz f 192)) (k + 1) y4 y5 y6 (nI i) sz ck' a1 a2 a3 a4 b5 a6 a7 a8 a9
    refine pk_le 41 i (fun z => absurd z (by omega)) (fun _ => ?_)
    rcases hc with ⟨rfl, e6⟩ | ⟨q1, q2, q3, q4⟩
    · exact br_t (by rw [e6]; decide) (nm_r (nI_1 i) (hw (y4, y5, y6, ck', b5) ⟨192, by omega, e4, e5, Or.inl ⟨rfl, e6⟩⟩))
    · have e1 : oc_nz f (q + 1) = oc_nz f q + 1 := by rw [oc_nz_s, if_neg (by omega)]
      have e2 : oc_sm f (q + 1) = oc_sm f q + f q := rfl
      have hfq := hb q
      subst q3
      refine br_f (nI_pos (by omega)) ?_
      refine oc_hcount hv hs h3 hlt q1 (fun ck1 c5 => ?_)
      refine oc_hleast hv hs h3 hlt q1 (fun ck2 d5 => ?_)
      refine oc_hmost hv hs h3 hlt q1 (fun ck3 f5 => ?_)
      have hle := hS.2.2 q q1 q2
      refine br_f (Int32.not_lt.mpr hle) ?_
      rw [hS.2.1 q q1]
      refine pk_le 1 (f q) (fun _ => nm_r (e' := nI (oc_sm f (q + 1))) (by rw [e4, e2, nI_add]) (nm_r (e' := nI (oc_nz f (q + 1))) (by rw [e5, e1, nI_1]) ?_)) (fun z => absurd z (by omega))
      refine oc_hnext (lo := q + 1) hv hs h3 hlt hS.2.1 hb (oc_ge1 (by omega)) (fun j hj => ?_) (fun ck4 g5 c c1 c2 c3 c4 => nm_r (nI_1 i) (hw (nI (oc_sm f (q + 1)), nI (oc_nz f (q + 1)), nI c, ck4, g5) ?_)) (fun ck4 g5 c4 => nm_r (nI_1 i) (hw (nI (oc_sm f (q + 1)), nI (oc_nz f (q + 1)), -2, ck4, g5) ?_))
      · rw [nI_leI (by omega) (by omega)]
        omega
      · have g := oc_gap c c1 c4
        exact ⟨c, by omega, by rw [g.2], by rw [g.1], Or.inr ⟨c2, c3, rfl, by omega⟩⟩
      · have g := oc_gap 192 (by omega) c4
        exact ⟨192, by omega, by rw [g.2], by rw [g.1], Or.inl ⟨rfl, rfl⟩⟩
theorem oc_walks {post : Int32 → St1 → Prop} {n v : Nat} {pl : Nat → Nat} {sz ck : Int32} {a1 a2 a3 a4 a5 a6 a7 a8 a9 : Nat → Int32} (hv : v < 48)
    (h : oc_R n pl sz a1 a3 a4 a6 a8 a9)
    (H : ∀ (ck' : Int32) (b3 b4 b5 b6 b7 b8 b9 : Nat → Int32), oc_R n pl sz a1 b3 b4 b6 b8 b9 → post 1 (sz, ck', a1, a2, b3, b4, b5, b6, b7, b8, b9)) :
    wpL_walks post (sz, ck, a1, a2, a3, a4, a5, a6, a7, a8, a9) (nI v) := by
  have hz : sz = nI n := h.2.1
  have hn : n ≤ 40 := h.1
  have hp : ∀ i, i < n → pl i < 192 := fun i hi => (h.2.2.1 i hi).1
  have hb : ∀ c, oc_ct (oc_g v pl) n c < 2 ^ 31 := fun c => Nat.lt_of_le_of_lt (oc_ct_le _ c n) (by omega)
  have hsum : oc_sm (oc_ct (oc_g v pl) n) 192 = n := oc_sm_ct (g := oc_g v pl) n (fun i hi => oc_sa_lt (hp i hi))
  subst hz
  unfold wpL_walks wpX_facts
  refine oc_full h hv (fun s ck1 b3 b4 b5 b6 b7 b8 b9 hs hR hS h3 hlt => ?_)
  refine oc_hnext (lo := 0) hv hs h3 hlt hS.2.1 hb (by decide) (fun j hj => ?_) (fun ck2 c5 c c1 c2 c3 c4 => ?_) (fun ck2 c5 c4 => ?_)
  · exact ⟨fun z => absurd z (oc_le1 (by omega)), fun z => absurd z (by omega)⟩
  · have g := oc_gap c c1 c4
    refine oc_w28 hv hs h3 hlt hS hb hn hsum ⟨c, by omega, ?_, ?_, Or.inr ⟨c2, c3, rfl, g.1⟩⟩ (fun ck3 d5 => H _ _ _ _ _ _ _ _ hR)
    · rw [g.2]; rfl
    · rw [g.1]; rfl
  · have g := oc_gap 192 (by omega) c4
    refine oc_w28 hv hs h3 hlt hS hb hn hsum ⟨192, by omega, ?_, ?_, Or.inl ⟨rfl, rfl⟩⟩ (fun ck3 d5 => H _ _ _ _ _ _ _ _ hR)
    · rw [g.2]; rfl
    · rw [g.1]; rfl
end
section
/-! the law -/
theorem oc_init {post : St1 → Prop} (H : ∀ (pl : Nat → Nat) (sz ck : Int32) (b1 b2 b3 b4 b5 b6 b7 b8 b9 : Nat → Int32), oc_R 0 pl sz b1 b3 b4 b6 b8 b9 → post (sz, ck, b1, b2, b3, b4, b5, b6, b7, b8, b9)) :
    wpX_init post 9 3935 (0, 0) := by
  unfold wpX_init
  refine ⟨by decide, by decide, by decide, by decide, by decide, by decide, by decide, by decide, by decide, by decide, by decide, by decide, by decide, by decide, by decide, by decide, by decide, by decide, ?_⟩
  refine pk_loop (σ := Nat → Int32) (fun k i b3 => wX_init_79 post 9 3935 9 3935 0 0 k (nI i) (fun _ => 0) (fun _ => 0) b3 (fun _ => 0) (fun _ => 0) (fun _ => 0) (fun _ => 0) (fun _ => 0) (fun _ => 0)) (fun i b3 => 1 ≤ i ∧ b3 0 = nI 0 ∧ ∀ t, 1 ≤ t → t < i → b3 t = -1)
    5 1 (fun _ => 0) (by omega) ⟨by omega, rfl, fun t h1 h2 => absurd h2 (by omega)⟩ ?_ ?_
  · intro k b3 ⟨_, g0, g1⟩
    refine pk_le 5 5 (fun _ => ?_) (fun z => absurd z (by omega))
    refine oc_wipe (s := 0) (by omega) (fun b4 b6 b7 b8 b9 hF hS => H (fun _ => 0) _ _ _ _ _ _ _ _ _ _ _ ⟨by omega, rfl, fun i hi => absurd hi (by omega), g0, fun s hs => ?_⟩)
    by_cases e : s = 0
    · rw [e]
      exact Or.inr ⟨0, by omega, g0, hS⟩
    · exact Or.inl (g1 s (by omega) hs)
  · intro k i b3 hi ⟨gi, g0, g1⟩ hw
    have ei : (nI i).toNatClampNeg = i := nI_clamp (by omega)
    refine pk_le 5 i (fun z => absurd z (by omega)) (fun _ => ⟨pk_in i 5 hi, nm_r (e' := upd b3 i (-1)) (by rw [ei]) (nm_r (nI_1 i) (hw _ ⟨by omega, ?_, fun t h1 h2 => ?_⟩))⟩)
    · rw [pk_un (by omega)]
      exact g0
    · by_cases e : t = i
      · rw [e, pk_us]
      · rw [pk_un e]
        exact g1 t h1 (by omega)
theorem oc_act {post : Int32 → St1 → Prop} {n : Nat} {pl : Nat → Nat} {sz ck p1 p2 p3 p4 : Int32} {a1 a2 a3 a4 a5 a6 a7 a8 a9 : Nat → Int32}
    (h : oc_R n pl sz a1 a3 a4 a6 a8 a9)
    (H : ∀ (r : Int32) (n' : Nat) (ql : Nat → Nat) (sz' ck' : Int32) (b1 b2 b3 b4 b5 b6 b7 b8 b9 : Nat → Int32), oc_R n' ql sz' b1 b3 b4 b6 b8 b9 → post r (sz', ck', b1, b2, b3, b4, b5, b6, b7, b8, b9)) :
    wpL_act post (sz, ck, a1, a2, a3, a4, a5, a6, a7, a8, a9) p1 p2 p3 p4 := by
  obtain ⟨x, hx, ex⟩ := oc_m255 p2 (D := 193) 193 (by decide) (by decide) rfl
  obtain ⟨y, hy, ey⟩ := oc_m255 p3 (D := 193) 193 (by decide) (by decide) rfl
  obtain ⟨c, hc, ec⟩ := oc_m255 p4 (D := 42) 42 (by decide) (by decide) rfl
  obtain ⟨w, hw, ew⟩ := oc_m255 p2 (D := 41) 41 (by decide) (by decide) rfl
  obtain ⟨u, hu, eu⟩ := oc_m255 p2 (D := 49) 49 (by decide) (by decide) rfl
  have A : wL_act_22 post p4 (nI x) sz ck a1 a2 a3 a4 a5 a6 a7 a8 a9 := by
    unfold wL_act_22
    exact oc_putm (by omega) h H
  unfold wpL_act
  refine ⟨by decide, nm_r ex ?_⟩
  rw [ey, ec, ew, eu]
  refine br_c (fun _ => A) (fun _ => br_c (fun _ => A) (fun _ => br_c (fun _ => ⟨by decide, by decide, ?_⟩) (fun _ => br_c (fun _ => ⟨by decide, ?_⟩) (fun _ => br_c (fun _ => ⟨by decide, ?_⟩) (fun _ => ⟨by decide, ?_⟩)))))
  · exact oc_sow (by omega) (by omega) (by omega) h H
  · exact oc_measure (by omega) h H
  · exact oc_drop (by omega) h H
  · exact oc_prep (by omega) h H
theorem oc_finer {post : Int32 → Prop} {f v : Nat} {sz ck : Int32} {a1 a2 a3 a4 a5 a6 a7 a8 a9 : Nat → Int32} (hf : f < 48) (hv : v < 48) (H1 : oc_fi f v → post 1) (H0 : ¬ oc_fi f v → post 0) :
    wpX_finer post (sz, ck, a1, a2, a3, a4, a5, a6, a7, a8, a9) (nI f) (nI v) := by
  unfold wpX_finer
  refine oc_isView (by omega) (fun _ => br_f (by decide) ?_) (fun z => absurd z (by omega))
  refine oc_isView (by omega) (fun _ => br_f (by decide) ?_) (fun z => absurd z (by omega))
  exact oc_isFiner hf hv (fun z => br_f (by decide) (H1 z)) (fun z => br_t rfl (H0 z))
theorem i_vc (xs : Nat → Int32) (L : Nat) (hL : L ≤ 260) : wpL_law (fun r => r = 1) L xs := by
  unfold wpL_law
  refine ⟨9, 3935, by decide, by decide, oc_init (fun pl sz ck a1 a2 a3 a4 a5 a6 a7 a8 a9 hR => ?_)⟩
  refine pk_loop (σ := St1)
    (fun k j u => wL_law_10 (fun r => r = 1) L xs (1 + 9) (11 + 3935) k (nI (4 * j)) u.1 u.2.1 u.2.2.1 u.2.2.2.1 u.2.2.2.2.1 u.2.2.2.2.2.1 u.2.2.2.2.2.2.1 u.2.2.2.2.2.2.2.1 u.2.2.2.2.2.2.2.2.1 u.2.2.2.2.2.2.2.2.2.1 u.2.2.2.2.2.2.2.2.2.2)
    (fun j u => ∃ n' ql, oc_R n' ql u.1 u.2.2.1 u.2.2.2.2.1 u.2.2.2.2.2.1 u.2.2.2.2.2.2.2.1 u.2.2.2.2.2.2.2.2.2.1 u.2.2.2.2.2.2.2.2.2.2)
    (L / 4) 0 (sz, ck, a1, a2, a3, a4, a5, a6, a7, a8, a9) (by omega) ⟨0, pl, hR⟩ ?_ ?_
  · rintro k ⟨sz', ck', b1, b2, b3, b4, b5, b6, b7, b8, b9⟩ ⟨n', ql, h'⟩
    exact pk_le L (4 * (L / 4) + 3) (fun _ => rfl) (fun z => absurd z (by omega)) (hy := nI_add (4 * (L / 4)) 3)
  · rintro k j ⟨sz', ck', b1, b2, b3, b4, b5, b6, b7, b8, b9⟩ hj ⟨n', ql, h'⟩ hw
    have i0 : vp_in (nI (4 * j)) L := pk_in (4 * j) L (by omega)
    have i1 : vp_in (nI (4 * j) + 1) L := pk_in (4 * j + 1) L (by omega) (hx := nI_add (4 * j) 1)
    have i2 : vp_in (nI (4 * j) + 2) L := pk_in (4 * j + 2) L (by omega) (hx := nI_add (4 * j) 2)
    have i3 : vp_in (nI (4 * j) + 3) L := pk_in (4 * j + 3) L (by omega) (hx := nI_add (4 * j) 3)
    have e4 : nI (4 * j) + 4 = nI (4 * (j + 1)) := nI_add (4 * j) 4
    obtain ⟨v, hv, ev⟩ := oc_m255 (xs (nI (4 * j) + 2).toNatClampNeg) (D := 48) 48 (by decide) (by decide) rfl
    obtain ⟨g, hg, eg⟩ := oc_m255 (xs (nI (4 * j) + 3).toNatClampNeg) (D := 48) 48 (by decide) (by decide) rfl
    show wL_law_10 (fun r => r = 1) L xs (1 + 9) (11 + 3935) (k + 1) (nI (4 * j)) sz' ck' b1 b2 b3 b4 b5 b6 b7 b8 b9
    refine pk_le L (4 * j + 3) (fun z => absurd z (by omega)) (fun _ => ⟨i0, i1, i2, i3, ?_⟩) (hy := nI_add (4 * j) 3)
    refine oc_act h' (fun r n2 pl2 sz2 ck2 c1 c2 c3 c4 c5 c6 c7 c8 c9 h2 => ⟨i2, by decide, nm_r ev ⟨i3, by decide, nm_r eg ?_⟩⟩)
    refine oc_walks hv h2 (fun ck3 d3 d4 d5 d6 d7 d8 d9 h3 => br_f (by decide) ?_)
    have hp : ∀ i, i < n2 → pl2 i < 192 := fun i hi => (h3.2.2.1 i hi).1
    have hn : n2 ≤ 40 := h3.1
    refine oc_finer (f := 0) (by omega) hv (fun _ => ?_) (fun z => absurd (oc_fi_0 v) z)
    refine oc_finer hv hv (fun _ => ?_) (fun z => absurd (oc_fi_v v) z)
    refine br_t rfl (br_t rfl (oc_finer hv hg (fun hf => ?_) (fun hf => ?_)))
    · refine oc_full h3 hv (fun s ck4 f3 f4 f5 f6 f7 f8 f9 _ h4 _ _ _ => ?_)
      refine oc_full h4 hg (fun s ck5 g3 g4 g5 g6 g7 g8 g9 _ h5 _ _ _ => ?_)
      have hm := oc_mono hv hg hf hp
      have hle := oc_full_le (v := v) hp
      exact br_t rfl (br_t (nI_le hm (by omega)) (nm_r e4 (hw (sz2, ck5, c1, c2, g3, g4, g5, g6, g7, g8, g9) ⟨n2, pl2, h5⟩)))
    · refine oc_full h3 hv (fun s ck4 f3 f4 f5 f6 f7 f8 f9 _ h4 _ _ _ => ?_)
      refine oc_full h4 hg (fun s ck5 g3 g4 g5 g6 g7 g8 g9 _ h5 _ _ _ => ?_)
      exact br_f (by decide) (nm_r e4 (hw (sz2, ck5, c1, c2, g3, g4, g5, g6, g7, g8, g9) ⟨n2, pl2, h5⟩))
end
