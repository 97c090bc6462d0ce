section
/-- an int and a long as integers -/
def ps_I (x : Int) : Int32 := Int32.ofInt x
def ps_L (x : Int) : Int64 := Int64.ofInt x
theorem ps_Ladd (a b : Int) : ps_L a + ps_L b = ps_L (a + b) := (Int64.ofInt_add a b).symm
theorem ps_Lsub (a b : Int) : ps_L a - ps_L b = ps_L (a - b) := (Int64.ofInt_sub a b).symm
theorem ps_Lmul (a b : Int) : ps_L a * ps_L b = ps_L (a * b) := (Int64.ofInt_mul a b).symm
theorem ps_Lneg (a : Int) : -ps_L a = ps_L (-a) := (Int64.ofInt_neg a).symm
theorem ps_Iadd (a b : Int) : ps_I a + ps_I b = ps_I (a + b) := (Int32.ofInt_add a b).symm
theorem ps_Isub (a b : Int) : ps_I a - ps_I b = ps_I (a - b) := (Int32.ofInt_sub a b).symm
theorem ps_Imul (a b : Int) : ps_I a * ps_I b = ps_I (a * b) := (Int32.ofInt_mul a b).symm
theorem ps_Ltoi {a : Int} (h : -9000000000000000000 ≤ a ∧ a ≤ 9000000000000000000) : (ps_L a).toInt = a := Int64.toInt_ofInt_of_le (by omega) (by omega)
theorem ps_Itoi {a : Int} (h : -2000000000 ≤ a ∧ a ≤ 2000000000) : (ps_I a).toInt = a := Int32.toInt_ofInt_of_le (by omega) (by omega)
theorem ps_Lle {a b : Int} (ha : -9000000000000000000 ≤ a ∧ a ≤ 9000000000000000000) (hb : -9000000000000000000 ≤ b ∧ b ≤ 9000000000000000000) : ps_L a ≤ ps_L b ↔ a ≤ b := by
  rw [Int64.le_iff_toInt_le, ps_Ltoi ha, ps_Ltoi hb]
theorem ps_Llt {a b : Int} (ha : -9000000000000000000 ≤ a ∧ a ≤ 9000000000000000000) (hb : -9000000000000000000 ≤ b ∧ b ≤ 9000000000000000000) : ps_L a < ps_L b ↔ a < b := by
  rw [Int64.lt_iff_toInt_lt, ps_Ltoi ha, ps_Ltoi hb]
theorem ps_Leq {a b : Int} (ha : -9000000000000000000 ≤ a ∧ a ≤ 9000000000000000000) (hb : -9000000000000000000 ≤ b ∧ b ≤ 9000000000000000000) : ps_L a = ps_L b ↔ a = b := by
  rw [← Int64.toInt_inj, ps_Ltoi ha, ps_Ltoi hb]
theorem ps_Ile {a b : Int} (ha : -2000000000 ≤ a ∧ a ≤ 2000000000) (hb : -2000000000 ≤ b ∧ b ≤ 2000000000) : ps_I a ≤ ps_I b ↔ a ≤ b := by
  rw [Int32.le_iff_toInt_le, ps_Itoi ha, ps_Itoi hb]
theorem ps_Ilt {a b : Int} (ha : -2000000000 ≤ a ∧ a ≤ 2000000000) (hb : -2000000000 ≤ b ∧ b ≤ 2000000000) : ps_I a < ps_I b ↔ a < b := by
  rw [Int32.lt_iff_toInt_lt, ps_Itoi ha, ps_Itoi hb]
theorem ps_Ieq {a b : Int} (ha : -2000000000 ≤ a ∧ a ≤ 2000000000) (hb : -2000000000 ≤ b ∧ b ≤ 2000000000) : ps_I a = ps_I b ↔ a = b := by
  rw [← Int32.toInt_inj, ps_Itoi ha, ps_Itoi hb]
theorem ps_Ldiv {a b : Int} (ha : -9000000000000000000 ≤ a ∧ a ≤ 9000000000000000000) (hb : -9000000000000000000 ≤ b ∧ b ≤ 9000000000000000000) : ps_L a / ps_L b = ps_L (a.tdiv b) :=
  (Int64.ofInt_tdiv (by rw [Int64.toInt_minValue]; omega) (by rw [Int64.toInt_maxValue]; omega) (by rw [Int64.toInt_minValue]; omega) (by rw [Int64.toInt_maxValue]; omega)).symm
theorem ps_Idiv {a b : Int} (ha : -2000000000 ≤ a ∧ a ≤ 2000000000) (hb : -2000000000 ≤ b ∧ b ≤ 2000000000) : ps_I a / ps_I b = ps_I (a.tdiv b) :=
  (Int32.ofInt_tdiv (by rw [Int32.toInt_minValue]; omega) (by rw [Int32.toInt_maxValue]; omega) (by rw [Int32.toInt_minValue]; omega) (by rw [Int32.toInt_maxValue]; omega)).symm
theorem ps_In (n : Nat) : nI n = ps_I n := Int32.ofInt_eq_ofNat.symm
theorem ps_Ln (n : Nat) : lN n = ps_L n := Int64.ofInt_eq_ofNat.symm
theorem ps_I64 {a : Int} (h : -2000000000 ≤ a ∧ a ≤ 2000000000) : (ps_I a).toInt64 = ps_L a :=
  Int32.toInt64_ofInt (by rw [Int32.toInt_minValue]; omega) (by rw [Int32.toInt_maxValue]; omega)
theorem ps_L32 (a : Int) : (ps_L a).toInt32 = ps_I a := Int64.toInt32_ofInt
theorem ps_I8 {a : Int} (h : -128 ≤ a ∧ a ≤ 127) : (ps_I a).toInt8.toInt32 = ps_I a := by
  apply Int32.toInt_inj.1
  rw [Int8.toInt_toInt32, Int32.toInt_toInt8, ps_Itoi (by omega)]
  exact Int.bmod_eq_of_le (by omega) (by omega)
/-- one entry of a step of elimination: the division comes out even -/
theorem ps_ent {m p f n b y : Int} (h : m * p - f * n = y * b) (hb : 0 < b ∧ b ≤ 9000000000000000000) (hy : -9000000000000000000 ≤ y * b ∧ y * b ≤ 9000000000000000000) : (ps_L m * ps_L p - ps_L f * ps_L n) / ps_L b = ps_L y := by
  rw [ps_Lmul, ps_Lmul, ps_Lsub, h, ps_Ldiv hy (by omega), Int.mul_tdiv_cancel _ (by omega)]
/-- rows and tables: the equations ahead of stage k -/
def ps_v (x0 x1 x2 x3 x4 : Int) (c : Nat) : Int := match c with
  | 0 => x0
  | 1 => x1
  | 2 => x2
  | 3 => x3
  | _ => x4
def ps_m (r0 r1 r2 r3 : Nat → Int) (i : Nat) : Nat → Int := match i with
  | 0 => r0
  | 1 => r1
  | 2 => r2
  | _ => r3
def ps_T (A g u v : Int) (k : Nat) : Nat → Nat → Int := match k with
  | 0 => ps_m (ps_v A (-g) 0 0 u) (ps_v 0 4 0 0 v) (ps_v 0 0 4 0 0) (ps_v 0 0 0 4 0)
  | 1 => ps_m (ps_v A (-g) 0 0 u) (ps_v 0 (4 * A) 0 0 (A * v)) (ps_v 0 0 (4 * A) 0 0) (ps_v 0 0 0 (4 * A) 0)
  | 2 => ps_m (ps_v (4 * A) 0 0 0 (4 * u + g * v)) (ps_v 0 (4 * A) 0 0 (A * v)) (ps_v 0 0 (16 * A) 0 0) (ps_v 0 0 0 (16 * A) 0)
  | 3 => ps_m (ps_v (16 * A) 0 0 0 (16 * u + 4 * (g * v))) (ps_v 0 (16 * A) 0 0 (4 * (A * v))) (ps_v 0 0 (16 * A) 0 0) (ps_v 0 0 0 (64 * A) 0)
  | _ => ps_m (ps_v (64 * A) 0 0 0 (64 * u + 16 * (g * v))) (ps_v 0 (64 * A) 0 0 (16 * (A * v))) (ps_v 0 0 (64 * A) 0 0) (ps_v 0 0 0 (64 * A) 0)
def ps_B (A : Int) (k : Nat) : Int := match k with
  | 0 => 1
  | 1 => A
  | 2 => 4 * A
  | 3 => 16 * A
  | _ => 64 * A
theorem ps_4 {k : Nat} (h : k < 4) : k = 0 ∨ k = 1 ∨ k = 2 ∨ k = 3 := by omega
theorem ps_5 {k : Nat} (h : k < 5) : k = 0 ∨ k = 1 ∨ k = 2 ∨ k = 3 ∨ k = 4 := by omega
theorem ps_Tk {A g u v : Int} {k : Nat} (hk : k < 4) (c : Nat) : ps_T A g u v (k + 1) k c = ps_T A g u v k k c := by
  rcases ps_4 hk with rfl | rfl | rfl | rfl <;> rfl
theorem ps_Bk {A g u v : Int} {k : Nat} (hk : k < 4) : ps_B A (k + 1) = ps_T A g u v k k k := by
  rcases ps_4 hk with rfl | rfl | rfl | rfl <;> rfl
theorem ps_Tid {A g u v : Int} {k r c : Nat} (hk : k < 4) (hr : r < 4) (hc : c < 5) (n : r ≠ k) : ps_T A g u v k r c * ps_T A g u v k k k - ps_T A g u v k r k * ps_T A g u v k k c = ps_T A g u v (k + 1) r c * ps_B A k := by
  rcases ps_4 hk with rfl | rfl | rfl | rfl <;> rcases ps_4 hr with rfl | rfl | rfl | rfl <;> first | exact absurd rfl n | (rcases ps_5 hc with rfl | rfl | rfl | rfl | rfl <;> simp only [ps_T, ps_m, ps_v, ps_B] <;> grind)
theorem ps_Bb {A : Int} (hA : 4 ≤ A ∧ A ≤ 8) {k : Nat} (hk : k < 5) : 0 < ps_B A k ∧ ps_B A k ≤ 512 := by
  rcases ps_5 hk with rfl | rfl | rfl | rfl | rfl <;> simp only [ps_B] <;> omega
theorem ps_Tb {A g u v : Int} (hA : 4 ≤ A ∧ A ≤ 8) (hg : 0 ≤ g ∧ g ≤ 4) (hu : -160 ≤ u ∧ u ≤ 160) (hy : -640 ≤ g * v ∧ g * v ≤ 640) (hz : -1280 ≤ A * v ∧ A * v ≤ 1280) (hv : -160 ≤ v ∧ v ≤ 160) {k r c : Nat} (hk : k < 5) (hr : r < 4) (hc : c < 5) : -100000 ≤ ps_T A g u v k r c ∧ ps_T A g u v k r c ≤ 100000 := by
  rcases ps_5 hk with rfl | rfl | rfl | rfl | rfl <;> rcases ps_4 hr with rfl | rfl | rfl | rfl <;> rcases ps_5 hc with rfl | rfl | rfl | rfl | rfl <;> simp only [ps_T, ps_m, ps_v] <;> omega
theorem ps_pb {t b : Int} (ht : -100000 ≤ t ∧ t ≤ 100000) (hb : 0 < b ∧ b ≤ 512) : -9000000000000000000 ≤ t * b ∧ t * b ≤ 9000000000000000000 := by
  have h1 : t * b ≤ 100000 * b := Int.mul_le_mul_of_nonneg_right ht.2 (by omega)
  have h2 : -100000 * b ≤ t * b := Int.mul_le_mul_of_nonneg_right ht.1 (by omega)
  omega
/-- what the numbers of a table are held to -/
def ps_ok (A g u v : Int) : Prop := (4 ≤ A ∧ A ≤ 8) ∧ (0 ≤ g ∧ g ≤ 4) ∧ (-160 ≤ u ∧ u ≤ 160) ∧ (-160 ≤ v ∧ v ≤ 160)
theorem ps_gv {g v : Int} (hg : 0 ≤ g ∧ g ≤ 8) (hv : -160 ≤ v ∧ v ≤ 160) : -160 * g ≤ g * v ∧ g * v ≤ 160 * g := by
  have h1 : v * g ≤ 160 * g := Int.mul_le_mul_of_nonneg_right hv.2 hg.1
  have h2 : -160 * g ≤ v * g := Int.mul_le_mul_of_nonneg_right hv.1 hg.1
  rw [Int.mul_comm g v]
  exact ⟨h2, h1⟩
theorem ps_okT {A g u v : Int} (h : ps_ok A g u v) {k r c : Nat} (hk : k < 5) (hr : r < 4) (hc : c < 5) : -100000 ≤ ps_T A g u v k r c ∧ ps_T A g u v k r c ≤ 100000 := by
  obtain ⟨hA, hg, hu, hv⟩ := h
  have h1 := ps_gv (g := g) (by omega) hv
  have h2 := ps_gv (g := A) (by omega) hv
  exact ps_Tb hA hg hu (by omega) (by omega) hv hk hr hc
/-- the entries of a row behind a step -/
theorem ps_step {A g u v : Int} (h : ps_ok A g u v) {k r c : Nat} (hk : k < 4) (hr : r < 4) (hc : c < 5) (n : r ≠ k) : (ps_L (ps_T A g u v k r c) * ps_L (ps_T A g u v k k k) - ps_L (ps_T A g u v k r k) * ps_L (ps_T A g u v k k c)) / ps_L (ps_B A k) = ps_L (ps_T A g u v (k + 1) r c) :=
  ps_ent (ps_Tid hk hr hc n) (by have := ps_Bb h.1 (show k < 5 by omega); omega) (ps_pb (ps_okT h (by omega) hr hc) (ps_Bb h.1 (by omega)))
theorem ps_Bne {A : Int} (hA : 4 ≤ A ∧ A ≤ 8) {k : Nat} (hk : k < 5) : ¬ ps_L (ps_B A k) = 0 := by
  have hb := ps_Bb hA hk
  intro z
  have e : (0 : Int64) = ps_L 0 := by decide
  rw [e, ps_Leq (by omega) (by omega)] at z
  omega
end
section
theorem ps_fL {f s : Nat → Int64} {i k : Nat} {x : Int64} (hk : k = i) (h : ∀ j, j < i → s j = f j) (hx : x = f i) : ∀ j, j < i + 1 → vp_updL s k x j = f j := by
  intro j hj
  rw [hk]
  by_cases e : j = i
  · rw [e, pk_uLs, hx]
  · rw [pk_uLn e]
    exact h j (by omega)
theorem ps_ix (c a b : Nat) : nI c * nI a + nI b = nI (c * a + b) := by rw [pk_mul, nI_add]
theorem ps_ix2 (a b : Nat) : (2 : Int32) * nI a + nI b = nI (2 * a + b) := ps_ix 2 a b
theorem ps_ix4 (a b : Nat) : (4 : Int32) * nI a + nI b = nI (4 * a + b) := ps_ix 4 a b
theorem ps_ix5 (a b : Nat) : (5 : Int32) * nI a + nI b = nI (5 * a + b) := ps_ix 5 a b
theorem ps_ix54 (a : Nat) : (5 : Int32) * nI a + 4 = nI (5 * a + 4) := ps_ix 5 a 4
theorem ps_cl2 {a b : Nat} (h : 2 * a + b < 2 ^ 31) : ((2 : Int32) * nI a + nI b).toNatClampNeg = 2 * a + b := by rw [ps_ix2, nI_clamp h]
theorem ps_cl4 {a b : Nat} (h : 4 * a + b < 2 ^ 31) : ((4 : Int32) * nI a + nI b).toNatClampNeg = 4 * a + b := by rw [ps_ix4, nI_clamp h]
theorem ps_cl5 {a b : Nat} (h : 5 * a + b < 2 ^ 31) : ((5 : Int32) * nI a + nI b).toNatClampNeg = 5 * a + b := by rw [ps_ix5, nI_clamp h]
theorem ps_cl54 {a : Nat} (h : 5 * a + 4 < 2 ^ 31) : ((5 : Int32) * nI a + 4).toNatClampNeg = 5 * a + 4 := by rw [ps_ix54, nI_clamp h]
section
variable {f1 f2 : Int64} {f3 f4 : Int32} {f5 : Int64} {a1 a2 : Nat → Int32} {a3 a4 a5 a6 : Nat → Int64} {a7 : Nat → Int32}
theorem ps_f20 {post : St2 → Prop} {J2 : Int32 → (Nat → Int32) → (Nat → Int32) → (Nat → Int64) → (Nat → Int64) → (Nat → Int64) → (Nat → Int64) → (Nat → Int32) → Prop} {x1 : Int32} {s act : Nat} {F : Nat → Int64} (hs : s < 4) (ha : act < 8)
    (hF : ∀ t, t < 4 → F (5 * s + t) = (if s = t then 8 else 0) - (a2 (4 * act + t)).toInt64) (hF4 : F (5 * s + 4) = 8 * (a1 act).toInt64) (h0 : ∀ j, j < 5 * s → a3 j = F j)
    (H : ∀ b, (∀ j, j < 5 * (s + 1) → b j = F j) → J2 (nI (s + 1)) a1 a2 b a4 a5 a6 a7) : ∃ n, wX_fillRows_20 post J2 x1 (nI s) (nI act) f1 f2 f3 f4 f5 n 0 a1 a2 a3 a4 a5 a6 a7 :=
  pk_loop (fun n i m => wX_fillRows_20 post J2 x1 (nI s) (nI act) f1 f2 f3 f4 f5 n (nI i) a1 a2 m a4 a5 a6 a7) (fun i m => ∀ j, j < 5 * s + i → m j = F j) 4 0 a3 (by omega) h0
    (fun n m h => pk_le 4 4 (fun _ => ⟨pk_in act 8 ha, pk_in (5 * s + 4) 20 (by omega) (ps_ix54 s), nm_e (nm_r (nI_1 s) (H _ (ps_fL (i := 5 * s + 4) (ps_cl54 (by omega)) h (by rw [hF4, nI_clamp (by omega)]))))⟩) (fun z => absurd z (by omega)))
    (fun n i m hi h hw => pk_le 4 i (fun z => absurd z (by omega)) (fun _ => pk_eq s i
      (fun e => ⟨pk_in (4 * act + i) 32 (by omega) (ps_ix4 act i), pk_in (5 * s + i) 20 (by omega) (ps_ix5 s i), nm_e (nm_r (nI_1 i) (hw _ (ps_fL (i := 5 * s + i) (ps_cl5 (by omega)) h (by rw [hF i hi, ps_cl4 (by omega), if_pos e]))))⟩)
      (fun e => ⟨pk_in (4 * act + i) 32 (by omega) (ps_ix4 act i), pk_in (5 * s + i) 20 (by omega) (ps_ix5 s i), nm_e (nm_r (nI_1 i) (hw _ (ps_fL (i := 5 * s + i) (ps_cl5 (by omega)) h (by rw [hF i hi, ps_cl4 (by omega), if_neg e]))))⟩)))
def ps_b (p s : Nat) : Nat := if s = 0 then p else 0
theorem ps_act : ∀ p, p < 2 → ∀ s, s < 4 → (2 * nI s) + ((nI p >>> (nI s &&& 31)) &&& 1) = nI (2 * s + ps_b p s) := by decide +kernel
theorem ps_act8 : ∀ p, p < 2 → ∀ s, s < 4 → 2 * s + ps_b p s < 8 := by decide +kernel
theorem ps_fill {post : St2 → Prop} {p : Nat} {F : Nat → Int64} (hp : p < 2) (hF : ∀ s, s < 4 → ∀ t, t < 4 → F (5 * s + t) = (if s = t then 8 else 0) - (a2 (4 * (2 * s + ps_b p s) + t)).toInt64)
    (hF4 : ∀ s, s < 4 → F (5 * s + 4) = 8 * (a1 (2 * s + ps_b p s)).toInt64) (H : ∀ b, (∀ j, j < 20 → b j = F j) → post (f1, f2, f3, f4, f5, a1, a2, b, a4, a5, a6, a7)) :
    wpX_fillRows post (f1, f2, f3, f4, f5, a1, a2, a3, a4, a5, a6, a7) (nI p) :=
  pk_loop (fun n s m => wX_fillRows_2 post (nI p) f1 f2 f3 f4 f5 n (nI s) a1 a2 m a4 a5 a6 a7) (fun s m => ∀ j, j < 5 * s → m j = F j) 4 0 a3 (by omega) (fun j hj => absurd hj (by omega))
    (fun n m h => pk_le 4 4 (fun _ => H m h) (fun z => absurd z (by omega)))
    (fun n s m hs h hw => pk_le 4 s (fun z => absurd z (by omega)) (fun _ => nm_r (ps_act p hp s hs) (ps_f20 hs (ps_act8 p hp s hs) (hF s hs) (hF4 s hs) h (fun b hb => hw b hb))))
theorem ps_reduce {post : St2 → Prop} {r k : Nat} {b : Int64} (hr : r < 4) (hk : k < 4) (hrk : r ≠ k) (hb : ¬ b = 0)
    (H : ∀ m, (∀ c, c < 5 → m (5 * r + c) = (a3 (5 * r + c) * a3 (5 * k + k) - a3 (5 * r + k) * a3 (5 * k + c)) / b) → (∀ j, j < 5 * r ∨ 5 * r + 5 ≤ j → m j = a3 j) → post (f1, f2, f3, f4, f5, a1, a2, m, a4, a5, a6, a7)) :
    wpX_reduce post (f1, f2, f3, f4, f5, a1, a2, a3, a4, a5, a6, a7) (nI r) (nI k) b := by
  refine ⟨pk_in (5 * k + k) 20 (by omega) (ps_ix5 k k), nm_r (by rw [ps_cl5 (by omega)]) ⟨pk_in (5 * r + k) 20 (by omega) (ps_ix5 r k), nm_r (by rw [ps_cl5 (by omega)]) ?_⟩⟩
  refine pk_loop (fun n c m => wX_reduce_27 post (nI r) (nI k) b (a3 (5 * k + k)) (a3 (5 * r + k)) f1 f2 f3 f4 f5 n (nI c) a1 a2 m a4 a5 a6 a7)
    (fun c m => (∀ d, d < c → m (5 * r + d) = (a3 (5 * r + d) * a3 (5 * k + k) - a3 (5 * r + k) * a3 (5 * k + d)) / b) ∧ (∀ j, j < 5 * r ∨ 5 * r + c ≤ j → m j = a3 j)) 5 0 a3 (by omega) ⟨fun d hd => absurd hd (by omega), fun _ _ => rfl⟩ ?_ ?_
  · exact fun n m h => pk_le 5 5 (fun _ => H m h.1 h.2) (fun z => absurd z (by omega))
  · intro n c m hc h hw
    refine pk_le 5 c (fun z => absurd z (by omega)) (fun _ => ⟨pk_in (5 * r + c) 20 (by omega) (ps_ix5 r c), pk_in (5 * k + c) 20 (by omega) (ps_ix5 k c), hb, pk_in (5 * r + c) 20 (by omega) (ps_ix5 r c), nm_e (nm_r (nI_1 c) (hw _ ⟨?_, ?_⟩))⟩)
    · intro d hd
      rw [ps_cl5 (by omega), ps_cl5 (by omega)]
      by_cases e : d = c
      · rw [e, pk_uLs, h.2 (5 * r + c) (by omega), h.2 (5 * k + c) (by omega)]
      · rw [pk_uLn (by omega)]
        exact h.1 d (by omega)
    · intro j hj
      rw [ps_cl5 (by omega), pk_uLn (by omega)]
      exact h.2 j (by omega)
theorem ps_e74 {post : St2 → Prop} (H : ∀ m, (∀ s, s < 4 → m s = a3 (5 * s + 4)) → post (f1, f2, f3, f4, f5, a1, a2, a3, m, a5, a6, a7)) : ∃ n, wX_evaluate_74 post f1 f2 f3 f4 f5 n 0 a1 a2 a3 a4 a5 a6 a7 :=
  pk_loop (fun n i m => wX_evaluate_74 post f1 f2 f3 f4 f5 n (nI i) a1 a2 a3 m a5 a6 a7) (fun i m => ∀ s, s < i → m s = a3 (5 * s + 4)) 4 0 a4 (by omega) (fun j hj => absurd hj (by omega))
    (fun n m h => pk_le 4 4 (fun _ => H m h) (fun z => absurd z (by omega)))
    (fun n i m hi h hw => pk_le 4 i (fun z => absurd z (by omega)) (fun _ => ⟨pk_in (5 * i + 4) 20 (by omega) (ps_ix54 i), pk_in i 4 hi, nm_e (nm_r (nI_1 i) (hw _ (ps_fL (f := fun s => a3 (5 * s + 4)) (nI_clamp (by omega)) h (by rw [ps_cl54 (by omega)]))))⟩))
theorem ps_e19 {post : St2 → Prop} {J10 : Int64 → Int32 → Int64 → Int64 → Int32 → Int32 → Int64 → (Nat → Int32) → (Nat → Int32) → (Nat → Int64) → (Nat → Int64) → (Nat → Int64) → (Nat → Int64) → (Nat → Int32) → Prop} {k : Nat} {A g u v : Int} (hk : k < 4) (ok : ps_ok A g u v)
    (h0 : ∀ i c, i < 4 → c < 5 → a3 (5 * i + c) = ps_L (ps_T A g u v k i c))
    (H : ∀ m, (∀ i c, i < 4 → c < 5 → m (5 * i + c) = ps_L (ps_T A g u v (k + 1) i c)) → J10 (ps_L (ps_B A (k + 1))) (nI (k + 1)) f1 f2 f3 f4 f5 a1 a2 m a4 a5 a6 a7) :
    ∃ n, wX_evaluate_19 post J10 (ps_L (ps_B A k)) (nI k) n 0 f1 f2 f3 f4 f5 a1 a2 a3 a4 a5 a6 a7 := by
  refine pk_loop (fun n i m => wX_evaluate_19 post J10 (ps_L (ps_B A k)) (nI k) n (nI i) f1 f2 f3 f4 f5 a1 a2 m a4 a5 a6 a7)
    (fun r m => ∀ i c, i < 4 → c < 5 → m (5 * i + c) = ps_L (if i < r then ps_T A g u v (k + 1) i c else ps_T A g u v k i c)) 4 0 a3 (by omega) (fun i c hi hc => by rw [if_neg (by omega)]; exact h0 i c hi hc) ?_ ?_
  · intro n m h
    refine pk_le 4 4 (fun _ => ⟨pk_in (5 * k + k) 20 (by omega) (ps_ix5 k k), nm_r ?_ (nm_r (nI_1 k) (H m ?_))⟩) (fun z => absurd z (by omega))
    · rw [ps_cl5 (by omega), h k k hk (by omega), if_pos hk, ps_Bk (g := g) (u := u) (v := v) hk, ps_Tk hk]
    · intro i c hi hc
      rw [h i c hi hc, if_pos hi]
  · intro n r m hr h hw
    refine pk_le 4 r (fun z => absurd z (by omega)) (fun _ => pk_eq r k (fun e => nm_r (nI_1 r) (hw m ?_)) (fun e => ?_))
    · intro i c hi hc
      rw [h i c hi hc]
      by_cases e1 : i < r
      · rw [if_pos e1, if_pos (by omega)]
      · rw [if_neg e1]
        by_cases e2 : i < r + 1
        · rw [if_pos e2, show i = k by omega, ps_Tk hk]
        · rw [if_neg e2]
    · have hk5 : ∀ c, c < 5 → m (5 * k + c) = ps_L (ps_T A g u v k k c) := by
        intro c hc
        rw [h k c hk hc]
        by_cases e1 : k < r
        · rw [if_pos e1, ps_Tk hk]
        · rw [if_neg e1]
      have hr5 : ∀ c, c < 5 → m (5 * r + c) = ps_L (ps_T A g u v k r c) := by
        intro c hc
        rw [h r c hr hc, if_neg (by omega)]
      refine ps_reduce hr hk e (ps_Bne ok.1 (by omega)) (fun w h1 h2 => nm_r (nI_1 r) (hw w ?_))
      intro i c hi hc
      by_cases e1 : i = r
      · rw [e1, if_pos (by omega), h1 c hc, hk5 k (by omega), hk5 c hc, hr5 k (by omega), hr5 c hc, ps_step ok hk hr hc e]
      · rw [h2 (5 * i + c) (by omega), h i c hi hc]
        by_cases e2 : i < r
        · rw [if_pos e2, if_pos (by omega)]
        · rw [if_neg e2, if_neg (by omega)]
theorem ps_L1 : ps_L 1 = 1 := by decide
theorem ps_e10 {post : St2 → Prop} {A g u v : Int} (ok : ps_ok A g u v) (h0 : ∀ i c, i < 4 → c < 5 → a3 (5 * i + c) = ps_L (ps_T A g u v 0 i c))
    (H : ∀ m3 m4, (∀ s, s < 4 → m4 s = ps_L (ps_T A g u v 4 s 4)) → post (ps_L (64 * A), f2, f3, f4, f5, a1, a2, m3, m4, a5, a6, a7)) :
    ∃ n, wX_evaluate_10 post n 1 0 f1 f2 f3 f4 f5 a1 a2 a3 a4 a5 a6 a7 := by
  have L : ∃ n, wX_evaluate_10 post n (ps_L (ps_B A 0)) (nI 0) f1 f2 f3 f4 f5 a1 a2 a3 a4 a5 a6 a7 := by
    refine pk_loop (fun n k m => wX_evaluate_10 post n (ps_L (ps_B A k)) (nI k) f1 f2 f3 f4 f5 a1 a2 m a4 a5 a6 a7) (fun k m => ∀ i c, i < 4 → c < 5 → m (5 * i + c) = ps_L (ps_T A g u v k i c)) 4 0 a3 (by omega) h0 ?_ ?_
    · intro n m h
      exact pk_le 4 4 (fun _ => ps_e74 (fun w hw => H m w (fun s hs => by rw [hw s hs, h s 4 hs (by omega)]))) (fun z => absurd z (by omega))
    · intro n k m hk h hw
      exact pk_le 4 k (fun z => absurd z (by omega)) (fun _ => ps_e19 hk ok h (fun w hq => hw w hq))
  have e : ps_L (ps_B A 0) = 1 := ps_L1
  rw [e] at L
  exact L
end
end
section
/-- the rewards and the shares of the law's process -/
def ps_R (r o q : Int) (j : Nat) : Int := if j = 0 then r else if j = 1 then o else if j = 2 ∨ j = 3 then q else 0
def ps_S (g : Int) (j : Nat) : Int := if j = 0 then 4 - g else if j = 1 then g else if j = 4 ∨ j = 9 ∨ j = 13 ∨ j = 18 ∨ j = 22 ∨ j = 27 ∨ j = 31 then 4 else 0
def ps_P (r o q g : Int) (a1 a2 : Nat → Int32) : Prop := (∀ j, j < 8 → a1 j = ps_I (ps_R r o q j)) ∧ (∀ j, j < 32 → a2 j = ps_I (ps_S g j))
def ps_N (r o q g : Int) : Prop := (-20 ≤ r ∧ r ≤ 20) ∧ (-20 ≤ o ∧ o ≤ 20) ∧ (-20 ≤ q ∧ q ≤ 20) ∧ (0 ≤ g ∧ g ≤ 4)
def ps_w (p : Nat) (x y : Int) : Int := if p = 0 then x else y
theorem ps_Rb {r o q g : Int} (h : ps_N r o q g) (j : Nat) : -20 ≤ ps_R r o q j ∧ ps_R r o q j ≤ 20 := by
  obtain ⟨h1, h2, h3, _⟩ := h
  unfold ps_R
  repeat' split
  all_goals omega
theorem ps_Sb {r o q g : Int} (h : ps_N r o q g) (j : Nat) : 0 ≤ ps_S g j ∧ ps_S g j ≤ 4 := by
  obtain ⟨_, _, _, h4⟩ := h
  unfold ps_S
  repeat' split
  all_goals omega
theorem ps_2 {p : Nat} (h : p < 2) : p = 0 ∨ p = 1 := by omega
theorem ps_tab {r o q g : Int} {p s t : Nat} (hp : p < 2) (hs : s < 4) (ht : t < 4) : ps_T (4 + ps_w p g 0) (ps_w p g 0) (8 * ps_w p r o) (8 * q) 0 s t = (if s = t then 8 else 0) - ps_S g (4 * (2 * s + ps_b p s) + t) := by
  rcases ps_2 hp with rfl | rfl <;> rcases ps_4 hs with rfl | rfl | rfl | rfl <;> rcases ps_4 ht with rfl | rfl | rfl | rfl <;> simp [ps_T, ps_m, ps_v, ps_S, ps_b, ps_w] <;> omega
theorem ps_tab4 {r o q g : Int} {p s : Nat} (hp : p < 2) (hs : s < 4) : ps_T (4 + ps_w p g 0) (ps_w p g 0) (8 * ps_w p r o) (8 * q) 0 s 4 = 8 * ps_R r o q (2 * s + ps_b p s) := by
  rcases ps_2 hp with rfl | rfl <;> rcases ps_4 hs with rfl | rfl | rfl | rfl <;> simp [ps_T, ps_m, ps_v, ps_R, ps_b, ps_w]
theorem ps_okN {r o q g : Int} {p : Nat} (hp : p < 2) (h : ps_N r o q g) : ps_ok (4 + ps_w p g 0) (ps_w p g 0) (8 * ps_w p r o) (8 * q) := by
  obtain ⟨h1, h2, h3, h4⟩ := h
  rcases ps_2 hp with rfl | rfl
  · show ps_ok (4 + g) g (8 * r) (8 * q)
    exact ⟨by omega, by omega, by omega, by omega⟩
  · show ps_ok (4 + 0) 0 (8 * o) (8 * q)
    exact ⟨by omega, by omega, by omega, by omega⟩
theorem ps_if8 (s t : Nat) : ps_L (if s = t then 8 else 0) = (if s = t then 8 else 0) := by
  split <;> decide
theorem ps_L8 : (8 : Int64) = ps_L 8 := by decide
section
variable {f1 f2 : Int64} {f3 f4 : Int32} {f5 : Int64} {a1 a2 : Nat → Int32} {a3 a4 a5 a6 : Nat → Int64} {a7 : Nat → Int32}
theorem ps_eval {post : St2 → Prop} {p : Nat} {r o q g : Int} (hp : p < 2) (hN : ps_N r o q g) (hP : ps_P r o q g a1 a2)
    (H : ∀ m3 m4, (∀ s, s < 4 → m4 s = ps_L (ps_T (4 + ps_w p g 0) (ps_w p g 0) (8 * ps_w p r o) (8 * q) 4 s 4)) → post (ps_L (64 * (4 + ps_w p g 0)), f2, f3, f4, f5, a1, a2, m3, m4, a5, a6, a7)) :
    wpX_evaluate post (f1, f2, f3, f4, f5, a1, a2, a3, a4, a5, a6, a7) (nI p) := by
  unfold wpX_evaluate
  dsimp only
  refine ps_fill (F := fun j => ps_L (ps_T (4 + ps_w p g 0) (ps_w p g 0) (8 * ps_w p r o) (8 * q) 0 (j / 5) (j % 5))) hp ?_ ?_ (fun b hb => ?_)
  · intro s hs t ht
    have h8 := ps_act8 p hp s hs
    have hS := ps_Sb hN (4 * (2 * s + ps_b p s) + t)
    rw [show (5 * s + t) / 5 = s by omega, show (5 * s + t) % 5 = t by omega, hP.2 _ (by omega), ps_I64 (by omega), ps_tab hp hs ht, ← ps_Lsub, ps_if8]
  · intro s hs
    have h8 := ps_act8 p hp s hs
    have hR := ps_Rb hN (2 * s + ps_b p s)
    rw [show (5 * s + 4) / 5 = s by omega, show (5 * s + 4) % 5 = 4 by omega, hP.1 _ h8, ps_I64 (by omega), ps_tab4 hp hs, ps_L8, ps_Lmul]
  · refine ps_e10 (ps_okN hp hN) (fun i c hi hc => ?_) H
    dsimp only
    rw [hb (5 * i + c) (by omega)]
    rw [show (5 * i + c) / 5 = i by omega, show (5 * i + c) % 5 = c by omega]
theorem ps_isState {post : Int32 → Prop} {s : Nat} (hs : s < 4) (H : post 1) : wpX_isState post (f1, f2, f3, f4, f5, a1, a2, a3, a4, a5, a6, a7) (nI s) :=
  pk_lt s 0 (fun z => absurd z (by omega)) (fun _ => pk_le 4 s (fun z => absurd z (by omega)) (fun _ => H))
theorem ps_isPolicy {post : Int32 → Prop} {p : Nat} (hp : p ≤ 15) (H : post 1) : wpX_isPolicy post (f1, f2, f3, f4, f5, a1, a2, a3, a4, a5, a6, a7) (nI p) :=
  pk_lt p 0 (fun z => absurd z (by omega)) (fun _ => pk_lt 15 p (fun z => absurd z (by omega)) (fun _ => H))
theorem ps_cd17 {post : Int64 → Prop} {a b : Nat} (ha : a < 2 ^ 62) (hb : b < 2 ^ 62) (H : post (lN (Nat.gcd a b))) : ∃ n, wX_commonDivisor_17 post f1 f2 f3 f4 f5 a1 a2 a3 a4 a5 a6 a7 n (lN a) (lN b) := by
  refine lp2 (fun n x y => wX_commonDivisor_17 post f1 f2 f3 f4 f5 a1 a2 a3 a4 a5 a6 a7 n x y) (fun x y => ∃ c d : Nat, x = lN c ∧ y = lN d ∧ c < 2 ^ 62 ∧ d < 2 ^ 62 ∧ Nat.gcd c d = Nat.gcd a b) (fun x _ => x.toInt.toNat) ?_ (lN a) (lN b) ⟨a, b, rfl, rfl, ha, hb, rfl⟩
  intro n x y hI hw
  obtain ⟨c, d, rfl, rfl, hc, hd, hg⟩ := hI
  by_cases e : c = 0
  · refine br_t (by rw [e]; rfl) ?_
    rw [e, Nat.gcd_zero_left] at hg
    rw [hg]
    exact H
  · have ne : ¬ lN c = 0 := fun z => e ((pk_lEQ (a := c) (b := 0) (by omega) (by omega)).1 z)
    have hm : d % c < c := Nat.mod_lt d (by omega)
    refine br_f ne ⟨ne, nm_r (pk_lRem (by omega) (by omega) (by omega)) (hw _ _ ⟨d % c, c, rfl, rfl, by omega, hc, ?_⟩ ?_)⟩
    · rw [← Nat.gcd_rec, hg]
    · rw [pk_lT (by omega), pk_lT (by omega)]
      omega
theorem ps_cd {post : Int64 → Prop} {x : Int} {y : Nat} (hx : -4000000000000000000 ≤ x ∧ x ≤ 4000000000000000000) (hy : y < 2 ^ 62) (H : post (lN (Nat.gcd x.natAbs y))) : wpX_commonDivisor post (f1, f2, f3, f4, f5, a1, a2, a3, a4, a5, a6, a7) (ps_L x) (lN y) := by
  refine br_c (fun z => ?_) (fun z => nm_r (e' := lN x.natAbs) ?_ (ps_cd17 (by omega) hy H))
  · have h0 : 0 ≤ x := (ps_Lle (a := 0) (b := x) (by omega) (by omega)).1 z
    have e : ps_L x = lN x.natAbs := by rw [ps_Ln]; exact congrArg ps_L (by omega)
    rw [e]
    exact ps_cd17 (by omega) hy H
  · have h0 : ¬ 0 ≤ x := fun h => z ((ps_Lle (a := 0) (b := x) (by omega) (by omega)).2 h)
    rw [ps_Lneg, ps_Ln]
    exact congrArg ps_L (by omega)
/-- the law's greatest common divisor -/
def ps_G (N U : Int) : Nat := Nat.gcd N.natAbs U.natAbs
theorem ps_Gb {N U : Int} (hU : 0 < U ∧ U ≤ 64) : 0 < ps_G N U ∧ ps_G N U ≤ 64 := by
  have h1 : 0 < ps_G N U := Nat.gcd_pos_of_pos_right _ (by omega)
  have h2 : ps_G N U ≤ U.natAbs := Nat.gcd_le_right _ (by omega)
  omega
theorem ps_G64 {N U : Int} (hU : 0 < U ∧ U ≤ 64) : Nat.gcd (64 * N).natAbs (64 * U).natAbs = 64 * ps_G N U := by
  rw [show (64 * N).natAbs = 64 * N.natAbs by omega, show (64 * U).natAbs = 64 * U.natAbs by omega, Nat.gcd_mul_left]
  rfl
theorem ps_q64 {x U : Int} {N : Int} (hx : -100000 ≤ x ∧ x ≤ 100000) (hU : 0 < U ∧ U ≤ 64) : (ps_L (64 * x) / lN (64 * ps_G N U)).toInt32 = ps_I (x.tdiv (ps_G N U)) := by
  have hG := ps_Gb (N := N) hU
  rw [ps_Ln, ps_Ldiv (by omega) (by omega), ps_L32, show ((64 * ps_G N U : Nat) : Int) = 64 * (ps_G N U : Int) by omega, Int.mul_tdiv_mul_of_pos _ _ (by omega)]
theorem ps_n64 {N U : Int} (hU : 0 < U ∧ U ≤ 64) : ¬ lN (64 * ps_G N U) = 0 := by
  have hG := ps_Gb (N := N) hU
  intro z
  have := (pk_lEQ (a := 64 * ps_G N U) (b := 0) (by omega) (by omega)).1 z
  omega
theorem ps_lU {U : Int} (hU : 0 < U ∧ U ≤ 64) : ps_L (64 * U) = lN (64 * U).natAbs := by
  rw [ps_Ln]
  exact congrArg ps_L (by omega)
theorem ps_lowTop {post : Int32 → Prop} {N U : Int} (hN : -100000 ≤ N ∧ N ≤ 100000) (hU : 0 < U ∧ U ≤ 64) (H : post (ps_I (N.tdiv (ps_G N U)))) : wpX_lowestTop post (f1, f2, f3, f4, f5, a1, a2, a3, a4, a5, a6, a7) (ps_L (64 * N)) (ps_L (64 * U)) := by
  unfold wpX_lowestTop
  dsimp only
  rw [ps_lU hU]
  refine ps_cd (by omega) (by omega) ?_
  rw [ps_G64 hU]
  refine ⟨ps_n64 hU, ?_⟩
  rw [ps_q64 hN hU]
  exact H
theorem ps_lowBot {post : Int32 → Prop} {N U : Int} (hN : -100000 ≤ N ∧ N ≤ 100000) (hU : 0 < U ∧ U ≤ 64) (H : post (ps_I (U.tdiv (ps_G N U)))) : wpX_lowestBottom post (f1, f2, f3, f4, f5, a1, a2, a3, a4, a5, a6, a7) (ps_L (64 * N)) (ps_L (64 * U)) := by
  unfold wpX_lowestBottom
  dsimp only
  have e := ps_lU hU
  rw [e]
  refine ps_cd (by omega) (by omega) ?_
  rw [ps_G64 hU]
  refine ⟨ps_n64 hU, ?_⟩
  rw [← e, ps_q64 (by omega) hU]
  exact H
/-- the tops of policy 0 and of policy 1 -/
theorem ps_top0 (r o q g : Int) : ps_T (4 + ps_w 0 g 0) (ps_w 0 g 0) (8 * ps_w 0 r o) (8 * q) 4 0 4 = 64 * (8 * r + 2 * g * q) := by
  show 64 * (8 * r) + 16 * (g * (8 * q)) = 64 * (8 * r + 2 * g * q)
  grind
theorem ps_top1 (r o q g : Int) : ps_T (4 + ps_w 1 g 0) (ps_w 1 g 0) (8 * ps_w 1 r o) (8 * q) 4 0 4 = 512 * o := by
  show 64 * (8 * o) + 16 * (0 * (8 * q)) = 512 * o
  grind
theorem ps_Nb {r o q g : Int} (h : ps_N r o q g) : -480 ≤ 8 * r + 2 * g * q ∧ 8 * r + 2 * g * q ≤ 480 := by
  obtain ⟨h1, h2, h3, h4⟩ := h
  have h5 := ps_gv (g := g) (v := q) (by omega) (by omega)
  have h6 : g = 0 ∨ g = 1 ∨ g = 2 ∨ g = 3 ∨ g = 4 := by omega
  rcases h6 with rfl | rfl | rfl | rfl | rfl <;> omega
theorem ps_valueTop {post : Int32 → St2 → Prop} {r o q g : Int} (hN : ps_N r o q g) (hP : ps_P r o q g a1 a2)
    (H : ∀ b1 m3 m4, post (ps_I ((8 * r + 2 * g * q).tdiv (ps_G (8 * r + 2 * g * q) (4 + g)))) (b1, f2, f3, f4, f5, a1, a2, m3, m4, a5, a6, a7)) :
    wpX_valueTop post (f1, f2, f3, f4, f5, a1, a2, a3, a4, a5, a6, a7) 0 0 := by
  have hb := ps_Nb hN
  have hg := hN.2.2.2
  unfold wpX_valueTop
  dsimp only
  refine ps_isPolicy (p := 0) (by omega) (br_f (by decide) (ps_isState (s := 0) (by omega) (br_f (by decide) (ps_eval (p := 0) (by omega) hN hP (fun m3 m4 h4 => ⟨pk_in 0 4 (by omega), ?_⟩)))))
  have e0 : m4 (0 : Int32).toNatClampNeg = ps_L (64 * (8 * r + 2 * g * q)) := by
    rw [← ps_top0 r o q g]
    exact h4 0 (by omega)
  dsimp only
  rw [e0]
  exact ps_lowTop (by omega) (show 0 < 4 + g ∧ 4 + g ≤ 64 by omega) (H _ _ _)
theorem ps_valueBottom {post : Int32 → St2 → Prop} {r o q g : Int} (hN : ps_N r o q g) (hP : ps_P r o q g a1 a2)
    (H : ∀ b1 m3 m4, post (ps_I ((4 + g).tdiv (ps_G (8 * r + 2 * g * q) (4 + g)))) (b1, f2, f3, f4, f5, a1, a2, m3, m4, a5, a6, a7)) :
    wpX_valueBottom post (f1, f2, f3, f4, f5, a1, a2, a3, a4, a5, a6, a7) 0 0 := by
  have hb := ps_Nb hN
  have hg := hN.2.2.2
  unfold wpX_valueBottom
  dsimp only
  refine ps_isPolicy (p := 0) (by omega) (br_f (by decide) (ps_isState (s := 0) (by omega) (br_f (by decide) (ps_eval (p := 0) (by omega) hN hP (fun m3 m4 h4 => ⟨pk_in 0 4 (by omega), ?_⟩)))))
  have e0 : m4 (0 : Int32).toNatClampNeg = ps_L (64 * (8 * r + 2 * g * q)) := by
    rw [← ps_top0 r o q g]
    exact h4 0 (by omega)
  dsimp only
  rw [e0]
  exact ps_lowBot (by omega) (show 0 < 4 + g ∧ 4 + g ≤ 64 by omega) (H _ _ _)
theorem ps_keep {post : St2 → Prop} (H : ∀ m, (∀ s, s < 4 → m s = a4 s) → post (f1, f1, f3, f4, f5, a1, a2, a3, a4, m, a6, a7)) : wpX_keepValues post (f1, f2, f3, f4, f5, a1, a2, a3, a4, a5, a6, a7) :=
  pk_loop (fun n i m => wX_keepValues_2 post f1 f2 f3 f4 f5 n (nI i) a1 a2 a3 a4 m a6 a7) (fun i m => ∀ s, s < i → m s = a4 s) 4 0 a5 (by omega) (fun j hj => absurd hj (by omega))
    (fun n m h => pk_le 4 4 (fun _ => H m h) (fun z => absurd z (by omega)))
    (fun n i m hi h hw => pk_le 4 i (fun z => absurd z (by omega)) (fun _ => ⟨pk_in i 4 hi, pk_in i 4 hi, nm_e (nm_r (nI_1 i) (hw _ (ps_fL (f := a4) (nI_clamp (by omega)) h (by rw [nI_clamp (by omega)]))))⟩))
/-- the order of policy 0's value against policy 1's, in state 0 -/
def ps_O (r o q g : Int) : Int32 := if 2 * o * (4 + g) ≤ 8 * r + 2 * g * q then (if 8 * r + 2 * g * q ≤ 2 * o * (4 + g) then 0 else 1) else -1
theorem ps_Ob {r o q g : Int} (h : ps_N r o q g) : -320 ≤ 2 * o * (4 + g) ∧ 2 * o * (4 + g) ≤ 320 := by
  obtain ⟨h1, h2, h3, h4⟩ := h
  have h6 : g = 0 ∨ g = 1 ∨ g = 2 ∨ g = 3 ∨ g = 4 := by omega
  rcases h6 with rfl | rfl | rfl | rfl | rfl <;> omega
theorem ps_compare {post : Int32 → St2 → Prop} {r o q g : Int} (hN : ps_N r o q g) (hP : ps_P r o q g a1 a2)
    (H : ∀ b1 b2 m3 m4 m5, post (ps_O r o q g) (b1, b2, f3, f4, f5, a1, a2, m3, m4, m5, a6, a7)) :
    wpX_compare post (f1, f2, f3, f4, f5, a1, a2, a3, a4, a5, a6, a7) 0 1 0 := by
  have hb := ps_Nb hN
  have hb2 := ps_Ob hN
  have hg := hN.2.2.2
  unfold wpX_compare
  dsimp only
  refine ps_isPolicy (p := 0) (by omega) (br_f (by decide) (ps_isPolicy (p := 1) (by omega) (br_f (by decide) (ps_isState (s := 0) (by omega) (br_f (by decide) (ps_eval (p := 0) (by omega) hN hP (fun m3 m4 h4 => ?_)))))))
  dsimp only
  refine ps_keep (fun m5 h5 => ?_)
  dsimp only
  refine ps_eval (p := 1) (by omega) hN hP (fun w3 w4 k4 => ?_)
  dsimp only
  refine ⟨pk_in 0 4 (by omega), nm_r (e' := ps_L (16384 * (8 * r + 2 * g * q))) ?_ ⟨pk_in 0 4 (by omega), nm_r (e' := ps_L (16384 * (2 * o * (4 + g)))) ?_ ?_⟩⟩
  · have e0 : m5 (0 : Int32).toNatClampNeg = ps_L (64 * (8 * r + 2 * g * q)) := by
      rw [← ps_top0 r o q g]
      exact (h5 0 (by omega)).trans (h4 0 (by omega))
    rw [e0, ps_Lmul]
    refine congrArg ps_L ?_
    show 64 * (8 * r + 2 * g * q) * (64 * (4 + 0)) = 16384 * (8 * r + 2 * g * q)
    omega
  · have e0 : w4 (0 : Int32).toNatClampNeg = ps_L (512 * o) := by
      rw [← ps_top1 r o q g]
      exact k4 0 (by omega)
    rw [e0, ps_Lmul]
    refine congrArg ps_L ?_
    show 512 * o * (64 * (4 + g)) = 16384 * (2 * o * (4 + g))
    grind
  · unfold ps_O at H
    refine br_c (fun z => ?_) (fun z => ?_)
    · rw [ps_Lle (by omega) (by omega)] at z
      rw [if_pos (by omega)] at H
      refine br_c (fun y => ?_) (fun y => ?_)
      · rw [ps_Lle (by omega) (by omega)] at y
        rw [if_pos (by omega)] at H
        exact H _ _ _ _ _
      · rw [ps_Lle (by omega) (by omega)] at y
        rw [if_neg (by omega)] at H
        exact H _ _ _ _ _
    · rw [ps_Lle (by omega) (by omega)] at z
      rw [if_neg (by omega)] at H
      exact H _ _ _ _ _
end
end
section
/-- eight times what an action gives -/
def ps_ps (K : Int) (c x : Nat → Int) : Nat → Int
  | 0 => K
  | n + 1 => ps_ps K c x n + c n * x n
def ps_gn (r o q g D : Int) (X : Nat → Int) (s a : Nat) : Int := ps_ps (8 * ps_R r o q (2 * s + a) * D) (fun t => ps_S g (4 * (2 * s + a) + t)) X 4
section
variable {f1 f2 : Int64} {f3 f4 : Int32} {f5 : Int64} {a1 a2 : Nat → Int32} {a3 a4 a5 a6 : Nat → Int64} {a7 : Nat → Int32}
theorem ps_gain {post : Int64 → Prop} {s a : Nat} {r o q g D : Int} {X : Nat → Int} (hs : s < 4) (ha : a < 2) (hN : ps_N r o q g) (hP : ps_P r o q g a1 a2) (hX : ∀ t, t < 4 → a6 t = ps_L (X t))
    (H : post (ps_L (ps_gn r o q g D X s a))) : wpX_gainOf post (f1, f2, f3, f4, ps_L D, a1, a2, a3, a4, a5, a6, a7) (nI s) (nI a) := by
  have hR := ps_Rb hN (2 * s + a)
  refine nm_r (ps_ix2 s a) ⟨pk_in (2 * s + a) 8 (by omega), nm_r (e' := ps_L (8 * ps_R r o q (2 * s + a) * D)) ?_ ?_⟩
  · rw [nI_clamp (by omega), hP.1 _ (by omega), ps_I64 (by omega), ps_L8, ps_Lmul, ps_Lmul]
  · refine pk_loop (fun n i (x : Int64) => wX_gainOf_27 post (nI (2 * s + a)) f1 f2 f3 f4 (ps_L D) a1 a2 a3 a4 a5 a6 a7 n x (nI i))
      (fun i x => x = ps_L (ps_ps (8 * ps_R r o q (2 * s + a) * D) (fun t => ps_S g (4 * (2 * s + a) + t)) X i)) 4 0 _ (by omega) rfl ?_ ?_
    · intro n x h
      refine pk_le 4 4 (fun _ => ?_) (fun z => absurd z (by omega))
      rw [h]
      exact H
    · intro n i x hi h hw
      have hS := ps_Sb hN (4 * (2 * s + a) + i)
      refine pk_le 4 i (fun z => absurd z (by omega)) (fun _ => ⟨pk_in (4 * (2 * s + a) + i) 32 (by omega) (ps_ix4 (2 * s + a) i), pk_in i 4 hi, nm_r (e' := ps_L (ps_ps (8 * ps_R r o q (2 * s + a) * D) (fun t => ps_S g (4 * (2 * s + a) + t)) X (i + 1))) ?_ (nm_r (nI_1 i) (hw _ rfl))⟩)
      rw [h, ps_cl4 (by omega), nI_clamp (by omega), hP.2 _ (by omega), ps_I64 (by omega), hX i hi, ps_Lmul, ps_Ladd]
      rfl
section
variable {post : Int32 → St2 → Prop} {J4 : Int32 → Int32 → Int32 → (Nat → Int32) → (Nat → Int32) → (Nat → Int64) → (Nat → Int64) → (Nat → Int64) → (Nat → Int64) → (Nat → Int32) → Prop}
  {s a n : Nat} {r o q g D V : Int} {X : Nat → Int} {x1 bp : Int32}
theorem ps_i_eq (hs : s < 4) (ha : a < 2) (hN : ps_N r o q g) (hP : ps_P r o q g a1 a2) (hX : ∀ t, t < 4 → a6 t = ps_L (X t)) (h : ps_gn r o q g D X s a = V)
    (H : wX_improve_30 post J4 (nI s) (ps_L V) f1 f2 f3 (ps_L D) n x1 (nI (a + 1)) bp a1 a2 a3 a4 a5 a6 (upd a7 s (((a7 s) ||| ((1 : Int32) <<< (nI a &&& 31))).toInt8.toInt32))) :
    wX_improve_30 post J4 (nI s) (ps_L V) f1 f2 f3 (ps_L D) (n + 1) x1 (nI a) bp a1 a2 a3 a4 a5 a6 a7 := by
  refine pk_le 2 a (fun z => absurd z (by omega)) (fun _ => ps_gain hs ha hN hP hX ?_)
  rw [h]
  refine br_t rfl ⟨pk_in s 4 hs, pk_in s 4 hs, nm_r (by rw [nI_clamp (by omega)]) (br_f ?_ (nm_r (nI_1 a) H))⟩
  rw [Int64.lt_iff_toInt_lt]
  omega
theorem ps_i_lt (hs : s < 4) (ha : a < 2) (hN : ps_N r o q g) (hP : ps_P r o q g a1 a2) (hX : ∀ t, t < 4 → a6 t = ps_L (X t)) (h : ps_gn r o q g D X s a < V) (hv : V ≤ 9000000000000000000) (hg : -9000000000000000000 ≤ ps_gn r o q g D X s a)
    (H : wX_improve_30 post J4 (nI s) (ps_L V) f1 f2 f3 (ps_L D) n x1 (nI (a + 1)) bp a1 a2 a3 a4 a5 a6 a7) :
    wX_improve_30 post J4 (nI s) (ps_L V) f1 f2 f3 (ps_L D) (n + 1) x1 (nI a) bp a1 a2 a3 a4 a5 a6 a7 := by
  refine pk_le 2 a (fun z => absurd z (by omega)) (fun _ => ps_gain hs ha hN hP hX ?_)
  refine br_f ?_ (br_f ?_ (nm_r (nI_1 a) H))
  · rw [ps_Leq (by omega) (by omega)]
    omega
  · rw [ps_Llt (by omega) (by omega)]
    omega
theorem ps_i_gt (hs : s < 4) (ha : a < 2) (hN : ps_N r o q g) (hP : ps_P r o q g a1 a2) (hX : ∀ t, t < 4 → a6 t = ps_L (X t)) (h : V < ps_gn r o q g D X s a) (hv : -9000000000000000000 ≤ V) (hg : ps_gn r o q g D X s a ≤ 9000000000000000000)
    (H : wX_improve_30 post J4 (nI s) (ps_L V) f1 f2 f3 (ps_L D) n 1 (nI (a + 1)) ((bp &&& (((1 : Int32) <<< (nI s &&& 31)) ^^^ (-1))) ||| (nI a <<< (nI s &&& 31))) a1 a2 a3 a4 a5 a6 a7) :
    wX_improve_30 post J4 (nI s) (ps_L V) f1 f2 f3 (ps_L D) (n + 1) x1 (nI a) bp a1 a2 a3 a4 a5 a6 a7 := by
  refine pk_le 2 a (fun z => absurd z (by omega)) (fun _ => ps_gain hs ha hN hP hX ?_)
  refine br_f ?_ (br_t ?_ (nm_e (nm_r (nI_1 a) H)))
  · rw [ps_Leq (by omega) (by omega)]
    omega
  · rw [ps_Llt (by omega) (by omega)]
    omega
theorem ps_i_x (H : J4 x1 (nI (s + 1)) bp a1 a2 a3 a4 a5 a6 a7) : wX_improve_30 post J4 (nI s) (ps_L V) f1 f2 f3 (ps_L D) (n + 1) x1 (nI 2) bp a1 a2 a3 a4 a5 a6 a7 :=
  pk_le 2 2 (fun _ => nm_r (nI_1 s) H) (fun z => absurd z (by omega))
theorem ps_row (hs : s < 4) (hN : ps_N r o q g) (hP : ps_P r o q g a1 a2) (hX : ∀ t, t < 4 → a6 t = ps_L (X t)) (h0 : ps_gn r o q g D X s 0 = V) (h1 : ps_gn r o q g D X s 1 = V)
    (H : ∀ m, m s = 3 → (∀ j, j ≠ s → m j = a7 j) → J4 x1 (nI (s + 1)) bp a1 a2 a3 a4 a5 a6 m) : wX_improve_30 post J4 (nI s) (ps_L V) f1 f2 f3 (ps_L D) 3 x1 (nI 0) bp a1 a2 a3 a4 a5 a6 (upd a7 s 0) := by
  refine ps_i_eq (a := 0) hs (by omega) hN hP hX h0 (ps_i_eq (a := 1) hs (by omega) hN hP hX h1 (ps_i_x (H _ ?_ ?_)))
  · rw [pk_us, pk_us, pk_us]
    decide
  · intro j hj
    rw [pk_un hj, pk_un hj, pk_un hj]
/-- the states from 1 on: both actions do as well -/
theorem ps_i4 (hx : narrow .boolean (.int x1) = .int x1) (hN : ps_N r o q g) (hP : ps_P r o q g a1 a2) (hX : ∀ t, t < 4 → a6 t = ps_L (X t))
    (hV : ∀ s, 1 ≤ s → s < 4 → ∀ a, a < 2 → ps_gn r o q g D X s a = 8 * X s)
    (H : ∀ m, m 0 = a7 0 → m 1 = 3 → m 2 = 3 → m 3 = 3 → post x1 (f1, f2, f3, bp, ps_L D, a1, a2, a3, a4, a5, a6, m)) :
    wX_improve_4 post f1 f2 f3 (ps_L D) 4 x1 (nI 1) bp a1 a2 a3 a4 a5 a6 a7 := by
  refine loop_i (fun n s m => wX_improve_4 post f1 f2 f3 (ps_L D) n x1 (nI s) bp a1 a2 a3 a4 a5 a6 m) (fun s m => 1 ≤ s ∧ m 0 = a7 0 ∧ ∀ j, 1 ≤ j → j < s → m j = 3) 4 ?_ ?_ 4 1 a7 (by omega) (by omega) ⟨by omega, rfl, fun j h1 h2 => absurd h2 (by omega)⟩
  · intro n m h
    exact pk_le 4 4 (fun _ => ⟨hx, H m h.2.1 (h.2.2 1 (by omega) (by omega)) (h.2.2 2 (by omega) (by omega)) (h.2.2 3 (by omega) (by omega))⟩) (fun z => absurd z (by omega))
  · intro n s m hs h hw
    obtain ⟨h1, h2, h3⟩ := h
    refine pk_le 4 s (fun z => absurd z (by omega)) (fun _ => ⟨pk_in s 4 hs, nm_r (e' := ps_L (8 * X s)) ?_ ⟨pk_in s 4 hs, nm_r (e' := upd m s 0) ?_ ⟨3, ps_row hs hN hP hX (hV s h1 hs 0 (by omega)) (hV s h1 hs 1 (by omega)) (fun w w1 w2 => hw w ⟨by omega, ?_, ?_⟩)⟩⟩⟩)
    · rw [nI_clamp (by omega), hX s hs, ps_L8, ps_Lmul]
    · rw [nI_clamp (by omega)]
    · rw [w2 0 (by omega), h2]
    · intro j j1 j2
      by_cases e : j = s
      · rw [e, w1]
      · rw [w2 j e, h3 j j1 (by omega)]
end
/-- state 0: what comes of its two actions -/
def ps_case (V G0 G1 : Int) (bp c x1 bq : Int32) : Prop :=
  (G0 = V ∧ G1 = V ∧ c = 3 ∧ x1 = 0 ∧ bq = bp) ∨ (G0 = V ∧ G1 < V ∧ c = 1 ∧ x1 = 0 ∧ bq = bp) ∨ (G0 = V ∧ V < G1 ∧ c = 1 ∧ x1 = 1 ∧ bp = 0 ∧ bq = 1) ∨ (G0 < V ∧ G1 = V ∧ c = 2 ∧ x1 = 0 ∧ bq = bp)
theorem ps_row0 {post : Int32 → St2 → Prop} {J4 : Int32 → Int32 → Int32 → (Nat → Int32) → (Nat → Int32) → (Nat → Int64) → (Nat → Int64) → (Nat → Int64) → (Nat → Int64) → (Nat → Int32) → Prop}
    {r o q g D V : Int} {X : Nat → Int} {c x1 bp bq : Int32} (hN : ps_N r o q g) (hP : ps_P r o q g a1 a2) (hX : ∀ t, t < 4 → a6 t = ps_L (X t)) (hv : -9000000000000000000 ≤ V ∧ V ≤ 9000000000000000000)
    (h0 : -9000000000000000000 ≤ ps_gn r o q g D X 0 0) (h1 : -9000000000000000000 ≤ ps_gn r o q g D X 0 1 ∧ ps_gn r o q g D X 0 1 ≤ 9000000000000000000)
    (hc : ps_case V (ps_gn r o q g D X 0 0) (ps_gn r o q g D X 0 1) bp c x1 bq) (H : ∀ m, m 0 = c → J4 x1 (nI 1) bq a1 a2 a3 a4 a5 a6 m) :
    wX_improve_30 post J4 (nI 0) (ps_L V) f1 f2 f3 (ps_L D) 3 0 (nI 0) bp a1 a2 a3 a4 a5 a6 (upd a7 0 0) := by
  rcases hc with ⟨e0, e1, rfl, rfl, rfl⟩ | ⟨e0, e1, rfl, rfl, rfl⟩ | ⟨e0, e1, rfl, rfl, rfl, rfl⟩ | ⟨e0, e1, rfl, rfl, rfl⟩
  · exact ps_row (by omega) hN hP hX e0 e1 (fun m h _ => H m h)
  · refine ps_i_eq (a := 0) (by omega) (by omega) hN hP hX e0 (ps_i_lt (a := 1) (by omega) (by omega) hN hP hX e1 hv.2 h1.1 (ps_i_x (H _ ?_)))
    rw [pk_us, pk_us]
    decide
  · refine ps_i_eq (a := 0) (by omega) (by omega) hN hP hX e0 (ps_i_gt (a := 1) (by omega) (by omega) hN hP hX e1 hv.1 h1.2 (ps_i_x ?_))
    rw [show ((0 : Int32) &&& (((1 : Int32) <<< (nI 0 &&& 31)) ^^^ (-1))) ||| (nI 1 <<< (nI 0 &&& 31)) = 1 by decide]
    refine H _ ?_
    rw [pk_us, pk_us]
    decide
  · refine ps_i_lt (a := 0) (by omega) (by omega) hN hP hX e0 hv.2 h0 (ps_i_eq (a := 1) (by omega) (by omega) hN hP hX e1 (ps_i_x (H _ ?_)))
    rw [pk_us, pk_us]
    decide
theorem ps_improve {post : Int32 → St2 → Prop} {r o q g D : Int} {X : Nat → Int} {c x1 bp bq : Int32} (hN : ps_N r o q g) (hP : ps_P r o q g a1 a2) (hX : ∀ t, t < 4 → a6 t = ps_L (X t)) (hv : -9000000000000000000 ≤ 8 * X 0 ∧ 8 * X 0 ≤ 9000000000000000000)
    (h0 : -9000000000000000000 ≤ ps_gn r o q g D X 0 0) (h1 : -9000000000000000000 ≤ ps_gn r o q g D X 0 1 ∧ ps_gn r o q g D X 0 1 ≤ 9000000000000000000)
    (hc : ps_case (8 * X 0) (ps_gn r o q g D X 0 0) (ps_gn r o q g D X 0 1) bp c x1 bq)
    (hV : ∀ s, 1 ≤ s → s < 4 → ∀ a, a < 2 → ps_gn r o q g D X s a = 8 * X s)
    (H : ∀ m, m 0 = c → m 1 = 3 → m 2 = 3 → m 3 = 3 → post x1 (f1, f2, f3, bq, ps_L D, a1, a2, a3, a4, a5, a6, m)) :
    wpX_improve post (f1, f2, f3, bp, ps_L D, a1, a2, a3, a4, a5, a6, a7) := by
  have hx : narrow .boolean (.int x1) = .int x1 := by
    rcases hc with ⟨_, _, _, e, _⟩ | ⟨_, _, _, e, _⟩ | ⟨_, _, _, e, _⟩ | ⟨_, _, _, e, _⟩ <;> rw [e] <;> rfl
  refine ⟨5, pk_le 4 0 (fun z => absurd z (by omega)) (fun _ => ⟨pk_in 0 4 (by omega), nm_r (e' := ps_L (8 * X 0)) ?_ ⟨pk_in 0 4 (by omega), nm_r (e' := upd a7 0 0) rfl ⟨3, ps_row0 hN hP hX hv h0 h1 hc (fun m hm => ps_i4 hx hN hP hX hV (fun w w0 w1 w2 w3 => H w (w0.trans hm) w1 w2 w3))⟩⟩⟩)⟩
  rw [show a6 (0 : Int32).toNatClampNeg = ps_L (X 0) from hX 0 (by omega), ps_L8, ps_Lmul]
theorem ps_s42 {post : St2 → Prop} {J22 : Int32 → Int32 → Int64 → Int64 → Int32 → Int32 → Int64 → (Nat → Int32) → (Nat → Int32) → (Nat → Int64) → (Nat → Int64) → (Nat → Int64) → (Nat → Int64) → (Nat → Int32) → Prop} {rd : Nat}
    {r o q g D : Int} {X : Nat → Int} {c x1 bp bq : Int32} (hN : ps_N r o q g) (hP : ps_P r o q g a1 a2) (hX : ∀ t, t < 4 → a4 t = ps_L (X t)) (hv : -9000000000000000000 ≤ 8 * X 0 ∧ 8 * X 0 ≤ 9000000000000000000)
    (h0 : -9000000000000000000 ≤ ps_gn r o q g D X 0 0) (h1 : -9000000000000000000 ≤ ps_gn r o q g D X 0 1 ∧ ps_gn r o q g D X 0 1 ≤ 9000000000000000000)
    (hc : ps_case (8 * X 0) (ps_gn r o q g D X 0 0) (ps_gn r o q g D X 0 1) bp c x1 bq)
    (hV : ∀ s, 1 ≤ s → s < 4 → ∀ a, a < 2 → ps_gn r o q g D X s a = 8 * X s)
    (H : ∀ m6 m7, m7 0 = c → m7 1 = 3 → m7 2 = 3 → m7 3 = 3 → J22 x1 (nI (rd + 1)) (ps_L D) f2 f3 bq (ps_L D) a1 a2 a3 a4 a5 m6 m7) :
    ∃ n, wX_solve_42 post J22 (nI rd) (ps_L D) f2 f3 bp f5 n 0 a1 a2 a3 a4 a5 a6 a7 := by
  refine pk_loop (fun n i m => wX_solve_42 post J22 (nI rd) (ps_L D) f2 f3 bp f5 n (nI i) a1 a2 a3 a4 a5 m a7) (fun i m => ∀ s, s < i → m s = a4 s) 4 0 a6 (by omega) (fun j hj => absurd hj (by omega)) ?_ ?_
  · intro n m h
    exact pk_le 4 4 (fun _ => ps_improve hN hP (fun t ht => (h t ht).trans (hX t ht)) hv h0 h1 hc hV (fun w w0 w1 w2 w3 => nm_r (nI_1 rd) (H m w w0 w1 w2 w3))) (fun z => absurd z (by omega))
  · exact fun n i m hi h hw => pk_le 4 i (fun z => absurd z (by omega)) (fun _ => ⟨pk_in i 4 hi, pk_in i 4 hi, nm_e (nm_r (nI_1 i) (hw _ (ps_fL (f := a4) (nI_clamp (by omega)) h (by rw [nI_clamp (by omega)]))))⟩)
end
end
section
/-- the values' tops, and what the actions give -/
def ps_X (r o q g : Int) (p s : Nat) : Int := ps_T (4 + ps_w p g 0) (ps_w p g 0) (8 * ps_w p r o) (8 * q) 4 s 4
theorem ps_g123 (r o q g : Int) {p s a : Nat} (hp : p < 2) (h1 : 1 ≤ s) (hs : s < 4) (ha : a < 2) : ps_gn r o q g (64 * (4 + ps_w p g 0)) (ps_X r o q g p) s a = 8 * ps_X r o q g p s := by
  rcases ps_2 hp with rfl | rfl <;> rcases ps_4 hs with rfl | rfl | rfl | rfl <;> first | exact absurd h1 (by decide) | (rcases ps_2 ha with rfl | rfl <;> simp [ps_gn, ps_ps, ps_R, ps_S, ps_X, ps_T, ps_m, ps_v, ps_w] <;> grind)
theorem ps_x0 (r o q g : Int) : ps_X r o q g 0 0 = 64 * (8 * r + 2 * g * q) := ps_top0 r o q g
theorem ps_x1 (r o q g : Int) : ps_X r o q g 1 0 = 512 * o := ps_top1 r o q g
theorem ps_g000 (r o q g : Int) : ps_gn r o q g (64 * (4 + ps_w 0 g 0)) (ps_X r o q g 0) 0 0 = 8 * ps_X r o q g 0 0 := by
  simp [ps_gn, ps_ps, ps_R, ps_S, ps_X, ps_T, ps_m, ps_v, ps_w] <;> grind
theorem ps_g001 (r o q g : Int) : ps_gn r o q g (64 * (4 + ps_w 0 g 0)) (ps_X r o q g 0) 0 1 = 8 * ps_X r o q g 0 0 + 256 * (2 * o * (4 + g) - (8 * r + 2 * g * q)) := by
  simp [ps_gn, ps_ps, ps_R, ps_S, ps_X, ps_T, ps_m, ps_v, ps_w] <;> grind
theorem ps_g101 (r o q g : Int) : ps_gn r o q g (64 * (4 + ps_w 1 g 0)) (ps_X r o q g 1) 0 1 = 8 * ps_X r o q g 1 0 := by
  simp [ps_gn, ps_ps, ps_R, ps_S, ps_X, ps_T, ps_m, ps_v, ps_w] <;> grind
theorem ps_g100 (r o q g : Int) : ps_gn r o q g (64 * (4 + ps_w 1 g 0)) (ps_X r o q g 1) 0 0 = 8 * ps_X r o q g 1 0 + 256 * ((8 * r + 2 * g * q) - 2 * o * (4 + g)) := by
  simp [ps_gn, ps_ps, ps_R, ps_S, ps_X, ps_T, ps_m, ps_v, ps_w] <;> grind
/-- the good actions of state 0 -/
def ps_c (r o q g : Int) : Int32 := if 2 * o * (4 + g) ≤ 8 * r + 2 * g * q then (if 8 * r + 2 * g * q ≤ 2 * o * (4 + g) then 3 else 1) else 2
section
variable {f1 f2 : Int64} {f3 f4 : Int32} {f5 : Int64} {a1 a2 : Nat → Int32} {a3 a4 a5 a6 : Nat → Int64} {a7 : Nat → Int32}
theorem ps_solve {post : St2 → Prop} {r o q g : Int} (hN : ps_N r o q g) (hP : ps_P r o q g a1 a2)
    (H : ∀ b1 b4 b5 m3 m4 m6 m7, m7 0 = ps_c r o q g → m7 1 = 3 → m7 2 = 3 → m7 3 = 3 → post (b1, f2, 1, b4, b5, a1, a2, m3, m4, a5, m6, m7)) :
    wpX_solve post (f1, f2, 0, f4, f5, a1, a2, a3, a4, a5, a6, a7) := by
  have hb := ps_Nb hN
  have hb2 := ps_Ob hN
  have ho := hN.2.1
  have e0 := ps_x0 r o q g
  have e1 := ps_x1 r o q g
  have g00 := ps_g000 r o q g
  have g01 := ps_g001 r o q g
  have g11 := ps_g101 r o q g
  have g10 := ps_g100 r o q g
  refine br_t rfl ⟨3, pk_le 17 0 (fun z => absurd z (by omega)) (fun _ => br_f (by decide) (ps_eval (p := 0) (by omega) hN hP (fun m3 m4 h4 => ?_)))⟩
  unfold ps_c at H
  by_cases z : 2 * o * (4 + g) ≤ 8 * r + 2 * g * q
  · rw [if_pos z] at H
    by_cases y : 8 * r + 2 * g * q ≤ 2 * o * (4 + g)
    · rw [if_pos y] at H
      refine ps_s42 (rd := 0) (X := ps_X r o q g 0) (c := 3) (x1 := 0) (bq := 0) hN hP h4 (by omega) (by omega) (by omega) (Or.inl ⟨g00, by omega, rfl, rfl, rfl⟩) (fun s s1 s2 a ha => ps_g123 r o q g (by omega) s1 s2 ha) (fun m6 m7 c0 c1 c2 c3 => ?_)
      exact pk_le 17 1 (fun z => absurd z (by omega)) (fun _ => br_t rfl (H _ _ _ _ _ _ _ c0 c1 c2 c3))
    · rw [if_neg y] at H
      refine ps_s42 (rd := 0) (X := ps_X r o q g 0) (c := 1) (x1 := 0) (bq := 0) hN hP h4 (by omega) (by omega) (by omega) (Or.inr (Or.inl ⟨g00, by omega, rfl, rfl, rfl⟩)) (fun s s1 s2 a ha => ps_g123 r o q g (by omega) s1 s2 ha) (fun m6 m7 c0 c1 c2 c3 => ?_)
      exact pk_le 17 1 (fun z => absurd z (by omega)) (fun _ => br_t rfl (H _ _ _ _ _ _ _ c0 c1 c2 c3))
  · rw [if_neg z] at H
    refine ps_s42 (rd := 0) (X := ps_X r o q g 0) (c := 1) (x1 := 1) (bq := 1) hN hP h4 (by omega) (by omega) (by omega) (Or.inr (Or.inr (Or.inl ⟨g00, by omega, rfl, rfl, rfl, rfl⟩))) (fun s s1 s2 a ha => ps_g123 r o q g (by omega) s1 s2 ha) (fun m6 m7 c0 c1 c2 c3 => ?_)
    refine pk_le 17 1 (fun z => absurd z (by omega)) (fun _ => br_f (by decide) (ps_eval (p := 1) (by omega) hN hP (fun w3 w4 k4 => ?_)))
    refine ps_s42 (rd := 1) (X := ps_X r o q g 1) (c := 2) (x1 := 0) (bq := 1) hN hP k4 (by omega) (by omega) (by omega) (Or.inr (Or.inr (Or.inr ⟨by omega, g11, rfl, rfl, rfl⟩))) (fun s s1 s2 a ha => ps_g123 r o q g (by omega) s1 s2 ha) (fun m6 m7 c0 c1 c2 c3 => ?_)
    exact pk_le 17 2 (fun z => absurd z (by omega)) (fun _ => br_t rfl (H _ _ _ _ _ _ _ c0 c1 c2 c3))
theorem ps_pol8 {post : Int32 → St2 → Prop} {y : Int32} (h1 : a7 1 = 3) (h2 : a7 2 = 3) (h3 : a7 3 = 3) (h0 : (a7 0 = 3 ∧ y = 16) ∨ (¬ a7 0 = 3 ∧ y = 8)) (H : post y (f1, f2, f3, f4, f5, a1, a2, a3, a4, a5, a6, a7)) :
    ∃ n, wX_policies_8 post f1 f2 f3 f4 f5 a1 a2 a3 a4 a5 a6 a7 n 1 0 := by
  have t : ∀ x : Int32, x * 2 * 2 * 2 = y → wX_policies_8 post f1 f2 f3 f4 f5 a1 a2 a3 a4 a5 a6 a7 4 x (nI 1) := fun x hx =>
    pk_le 4 1 (fun z => absurd z (by omega)) (fun _ => ⟨pk_in 1 4 (by omega), br_t h1 (nm_e (nm_r (nI_1 1)
      (pk_le 4 2 (fun z => absurd z (by omega)) (fun _ => ⟨pk_in 2 4 (by omega), br_t h2 (nm_e (nm_r (nI_1 2)
        (pk_le 4 3 (fun z => absurd z (by omega)) (fun _ => ⟨pk_in 3 4 (by omega), br_t h3 (nm_r hx (nm_r (nI_1 3)
          (pk_le 4 4 (fun _ => H) (fun z => absurd z (by omega)))))⟩))))⟩))))⟩)
  rcases h0 with ⟨e, ey⟩ | ⟨e, ey⟩
  · exact ⟨5, pk_le 4 0 (fun z => absurd z (by omega)) (fun _ => ⟨pk_in 0 4 (by omega), br_t e (nm_e (nm_r (nI_1 0) (t _ (by rw [ey]; decide))))⟩)⟩
  · exact ⟨5, pk_le 4 0 (fun z => absurd z (by omega)) (fun _ => ⟨pk_in 0 4 (by omega), br_f e (nm_r (nI_1 0) (t _ (by rw [ey]; decide)))⟩)⟩
theorem ps_poly8 {post : Int32 → St2 → Prop} {y : Int32} (h1 : a7 1 = 3) (h2 : a7 2 = 3) (h3 : a7 3 = 3) (h0 : (a7 0 &&& 1 = 0 ∧ y = 1) ∨ (¬ a7 0 &&& 1 = 0 ∧ y = 0)) (H : post y (f1, f2, f3, f4, f5, a1, a2, a3, a4, a5, a6, a7)) :
    ∃ n, wX_policy_8 post f1 f2 f3 f4 f5 a1 a2 a3 a4 a5 a6 a7 n 0 0 := by
  have n1 : ¬ a7 1 &&& 1 = 0 := by rw [h1]; decide
  have n2 : ¬ a7 2 &&& 1 = 0 := by rw [h2]; decide
  have n3 : ¬ a7 3 &&& 1 = 0 := by rw [h3]; decide
  have t : wX_policy_8 post f1 f2 f3 f4 f5 a1 a2 a3 a4 a5 a6 a7 4 y (nI 1) :=
    pk_le 4 1 (fun z => absurd z (by omega)) (fun _ => ⟨pk_in 1 4 (by omega), br_f n1 (nm_r (nI_1 1)
      (pk_le 4 2 (fun z => absurd z (by omega)) (fun _ => ⟨pk_in 2 4 (by omega), br_f n2 (nm_r (nI_1 2)
        (pk_le 4 3 (fun z => absurd z (by omega)) (fun _ => ⟨pk_in 3 4 (by omega), br_f n3 (nm_r (nI_1 3)
          (pk_le 4 4 (fun _ => H) (fun z => absurd z (by omega))))⟩)))⟩)))⟩)
  rcases h0 with ⟨e, ey⟩ | ⟨e, ey⟩
  · exact ⟨5, pk_le 4 0 (fun z => absurd z (by omega)) (fun _ => ⟨pk_in 0 4 (by omega), br_t e (nm_r (e' := y) (by rw [ey]; decide) (nm_r (nI_1 0) t))⟩)⟩
  · rw [ey] at t
    exact ⟨5, pk_le 4 0 (fun z => absurd z (by omega)) (fun _ => ⟨pk_in 0 4 (by omega), br_f e (nm_r (nI_1 0) t)⟩)⟩
theorem ps_policies {post : Int32 → St2 → Prop} {r o q g : Int} (hN : ps_N r o q g) (hP : ps_P r o q g a1 a2)
    (H : ∀ b1 b4 b5 m3 m4 m6 m7, m7 0 = ps_c r o q g → m7 1 = 3 → m7 2 = 3 → m7 3 = 3 → post (if ps_c r o q g = 3 then 16 else 8) (b1, f2, 1, b4, b5, a1, a2, m3, m4, a5, m6, m7)) :
    wpX_policies post (f1, f2, 0, f4, f5, a1, a2, a3, a4, a5, a6, a7) := by
  unfold wpX_policies
  dsimp only
  refine ps_solve hN hP (fun b1 b4 b5 m3 m4 m6 m7 c0 c1 c2 c3 => ?_)
  dsimp only
  refine ps_pol8 c1 c2 c3 ?_ (H b1 b4 b5 m3 m4 m6 m7 c0 c1 c2 c3)
  rw [c0]
  by_cases e : ps_c r o q g = 3
  · exact Or.inl ⟨e, if_pos e⟩
  · exact Or.inr ⟨e, if_neg e⟩
theorem ps_policy {post : Int32 → St2 → Prop} {y : Int32} (h1 : a7 1 = 3) (h2 : a7 2 = 3) (h3 : a7 3 = 3) (h0 : (a7 0 &&& 1 = 0 ∧ y = 1) ∨ (¬ a7 0 &&& 1 = 0 ∧ y = 0)) (H : post y (f1, f2, 1, f4, f5, a1, a2, a3, a4, a5, a6, a7)) :
    wpX_policy post (f1, f2, 1, f4, f5, a1, a2, a3, a4, a5, a6, a7) := by
  unfold wpX_policy
  dsimp only
  exact br_f (by decide) (ps_poly8 h1 h2 h3 h0 H)
end
end
section
theorem ps_rem0 {x : Int} {d : Nat} (hx : -2000000000 ≤ x ∧ x ≤ 2000000000) (hd : 0 < d ∧ d ≤ 64) : ps_I x - ps_I x / nI d * nI d = 0 ↔ (d : Int) ∣ x := by
  have h1 := Int.tmod_lt_of_pos x (show (0 : Int) < d by omega)
  have h2 := Int.lt_tmod_of_pos x (show (0 : Int) < d by omega)
  have h3 : x - x.tdiv d * d = x.tmod d := by rw [Int.tmod_def, Int.mul_comm]
  rw [ps_In, ps_Idiv hx (by omega), ps_Imul, ps_Isub, h3, show (0 : Int32) = ps_I 0 by decide, ps_Ieq (by omega) (by omega), Int.dvd_iff_tmod_eq_zero]
theorem ps_common {post : Int32 → Prop} {N U : Int} (hN : -100000 ≤ N ∧ N ≤ 100000) (hU : 0 < U ∧ U ≤ 64) (H : post (nI (ps_G N U))) : wpL_common post () (ps_I N) (ps_I U) := by
  have hG := ps_Gb (N := N) hU
  refine lp1 (fun n x => wL_common_3 post (ps_I N) (ps_I U) n x) (fun x => ∃ d : Nat, x = nI d ∧ d ≤ 64 ∧ ps_G N U ≤ d) (fun x => x.toNatClampNeg) ?_ 64 ⟨64, rfl, by omega, hG.2⟩
  intro n x hI hw
  obtain ⟨d, rfl, hd, hg⟩ := hI
  have next : ps_G N U ≠ d → 1 < d → ∀ y, y = nI d + (-1) → wL_common_3 post (ps_I N) (ps_I U) n y := by
    intro h1 h2
    exact nm_r (sb_m1 (by omega)) (hw _ ⟨d - 1, rfl, by omega, by omega⟩ (by rw [nI_clamp (by omega), nI_clamp (by omega)]; omega))
  refine pk_le d 1 (fun z => ?_) (fun z => ⟨nI_ne0 (by omega) (by omega), br_c (fun z1 => ⟨nI_ne0 (by omega) (by omega), br_c (fun z2 => ?_) (fun z2 => next (fun e => ?_) z)⟩) (fun z1 => next (fun e => ?_) z)⟩)
  · have e : ps_G N U = 1 := by omega
    rw [e] at H
    exact H
  · have d1 := (ps_rem0 (by omega) (by omega)).1 z1
    have d2 := (ps_rem0 (by omega) (by omega)).1 z2
    have d3 : d ∣ ps_G N U := Nat.dvd_gcd (Int.ofNat_dvd_left.1 d1) (Int.ofNat_dvd_left.1 d2)
    have d4 := Nat.le_of_dvd hG.1 d3
    rw [show d = ps_G N U by omega]
    exact H
  · exact z2 ((ps_rem0 (by omega) (by omega)).2 (Int.ofNat_dvd_left.2 (e ▸ Nat.gcd_dvd_right _ _)))
  · exact z1 ((ps_rem0 (by omega) (by omega)).2 (Int.ofNat_dvd_left.2 (e ▸ Nat.gcd_dvd_left _ _)))
section
variable {f1 f2 : Int64} {f3 f4 : Int32} {f5 : Int64} {a1 a2 : Nat → Int32} {a3 a4 a5 a6 : Nat → Int64} {a7 : Nat → Int32}
theorem ps_in65 {post : St2 → Prop} {mc ms : Nat} {J58 : Int32 → (Nat → Int32) → (Nat → Int32) → (Nat → Int64) → (Nat → Int64) → (Nat → Int64) → (Nat → Int64) → (Nat → Int32) → Prop} {kc ks s : Nat} (hs : s < 4)
    (H : J58 (nI (s + 1)) a1 (upd (upd a2 (9 * s) 4) (9 * s + 4) 4) a3 a4 a5 a6 a7) : ∃ n, wX_init_65 post mc ms J58 (nI s) kc ks f1 f2 f3 f4 f5 n 0 a1 a2 a3 a4 a5 a6 a7 := by
  have e0 : (4 * ((2 * nI s) + nI 0)) + nI s = nI (9 * s) := by
    rw [ps_ix2, ps_ix4]
    exact congrArg nI (by omega)
  have e1 : (4 * ((2 * nI s) + nI 1)) + nI s = nI (9 * s + 4) := by
    rw [ps_ix2, ps_ix4]
    exact congrArg nI (by omega)
  refine ⟨3, pk_le 2 0 (fun z => absurd z (by omega)) (fun _ => ⟨pk_in (9 * s) 32 (by omega) e0, nm_r (e' := upd a2 (9 * s) 4) ?_ (nm_r (nI_1 0) (pk_le 2 1 (fun z => absurd z (by omega)) (fun _ => ⟨pk_in (9 * s + 4) 32 (by omega) e1, nm_r (e' := upd (upd a2 (9 * s) 4) (9 * s + 4) 4) ?_ (nm_r (nI_1 1) (pk_le 2 2 (fun _ => nm_r (nI_1 s) H) (fun z => absurd z (by omega))))⟩)))⟩)⟩
  · show upd a2 ((4 * ((2 * nI s) + nI 0)) + nI s).toNatClampNeg 4 = _
    rw [e0, nI_clamp (by omega)]
  · show upd _ ((4 * ((2 * nI s) + nI 1)) + nI s).toNatClampNeg 4 = _
    rw [e1, nI_clamp (by omega)]
theorem ps_S0 : ∀ j, j < 32 → (if j < 9 * 4 ∧ (j % 9 = 0 ∨ j % 9 = 4) then (4 : Int32) else 0) = ps_I (ps_S 0 j) := by decide +kernel
theorem ps_init {post : St2 → Prop} {mc ms : Nat} (hc : 7 ≤ mc) (hm : 76 ≤ ms) (H : ∀ m, (∀ j, j < 32 → m j = ps_I (ps_S 0 j)) → post (f1, f2, f3, f4, f5, (fun _ => 0), m, (fun _ => 0), (fun _ => 0), (fun _ => 0), (fun _ => 0), (fun _ => 0))) :
    wpX_init post mc ms (f1, f2, f3, f4, f5) := by
  refine ⟨by omega, by omega, by omega, by omega, by omega, by omega, by omega, by omega, by omega, by omega, by omega, by omega, by omega, by omega, ?_⟩
  refine pk_loop (fun n i m => wX_init_58 post mc ms 7 76 f1 f2 f3 f4 f5 n (nI i) (fun _ => 0) m (fun _ => 0) (fun _ => 0) (fun _ => 0) (fun _ => 0) (fun _ => 0))
    (fun s m => ∀ j, m j = if j < 9 * s ∧ (j % 9 = 0 ∨ j % 9 = 4) then (4 : Int32) else 0) 4 0 (fun _ => 0) (by omega) (fun j => by rw [if_neg (by omega)]) ?_ ?_
  · exact fun n m h => pk_le 4 4 (fun _ => H m (fun j hj => (h j).trans (ps_S0 j hj))) (fun z => absurd z (by omega))
  · intro n s m hs h hw
    refine pk_le 4 s (fun z => absurd z (by omega)) (fun _ => ps_in65 hs (hw _ (fun j => ?_)))
    by_cases e1 : j = 9 * s + 4
    · rw [e1, pk_us, if_pos (by omega)]
    · rw [pk_un e1]
      by_cases e2 : j = 9 * s
      · rw [e2, pk_us, if_pos (by omega)]
      · rw [pk_un e2, h j]
        by_cases e3 : j < 9 * s ∧ (j % 9 = 0 ∨ j % 9 = 4)
        · rw [if_pos e3, if_pos (by omega)]
        · rw [if_neg e3, if_neg (by omega)]
theorem ps_reward {post : Int32 → St2 → Prop} {s a : Nat} {x : Int} (hs : s < 4) (ha : a < 2) (hx : -20 ≤ x ∧ x ≤ 20) (H : post 1 (f1, f2, 0, f4, f5, upd a1 (2 * s + a) (ps_I x), a2, a3, a4, a5, a6, a7)) :
    wpX_reward post (f1, f2, f3, f4, f5, a1, a2, a3, a4, a5, a6, a7) (nI s) (nI a) (ps_I x) := by
  unfold wpX_reward
  dsimp only
  have h1 : ¬ ps_I x < (-20) := by
    rw [show (-20 : Int32) = ps_I (-20) by decide, ps_Ilt (by omega) (by omega)]
    omega
  have h2 : ps_I x ≤ 20 := by
    rw [show (20 : Int32) = ps_I 20 by decide, ps_Ile (by omega) (by omega)]
    omega
  refine ps_isState hs (br_f (by decide) (pk_lt a 0 (fun z => absurd z (by omega)) (fun _ => pk_lt 1 a (fun z => absurd z (by omega)) (fun _ => br_f h1 (br_t h2 ⟨pk_in (2 * s + a) 8 (by omega) (ps_ix2 s a), nm_r ?_ H⟩)))))
  rw [ps_cl2 (by omega), ps_I8 (by omega)]
theorem ps_up {f : Nat → Int32} {k k' : Nat} {x x' : Int32} (hk : k = k') (hx : x = x') : upd f k x = upd f k' x' := by rw [hk, hx]
theorem ps_sh {post : Int32 → St2 → Prop} {x y1 y2 y3 y4 v3 v2 v1 v0 : Int32} (e3 : (x - x / 5 * 5).toInt8.toInt32 = v3) (d1 : x / 5 = y1) (e2 : (y1 - y1 / 5 * 5).toInt8.toInt32 = v2) (d2 : y1 / 5 = y2) (e1 : (y2 - y2 / 5 * 5).toInt8.toInt32 = v1) (d3 : y2 / 5 = y3) (e0 : (y3 - y3 / 5 * 5).toInt8.toInt32 = v0) (d4 : y3 / 5 = y4)
    (H : post 1 (f1, f2, 0, f4, f5, a1, upd (upd (upd (upd a2 3 v3) 2 v2) 1 v1) 0 v0, a3, a4, a5, a6, a7)) : wX_shares_67 post 0 0 f1 f2 f3 f4 f5 5 x 3 a1 a2 a3 a4 a5 a6 a7 := by
  refine br_f (by decide) ⟨by decide, vp_in_iff.mpr (by decide), nm_r (e' := upd a2 3 v3) (ps_up (by decide) e3) ⟨by decide, nm_r d1 (nm_r (e' := 2) (by decide) ?_)⟩⟩
  refine br_f (by decide) ⟨by decide, vp_in_iff.mpr (by decide), nm_r (e' := upd (upd a2 3 v3) 2 v2) (ps_up (by decide) e2) ⟨by decide, nm_r d2 (nm_r (e' := 1) (by decide) ?_)⟩⟩
  refine br_f (by decide) ⟨by decide, vp_in_iff.mpr (by decide), nm_r (e' := upd (upd (upd a2 3 v3) 2 v2) 1 v1) (ps_up (by decide) e1) ⟨by decide, nm_r d3 (nm_r (e' := 0) (by decide) ?_)⟩⟩
  refine br_f (by decide) ⟨by decide, vp_in_iff.mpr (by decide), nm_r (e' := upd (upd (upd (upd a2 3 v3) 2 v2) 1 v1) 0 v0) (ps_up (by decide) e0) ⟨by decide, nm_r d4 (nm_r (e' := -1) (by decide) ?_)⟩⟩
  exact br_t (by decide) H
theorem ps_shN : ∀ k, k < 5 → ¬ nI (500 - 100 * k) < 0 ∧ nI (500 - 100 * k) ≤ 624 ∧ (((nI (500 - 100 * k) / 125) + ((nI (500 - 100 * k) / 25) - (nI (500 - 100 * k) / 25) / 5 * 5)) + ((nI (500 - 100 * k) / 5) - (nI (500 - 100 * k) / 5) / 5 * 5)) + (nI (500 - 100 * k) - nI (500 - 100 * k) / 5 * 5) = 4
    ∧ (nI (500 - 100 * k) - nI (500 - 100 * k) / 5 * 5).toInt8.toInt32 = 0 ∧ nI (500 - 100 * k) / 5 = nI (100 - 20 * k) ∧ (nI (100 - 20 * k) - nI (100 - 20 * k) / 5 * 5).toInt8.toInt32 = 0 ∧ nI (100 - 20 * k) / 5 = nI (20 - 4 * k)
    ∧ (nI (20 - 4 * k) - nI (20 - 4 * k) / 5 * 5).toInt8.toInt32 = nI k ∧ nI (20 - 4 * k) / 5 = nI (4 - k) ∧ (nI (4 - k) - nI (4 - k) / 5 * 5).toInt8.toInt32 = nI (4 - k) := by decide +kernel
theorem ps_shares {post : Int32 → St2 → Prop} {k : Nat} (hk : k < 5) (H : post 1 (f1, f2, 0, f4, f5, a1, upd (upd (upd (upd a2 3 0) 2 0) 1 (nI k)) 0 (nI (4 - k)), a3, a4, a5, a6, a7)) :
    wpX_shares post (f1, f2, f3, f4, f5, a1, a2, a3, a4, a5, a6, a7) 0 0 (nI (500 - 100 * k)) := by
  obtain ⟨h1, h2, h3, e3, d1, e2, d2, e1, d3, e0⟩ := ps_shN k hk
  unfold wpX_shares
  dsimp only
  exact ps_isState (s := 0) (by omega) (br_f (by decide) (br_f (by decide) (br_f (by decide) (br_f h1 (br_t h2 ⟨by decide, by decide, by decide, by decide, by decide, by decide, nm_r h3 (br_t rfl ⟨5, ps_sh e3 d1 e2 d2 e1 d3 e0 rfl H⟩)⟩)))))
end
end
section
theorem ps_in41 (p : Int32) : ∃ r : Int, (-20 ≤ r ∧ r ≤ 20) ∧ ((p &&& 255) - (p &&& 255) / 41 * 41) - 20 = ps_I r := by
  obtain ⟨j, hj, e⟩ := pk_andE p (m := 255) 8 (by decide)
  refine ⟨((j % 41 : Nat) : Int) - 20, by omega, ?_⟩
  have e2 : nI j - nI j / 41 * 41 = nI (j % 41) := pk_rem (a := j) (d := 41) (by omega) (by omega) (by omega)
  rw [e, e2, ps_In, show (20 : Int32) = ps_I 20 by decide, ps_Isub]
theorem ps_in5 (p : Int32) : ∃ k : Nat, k < 5 ∧ (p &&& 255) - (p &&& 255) / 5 * 5 = nI k := by
  obtain ⟨j, hj, e⟩ := pk_andE p (m := 255) 8 (by decide)
  refine ⟨j % 5, by omega, ?_⟩
  rw [e]
  exact pk_rem (a := j) (d := 5) (by omega) (by omega) (by omega)
theorem ps_mkP {r o q : Int} {k : Nat} (hk : k < 5) {m : Nat → Int32} (hm : ∀ j, j < 32 → m j = ps_I (ps_S 0 j)) :
    ps_P r o q k (upd (upd (upd (upd (fun _ => 0) (2 * 0 + 0) (ps_I r)) (2 * 1 + 0) (ps_I q)) (2 * 1 + 1) (ps_I q)) (2 * 0 + 1) (ps_I o)) (upd (upd (upd (upd m 3 0) 2 0) 1 (nI k)) 0 (nI (4 - k))) := by
  constructor
  · intro j hj
    have h8 : j = 0 ∨ j = 1 ∨ j = 2 ∨ j = 3 ∨ j = 4 ∨ j = 5 ∨ j = 6 ∨ j = 7 := by omega
    rcases h8 with rfl | rfl | rfl | rfl | rfl | rfl | rfl | rfl <;> rfl
  · intro j hj
    by_cases e0 : j = 0
    · rw [e0, pk_us, ps_In]
      exact congrArg ps_I (show ((4 - k : Nat) : Int) = 4 - (k : Int) by omega)
    · rw [pk_un e0]
      by_cases e1 : j = 1
      · rw [e1, pk_us, ps_In]
        rfl
      · rw [pk_un e1]
        by_cases e2 : j = 2
        · rw [e2, pk_us]
          rfl
        · rw [pk_un e2]
          by_cases e3 : j = 3
          · rw [e3, pk_us]
            rfl
          · rw [pk_un e3, hm j hj]
            unfold ps_S
            rw [if_neg e0, if_neg e1, if_neg e0, if_neg e1]
theorem ps_Oc (r o q g : Int) : (ps_O r o q g = 0 ∧ ps_c r o q g = 3) ∨ (ps_O r o q g = 1 ∧ ps_c r o q g = 1) ∨ (ps_O r o q g = -1 ∧ ps_c r o q g = 2) := by
  unfold ps_O ps_c
  by_cases z : 2 * o * (4 + g) ≤ 8 * r + 2 * g * q
  · rw [if_pos z, if_pos z]
    by_cases y : 8 * r + 2 * g * q ≤ 2 * o * (4 + g)
    · rw [if_pos y, if_pos y]
      exact Or.inl ⟨rfl, rfl⟩
    · rw [if_neg y, if_neg y]
      exact Or.inr (Or.inl ⟨rfl, rfl⟩)
  · rw [if_neg z, if_neg z]
    exact Or.inr (Or.inr ⟨rfl, rfl⟩)
theorem ps_tail {f1 f2 : Int64} {f4 : Int32} {f5 : Int64} {a1 a2 : Nat → Int32} {a3 a4 a5 a6 : Nat → Int64} {a7 : Nat → Int32} {post : Int32 → St0 → Prop} {mc ms kc ks : Nat} {z0 : Int32} {r o q g : Int}
    (hN : ps_N r o q g) (hP : ps_P r o q g a1 a2) (hz : ps_O r o q g = z0) (H : post 1 ()) : wL_lawOf_235 post mc ms z0 kc ks f1 f2 0 f4 f5 a1 a2 a3 a4 a5 a6 a7 := by
  unfold wL_lawOf_235
  refine ps_compare hN hP (fun b1 b2 m3 m4 m5 => br_t hz ?_)
  dsimp only
  refine ps_policies hN hP (fun d1 d4 d5 w3 w4 w6 w7 c0 c1 c2 c3 => ?_)
  dsimp only
  rcases ps_Oc r o q g with ⟨e, ec⟩ | ⟨e, ec⟩ | ⟨e, ec⟩
  · rw [e] at hz
    rw [ec] at c0
    rw [← hz, ec]
    exact br_t rfl (br_t (by decide) (ps_policy c1 c2 c3 (Or.inr ⟨by rw [c0]; decide, rfl⟩) (br_t (by decide) (br_t rfl H))))
  · rw [e] at hz
    rw [ec] at c0
    rw [← hz, ec]
    exact br_f (by decide) (br_t (by decide) (ps_policy c1 c2 c3 (Or.inr ⟨by rw [c0]; decide, rfl⟩) (br_t (by decide) (br_t rfl H))))
  · rw [e] at hz
    rw [ec] at c0
    rw [← hz, ec]
    exact br_f (by decide) (br_t (by decide) (ps_policy c1 c2 c3 (Or.inl ⟨by rw [c0]; decide, rfl⟩) (br_f (by decide) (br_t rfl H))))
theorem ps_g0 {N U : Int} (hU : 0 < U ∧ U ≤ 64) : ¬ nI (ps_G N U) = 0 := by
  have h := ps_Gb (N := N) hU
  exact nI_ne0 (by omega) (by omega)
theorem ps_qI {x N U : Int} (hx : -2000000000 ≤ x ∧ x ≤ 2000000000) (hU : 0 < U ∧ U ≤ 64) : ps_I (x.tdiv (ps_G N U)) = ps_I x / nI (ps_G N U) := by
  have h := ps_Gb (N := N) hU
  rw [ps_In, ps_Idiv hx (by omega)]
theorem ps_arg : ∀ k, k < 5 → (125 * (4 - nI k)) + (25 * nI k) = nI (500 - 100 * k) := by decide +kernel
theorem ps_lawOf {post : Int32 → St0 → Prop} (H : post 1 ()) (p0 p1 p2 p3 : Int32) : wpL_lawOf post 8 88 () p0 p1 p2 p3 := by
  obtain ⟨r, hr, er⟩ := ps_in41 p0
  obtain ⟨q, hq, eq⟩ := ps_in41 p1
  obtain ⟨o, ho, eo⟩ := ps_in41 p2
  obtain ⟨k, hk, ek⟩ := ps_in5 p3
  have hN : ps_N r o q k := ⟨hr, ho, hq, by omega⟩
  have hb := ps_Nb hN
  have hb2 := ps_Ob hN
  have hU : 0 < 4 + (k : Int) ∧ 4 + (k : Int) ≤ 64 := by omega
  have i2 : (2 : Int32) = ps_I 2 := by decide
  have i8 : (8 : Int32) = ps_I 8 := by decide
  have i4 : (4 : Int32) = ps_I 4 := by decide
  unfold wpL_lawOf
  refine ⟨by decide, nm_r er ⟨by decide, nm_r eq ⟨by decide, nm_r eo ⟨by decide, nm_r ek (nm_r (e' := ps_I (8 * r + 2 * k * q)) ?_ (nm_r (e' := ps_I (4 + k)) ?_ ?_))⟩⟩⟩⟩
  · rw [ps_In, i8, i2, ps_Imul, ps_Imul, ps_Imul, ps_Iadd]
  · rw [ps_In, i4, ps_Iadd]
  refine ps_common (by omega) hU ⟨by omega, by omega, 7, 76, by omega, by omega, ps_init (by omega) (by omega) (fun m hm => ?_)⟩
  dsimp only
  refine ps_reward (s := 0) (a := 0) (by omega) (by omega) hr (br_f (by decide) ?_)
  dsimp only
  rw [ps_arg k hk]
  refine ps_shares hk (br_f (by decide) ?_)
  dsimp only
  refine ps_reward (s := 1) (a := 0) (by omega) (by omega) hq (br_f (by decide) ?_)
  dsimp only
  refine ps_reward (s := 1) (a := 1) (by omega) (by omega) hq (br_f (by decide) ?_)
  dsimp only
  refine ps_reward (s := 0) (a := 1) (by omega) (by omega) ho (br_f (by decide) ?_)
  dsimp only
  have hP := ps_mkP (r := r) (o := o) (q := q) hk hm
  refine ps_valueTop hN hP (fun b1 m3 m4 => ⟨ps_g0 hU, br_t (ps_qI (by omega) hU) ?_⟩)
  dsimp only
  refine ps_valueBottom hN hP (fun b1 m3 m4 => ⟨ps_g0 hU, br_t (ps_qI (by omega) hU) ?_⟩)
  dsimp only
  have e : ((2 : Int32) * ps_I o) * ps_I (4 + k) = ps_I (2 * o * (4 + k)) := by rw [i2, ps_Imul, ps_Imul]
  rw [e]
  refine br_c (fun z => br_c (fun y => ps_tail hN hP ?_ H) (fun y => ps_tail hN hP ?_ H)) (fun z => ps_tail hN hP ?_ H)
  · rw [ps_Ile (by omega) (by omega)] at z y
    unfold ps_O
    rw [if_pos z, if_pos y]
  · rw [ps_Ile (by omega) (by omega)] at z y
    unfold ps_O
    rw [if_pos z, if_neg y]
  · rw [ps_Ile (by omega) (by omega)] at z
    unfold ps_O
    rw [if_neg z]
theorem ps_cell {post : Int32 → Prop} {L : Nat} {xs : Nat → Int32} (k : Nat) (hk : k < 4) (hL : L ≤ 4) (H : ∀ x, post x) : wpL_cellAt post L xs () (nI k) :=
  pk_le L k (fun _ => H 0) (fun z => ⟨pk_in k L z, H _⟩)
theorem i_vc (xs : Nat → Int32) (L : Nat) (hL : L ≤ 4) : wpL_law (fun r => r = 1) L xs :=
  ps_cell 0 (by omega) hL (fun r1 => ps_cell 1 (by omega) hL (fun r2 => ps_cell 2 (by omega) hL (fun r3 => ps_cell 3 (by omega) hL (fun r4 => ⟨8, 88, by omega, by omega, ps_lawOf rfl r1 r2 r3 r4⟩))))
end
