section
/-! ===== bits, indices, pictures ===== -/
theorem cf_bit : ∀ m, m < 64 → ∀ b, b < 6 → (((nI m >>> (nI b &&& 31)) &&& 1) = 0 ↔ m.testBit b = false) := by decide +kernel
theorem cf_orT : ∀ m, m < 64 → ∀ b, b < 6 → nI m ||| ((1 : Int32) <<< (nI b &&& 31)) = nI (m ||| 2 ^ b) := by decide +kernel
theorem cf_or64 : ∀ m, m < 64 → ∀ b, b < 6 → m ||| 2 ^ b < 64 := by decide +kernel
theorem cf_andT : ∀ m, m < 64 → ∀ b, b < 6 → nI m &&& (((1 : Int32) <<< (nI b &&& 31)) ^^^ (-1)) = nI (m &&& (63 ^^^ 2 ^ b)) := by decide +kernel
theorem cf_and64 : ∀ m, m < 64 → ∀ b, b < 6 → m &&& (63 ^^^ 2 ^ b) < 64 := by decide +kernel
theorem cf_byte : ∀ b, b < 6 → (nI b).toInt8.toInt32 = nI b := by decide +kernel
/-- how many places a set has -/
def cf_cnt (m : Nat) : Nat := (m.testBit 0).toNat + (m.testBit 1).toNat + (m.testBit 2).toNat + (m.testBit 3).toNat + (m.testBit 4).toNat + (m.testBit 5).toNat
theorem cf_cntA : ∀ m, m < 64 → ∀ b, b < 6 → m.testBit b = false → cf_cnt (m ||| 2 ^ b) = cf_cnt m + 1 := by decide +kernel
theorem cf_cntD : ∀ m, m < 64 → ∀ b, b < 6 → m.testBit b = true → cf_cnt (m &&& (63 ^^^ 2 ^ b)) + 1 = cf_cnt m := by decide +kernel
theorem cf_cntL : ∀ t, t < 64 → ∀ m, m < 64 → (∀ c, c < 6 → t.testBit c = true → m.testBit c = true) → cf_cnt t ≤ cf_cnt m := by decide +kernel
theorem cf_cnt5 : ∀ m, m < 64 → cf_cnt m = 5 → ∀ b, b < 3 → m.testBit b = false → m.testBit 3 = true := by decide +kernel
theorem cf_bt {x : Bool} (h : ¬ x = false) : x = true := by
  cases x
  · exact absurd rfl h
  · rfl
theorem cf_tf {x : Bool} {A : Prop} (h : x = true) (z : x = false) : A := by
  rw [h] at z
  exact absurd z (by decide)
theorem cf_ex {t m : Nat} (ht : t < 64) (hm : m < 64) (h : cf_cnt m < cf_cnt t) : ∃ c, c < 6 ∧ t.testBit c = true ∧ m.testBit c = false := by
  refine Classical.byContradiction (fun z => ?_)
  have := cf_cntL t ht m hm (fun c hc h1 => cf_bt (fun h2 => z ⟨c, hc, h1, h2⟩))
  omega
theorem cf_or {m b : Nat} (hm : m < 64) (hb : b < 6) : nI m ||| ((1 : Int32) <<< (nI b &&& 31)) = nI (m ||| 2 ^ b) := cf_orT m hm b hb
theorem cf_in {post : Int32 → Prop} {m b : Nat} {u : St0} {p q : Int32} (hm : m < 64) (hb : b < 6) (h0 : m.testBit b = false → post 0) (h1 : m.testBit b = true → post 1) (hp : p = nI m := by rfl) (hq : q = nI b := by rfl) : wpX_in post u p q := by
  subst hp hq
  exact ek_if (cf_bit m hm b hb) h0 (fun z => h1 (cf_bt z))
theorem cf_inI {A B : Prop} {m b : Nat} {u : St0} {p q : Int32} (hm : m < 64) (hb : b < 6) (h0 : m.testBit b = false → A) (h1 : m.testBit b = true → B) (hp : p = nI m := by rfl) (hq : q = nI b := by rfl) : wpX_in (fun r => (r = 0 → A) ∧ (¬ r = 0 → B)) u p q :=
  cf_in hm hb (fun z => br_t rfl (h0 z)) (fun z => br_f (by decide) (h1 z)) hp hq
theorem cf_ix (a b : Nat) : nI a * 6 + nI b = nI (a * 6 + b) := by
  rw [show (6 : Int32) = nI 6 from rfl, pk_mul, nI_add]
theorem cf_vin {a b : Nat} (ha : a < 6) (hb : b < 6) : vp_in (nI a * 6 + nI b) 36 := pk_in (a * 6 + b) 36 (by omega) (cf_ix a b)
theorem cf_cl {a b : Nat} (ha : a < 6) (hb : b < 6) : (nI a * 6 + nI b).toNatClampNeg = a * 6 + b := pk_cl (a * 6 + b) (cf_ix a b)
theorem cf_c {a : Nat} (ha : a < 1000) : (nI a).toNatClampNeg = a := nI_clamp (by omega)
/-- an array of 36 places holds these naturals -/
def cf_R (a : Nat → Int32) (g : Nat → Nat) : Prop := ∀ k, k < 36 → a k = nI (g k)
/-- one link pushed: amount m off place i, onto place j -/
def cf_pe (g : Nat → Nat) (i j m : Nat) : Nat → Nat := fun k => if k = j then g j + m else if k = i then g i - m else g k
theorem cf_peR {a : Nat → Int32} {g : Nat → Nat} {i j m : Nat} (h : cf_R a g) (hi : i < 36) (hj : j < 36) (hij : i ≠ j) (hm : m ≤ g i) :
    cf_R (upd (upd a i (a i - nI m)) j (upd a i (a i - nI m) j + nI m)) (cf_pe g i j m) := by
  intro k hk
  show upd (upd a i (a i - nI m)) j (upd a i (a i - nI m) j + nI m) k = nI (if k = j then g j + m else if k = i then g i - m else g k)
  by_cases e1 : k = j
  · rw [if_pos e1, e1, pk_us, pk_un (fun z => hij z.symm), h j hj, nI_add]
  · rw [if_neg e1, pk_un e1]
    by_cases e2 : k = i
    · rw [if_pos e2, e2, pk_us, h i hi, pk_sub hm]
    · rw [if_neg e2, pk_un e2, h k hk]
/-- only the places of three joined pairs hold anything -/
def cf_Z (g : Nat → Nat) : Prop := ∀ k, k < 36 → k ≠ 1 → k ≠ 2 → k ≠ 6 → k ≠ 8 → k ≠ 12 → k ≠ 13 → g k = 0
theorem cf_peZ {g : Nat → Nat} {i j m : Nat} (h : cf_Z g) (hi : i = 1 ∨ i = 2 ∨ i = 6 ∨ i = 8 ∨ i = 12 ∨ i = 13) (hj : j = 1 ∨ j = 2 ∨ j = 6 ∨ j = 8 ∨ j = 12 ∨ j = 13) : cf_Z (cf_pe g i j m) := by
  intro k hk h1 h2 h3 h4 h5 h6
  show (if k = j then g j + m else if k = i then g i - m else g k) = 0
  rw [if_neg (by omega), if_neg (by omega)]
  exact h k hk h1 h2 h3 h4 h5 h6
def cf_B (g : Nat → Nat) (b : Nat) : Prop := ∀ k, k < 36 → g k ≤ b
theorem cf_peB {g : Nat → Nat} {i j m b : Nat} (h : cf_B g b) (hj : j < 36) (hi : i < 36) (hm : m ≤ g i) : cf_B (cf_pe g i j m) (b + b) := by
  intro k hk
  show (if k = j then g j + m else if k = i then g i - m else g k) ≤ b + b
  have t1 := h j hj
  have t2 := h i hi
  have t3 := h k hk
  by_cases e1 : k = j
  · rw [if_pos e1]; omega
  · rw [if_neg e1]
    by_cases e2 : k = i
    · rw [if_pos e2]; omega
    · rw [if_neg e2]; omega
/-- the capacities that the law sets -/
def cf_cap (x y z : Nat) : Nat → Nat := fun k => if k = 1 then x else if k = 6 then x else if k = 8 then y else if k = 13 then y else if k = 12 then z else if k = 2 then z else 0
theorem cf_capZ (x y z : Nat) : cf_Z (cf_cap x y z) := by
  intro k hk h1 h2 h3 h4 h5 h6
  show (if k = 1 then x else if k = 6 then x else if k = 8 then y else if k = 13 then y else if k = 12 then z else if k = 2 then z else 0) = 0
  rw [if_neg h1, if_neg h3, if_neg h4, if_neg h6, if_neg h5, if_neg h2]
theorem cf_capB {x y z b : Nat} (hx : x ≤ b) (hy : y ≤ b) (hz : z ≤ b) : cf_B (cf_cap x y z) b := by
  intro k hk
  show (if k = 1 then x else if k = 6 then x else if k = 8 then y else if k = 13 then y else if k = 12 then z else if k = 2 then z else 0) ≤ b
  repeat' split
  all_goals first | assumption | exact Nat.zero_le _
end
section
/-! ===== spread: one row a step ===== -/
section
variable {post : Int32 → St2 → Prop} {f : Int32} {a1 a2 a3 a4 a5 a6 a7 a8 : Nat → Int32} {n : Nat} {J : Int32 → Int32 → Int32 → (Nat → Int32) → (Nat → Int32) → (Nat → Int32) → (Nat → Int32) → (Nat → Int32) → (Nat → Int32) → (Nat → Int32) → (Nat → Int32) → Prop} {x1 x2 x4 x5 : Int32} {e k a b F G r S : Nat}
theorem cf_93e (h : J (nI e) (nI (k + 1)) f a1 a2 a3 a4 a5 a6 a7 a8) : wX_spread_93 post J x2 (nI k) x5 (n + 1) (nI e) (nI 6) f a1 a2 a3 a4 a5 a6 a7 a8 :=
  pk_le 6 6 (fun _ => nm_r (nI_1 k) h) (fun z => absurd z (by omega))
theorem cf_93f (hb : b < 6) (hF : F < 64) (hf : F.testBit b = true) (h : wX_spread_93 post J x2 x4 x5 n (nI e) (nI (b + 1)) (nI F) a1 a2 a3 a4 a5 a6 a7 a8) : wX_spread_93 post J x2 x4 x5 (n + 1) (nI e) (nI b) (nI F) a1 a2 a3 a4 a5 a6 a7 a8 :=
  pk_le 6 b (fun z => absurd z (by omega)) (fun _ => cf_inI hF hb (fun z => cf_tf hf z) (fun _ => nm_r (nI_1 b) h))
theorem cf_93z (ha : a < 6) (hb : b < 6) (hF : F < 64) (hf : F.testBit b = false) (hr : a2 (a * 6 + b) = nI 0) (h : wX_spread_93 post J x2 x4 (nI a) n (nI e) (nI (b + 1)) (nI F) a1 a2 a3 a4 a5 a6 a7 a8) : wX_spread_93 post J x2 x4 (nI a) (n + 1) (nI e) (nI b) (nI F) a1 a2 a3 a4 a5 a6 a7 a8 :=
  pk_le 6 b (fun z => absurd z (by omega)) (fun _ => cf_inI hF hb (fun _ => ⟨cf_vin ha hb, br_t (by rw [cf_cl ha hb, hr]; decide) (nm_r (nI_1 b) h)⟩) (fun z => cf_tf z hf))
theorem cf_93n (ha : a < 6) (hb : b < 6) (hF : F < 64) (hf : F.testBit b = false) (hr : a2 (a * 6 + b) = nI r) (h0 : 0 < r) (h1 : r < 2 ^ 31) (he : e < 8) (hG : G < 64) (hg : G.testBit b = false) (h : wX_spread_93 post J (nI G) x4 (nI a) n (nI (e + 1)) (nI (b + 1)) (nI (F ||| 2 ^ b)) a1 a2 (upd a3 b (nI a)) (upd a4 e (nI b)) a5 a6 a7 a8) : wX_spread_93 post J (nI G) x4 (nI a) (n + 1) (nI e) (nI b) (nI F) a1 a2 a3 a4 a5 a6 a7 a8 :=
  pk_le 6 b (fun z => absurd z (by omega)) (fun _ => cf_inI hF hb (fun _ => ⟨cf_vin ha hb, br_f (by rw [cf_cl ha hb, hr]; exact nI_nle h0 h1) (nm_r (cf_or hF hb) ⟨pk_in b 6 hb, nm_r (by rw [cf_c (by omega), cf_byte a ha]) ⟨pk_in e 8 he, nm_r (by rw [cf_c (by omega), cf_byte b hb]) (nm_r (nI_1 e) (cf_inI hG hb (fun _ => nm_r (nI_1 b) h) (fun z => cf_tf z hg)))⟩⟩)⟩) (fun z => cf_tf z hf))
theorem cf_93g (ha : a < 6) (hb : b < 6) (hF : F < 64) (hf : F.testBit b = false) (hr : a2 (a * 6 + b) = nI r) (h0 : 0 < r) (h1 : r < 2 ^ 31) (he : e < 8) (hG : G < 64) (hg : G.testBit b = true) (h : post (nI b) (nI (F ||| 2 ^ b), a1, a2, upd a3 b (nI a), upd a4 e (nI b), a5, a6, a7, a8)) : wX_spread_93 post J (nI G) x4 (nI a) (n + 1) (nI e) (nI b) (nI F) a1 a2 a3 a4 a5 a6 a7 a8 :=
  pk_le 6 b (fun z => absurd z (by omega)) (fun _ => cf_inI hF hb (fun _ => ⟨cf_vin ha hb, br_f (by rw [cf_cl ha hb, hr]; exact nI_nle h0 h1) (nm_r (cf_or hF hb) ⟨pk_in b 6 hb, nm_r (by rw [cf_c (by omega), cf_byte a ha]) ⟨pk_in e 8 he, nm_r (by rw [cf_c (by omega), cf_byte b hb]) (nm_r (nI_1 e) (cf_inI hG hb (fun z => cf_tf hg z) (fun _ => h)))⟩⟩)⟩) (fun z => cf_tf z hf))
theorem cf_68x (he : e ≤ k) (hk : k < 100) (H : post (-1) (f, a1, a2, a3, a4, a5, a6, a7, a8)) : wX_spread_68 post x2 (n + 1) (nI e) (nI k) f a1 a2 a3 a4 a5 a6 a7 a8 :=
  pk_le e k (fun _ => H) (fun z => absurd z (by omega))
theorem cf_68s (he : k < e) (hk : k < 6) (he8 : e < 9) (hl : a4 k = nI a) (H : wX_spread_93 post (wX_spread_68 post x2 n) x2 (nI k) (nI a) 7 (nI e) (nI 0) f a1 a2 a3 a4 a5 a6 a7 a8) : wX_spread_68 post x2 (n + 1) (nI e) (nI k) f a1 a2 a3 a4 a5 a6 a7 a8 :=
  pk_le e k (fun z => absurd z (by omega)) (fun _ => pk_le 6 k (fun z => absurd z (by omega)) (fun _ => ⟨pk_in k 8 (by omega), nm_r (by rw [cf_c (by omega)]; exact hl) ⟨7, H⟩⟩))
theorem cf_10e (H : wX_spread_68 post x2 7 (nI e) (nI 0) f a1 a2 a3 a4 a5 a6 a7 a8) : wX_spread_10 post x1 x2 (n + 1) (nI e) (nI 6) f a1 a2 a3 a4 a5 a6 a7 a8 :=
  pk_le 6 6 (fun _ => ⟨7, H⟩) (fun z => absurd z (by omega))
theorem cf_10n (hb : b < 6) (hS : S < 64) (hs : S.testBit b = false) (h : wX_spread_10 post (nI S) x2 n (nI e) (nI (b + 1)) f a1 a2 a3 a4 a5 a6 a7 a8) : wX_spread_10 post (nI S) x2 (n + 1) (nI e) (nI b) f a1 a2 a3 a4 a5 a6 a7 a8 :=
  pk_le 6 b (fun z => absurd z (by omega)) (fun _ => cf_inI hS hb (fun _ => nm_r (nI_1 b) h) (fun z => cf_tf z hs))
theorem cf_10y (hb : b < 6) (hS : S < 64) (hs : S.testBit b = true) (hF : F < 64) (he : e < 8) (h : wX_spread_10 post (nI S) x2 n (nI (e + 1)) (nI (b + 1)) (nI (F ||| 2 ^ b)) a1 a2 (upd a3 b (-1)) (upd a4 e (nI b)) a5 a6 a7 a8) : wX_spread_10 post (nI S) x2 (n + 1) (nI e) (nI b) (nI F) a1 a2 a3 a4 a5 a6 a7 a8 :=
  pk_le 6 b (fun z => absurd z (by omega)) (fun _ => cf_inI hS hb (fun z => cf_tf hs z) (fun _ => nm_r (cf_or hF hb) ⟨pk_in b 6 hb, nm_r (by rw [cf_c (by omega)]) ⟨pk_in e 8 he, nm_r (by rw [cf_c (by omega), cf_byte b hb]) (nm_r (nI_1 e) (nm_r (nI_1 b) h))⟩⟩))
end
end
section
/-! ===== spread: what it answers, by the rooms of the three pairs ===== -/
/-- the rooms: array, picture, nothing elsewhere, a bound -/
def cf_P (a : Nat → Int32) (g : Nat → Nat) (bd : Nat) : Prop := cf_R a g ∧ cf_Z g ∧ cf_B g bd
theorem cf_rz {a : Nat → Int32} {g : Nat → Nat} {bd k : Nat} (h : cf_P a g bd) (hk : k < 36 ∧ k ≠ 1 ∧ k ≠ 2 ∧ k ≠ 6 ∧ k ≠ 8 ∧ k ≠ 12 ∧ k ≠ 13) : a k = nI 0 := by
  rw [h.1 k hk.1, h.2.1 k hk.1 hk.2.1 hk.2.2.1 hk.2.2.2.1 hk.2.2.2.2.1 hk.2.2.2.2.2.1 hk.2.2.2.2.2.2]
theorem cf_rp {a : Nat → Int32} {g : Nat → Nat} {bd k v : Nat} (h : cf_P a g bd) (hk : k < 36) (hv : g k = v) : a k = nI v := by
  rw [h.1 k hk, hv]
theorem cf_rl {a : Nat → Int32} {g : Nat → Nat} {bd k : Nat} (h : cf_P a g bd) (hb : bd ≤ 100000) (hk : k < 36) : g k < 2 ^ 31 := by
  have := h.2.2 k hk
  omega
/-- what is known when no place of the goal is come to -/
def cf_no (g : Nat → Nat) (G F : Nat) : Prop := (G.testBit 1 = true → g 1 = 0) ∧ (G.testBit 2 = true → g 2 = 0) ∧ (G.testBit 1 = true → G.testBit 2 = false → g 2 = 0 ∨ g 13 = 0) ∧ (G.testBit 2 = true → G.testBit 1 = false → g 1 = 0 ∨ g 8 = 0) ∧ (g 1 = 0 → g 2 = 0 → F = 1) ∧ (g 1 = 0 → g 2 ≠ 0 → g 13 = 0 → F = 5)
theorem cf_no1 {g : Nat → Nat} {G : Nat} (h1 : g 1 = 0) (h2 : g 2 = 0) : cf_no g G 1 :=
  ⟨fun _ => h1, fun _ => h2, fun _ _ => Or.inl h2, fun _ _ => Or.inl h1, fun _ _ => rfl, fun _ z => absurd h2 z⟩
theorem cf_no2 {g : Nat → Nat} {G : Nat} (h1 : g 1 = 0) (h2 : g 2 ≠ 0) (q2 : G.testBit 2 = false) (h13 : g 13 = 0) : cf_no g G 5 :=
  ⟨fun _ => h1, fun z => cf_tf z q2, fun _ _ => Or.inr h13, fun z => cf_tf z q2, fun _ z => absurd z h2, fun _ _ _ => rfl⟩
theorem cf_no3 {g : Nat → Nat} {G : Nat} (h1 : g 1 = 0) (h2 : g 2 ≠ 0) (q2 : G.testBit 2 = false) (h13 : g 13 ≠ 0) (q1 : G.testBit 1 = false) : cf_no g G 7 :=
  ⟨fun _ => h1, fun z => cf_tf z q2, fun z => cf_tf z q1, fun z => cf_tf z q2, fun _ z => absurd z h2, fun _ _ z => absurd z h13⟩
theorem cf_no4 {g : Nat → Nat} {G F : Nat} (h1 : g 1 ≠ 0) (q1 : G.testBit 1 = false) (h2 : g 2 = 0) (h8 : g 8 = 0) : cf_no g G F :=
  ⟨fun z => cf_tf z q1, fun _ => h2, fun z => cf_tf z q1, fun _ _ => Or.inr h8, fun z => absurd z h1, fun z => absurd z h1⟩
theorem cf_no5 {g : Nat → Nat} {G F : Nat} (h1 : g 1 ≠ 0) (q1 : G.testBit 1 = false) (q2 : G.testBit 2 = false) : cf_no g G F :=
  ⟨fun z => cf_tf z q1, fun z => cf_tf z q2, fun z => cf_tf z q1, fun z => cf_tf z q2, fun z => absurd z h1, fun z => absurd z h1⟩
section
variable {post : Int32 → St2 → Prop} {f : Int32} {a1 a2 a3 a4 a5 a6 a7 a8 : Nat → Int32} {g : Nat → Nat} {bd G : Nat}
theorem cf_sp1 (hP : cf_P a2 g bd) (hbd : bd ≤ 100000) (hG : G < 64)
    (H1 : g 1 ≠ 0 → G.testBit 1 = true → ∀ (F : Nat) (b3 b4 : Nat → Int32), b3 0 = -1 → b3 1 = nI 0 → post (nI 1) (nI F, a1, a2, b3, b4, a5, a6, a7, a8))
    (H2 : g 2 ≠ 0 → G.testBit 2 = true → (g 1 = 0 ∨ G.testBit 1 = false) → ∀ (F : Nat) (b3 b4 : Nat → Int32), b3 0 = -1 → b3 2 = nI 0 → post (nI 2) (nI F, a1, a2, b3, b4, a5, a6, a7, a8))
    (H3 : g 1 ≠ 0 → g 8 ≠ 0 → g 2 = 0 → G.testBit 1 = false → G.testBit 2 = true → ∀ (F : Nat) (b3 b4 : Nat → Int32), b3 0 = -1 → b3 1 = nI 0 → b3 2 = nI 1 → post (nI 2) (nI F, a1, a2, b3, b4, a5, a6, a7, a8))
    (H4 : g 1 = 0 → g 2 ≠ 0 → g 13 ≠ 0 → G.testBit 2 = false → G.testBit 1 = true → ∀ (F : Nat) (b3 b4 : Nat → Int32), b3 0 = -1 → b3 2 = nI 0 → b3 1 = nI 2 → post (nI 1) (nI F, a1, a2, b3, b4, a5, a6, a7, a8))
    (HN : ∀ (F : Nat) (b3 b4 : Nat → Int32), cf_no g G F → post (-1) (nI F, a1, a2, b3, b4, a5, a6, a7, a8)) :
    wpX_spread post (f, a1, a2, a3, a4, a5, a6, a7, a8) (nI 1) (nI G) := by
  by_cases h1 : g 1 = 0
  · by_cases h2 : g 2 = 0
    · refine ⟨7, ?_⟩
      refine cf_10y (b := 0) (F := 0) (e := 0) (by decide) (by decide) (by decide) (by decide) (by decide) ?_
      refine cf_10n (by decide) (by decide) (by decide) ?_
      refine cf_10n (by decide) (by decide) (by decide) ?_
      refine cf_10n (by decide) (by decide) (by decide) ?_
      refine cf_10n (by decide) (by decide) (by decide) ?_
      refine cf_10n (by decide) (by decide) (by decide) ?_
      refine cf_10e ?_
      refine cf_68s (a := 0) (by decide) (by decide) (by decide) rfl ?_
      refine cf_93f (by decide) (by decide) (by decide) ?_
      refine cf_93z (by decide) (by decide) (by decide) (by decide) (cf_rp hP (by decide) h1) ?_
      refine cf_93z (by decide) (by decide) (by decide) (by decide) (cf_rp hP (by decide) h2) ?_
      refine cf_93z (by decide) (by decide) (by decide) (by decide) (cf_rz hP (by decide)) ?_
      refine cf_93z (by decide) (by decide) (by decide) (by decide) (cf_rz hP (by decide)) ?_
      refine cf_93z (by decide) (by decide) (by decide) (by decide) (cf_rz hP (by decide)) ?_
      refine cf_93e ?_
      refine cf_68x (by decide) (by decide) ?_
      exact HN 1 _ _ (cf_no1 h1 h2)
    · cases q2 : G.testBit 2
      · by_cases h13 : g 13 = 0
        · refine ⟨7, ?_⟩
          refine cf_10y (b := 0) (F := 0) (e := 0) (by decide) (by decide) (by decide) (by decide) (by decide) ?_
          refine cf_10n (by decide) (by decide) (by decide) ?_
          refine cf_10n (by decide) (by decide) (by decide) ?_
          refine cf_10n (by decide) (by decide) (by decide) ?_
          refine cf_10n (by decide) (by decide) (by decide) ?_
          refine cf_10n (by decide) (by decide) (by decide) ?_
          refine cf_10e ?_
          refine cf_68s (a := 0) (by decide) (by decide) (by decide) rfl ?_
          refine cf_93f (by decide) (by decide) (by decide) ?_
          refine cf_93z (by decide) (by decide) (by decide) (by decide) (cf_rp hP (by decide) h1) ?_
          refine cf_93n (r := g 2) (by decide) (by decide) (by decide) (by decide) (cf_rp hP (by decide) rfl) (Nat.pos_of_ne_zero h2) (cf_rl hP hbd (by decide)) (by decide) hG q2 ?_
          refine cf_93z (by decide) (by decide) (by decide) (by decide) (cf_rz hP (by decide)) ?_
          refine cf_93z (by decide) (by decide) (by decide) (by decide) (cf_rz hP (by decide)) ?_
          refine cf_93z (by decide) (by decide) (by decide) (by decide) (cf_rz hP (by decide)) ?_
          refine cf_93e ?_
          refine cf_68s (a := 2) (by decide) (by decide) (by decide) rfl ?_
          refine cf_93f (by decide) (by decide) (by decide) ?_
          refine cf_93z (by decide) (by decide) (by decide) (by decide) (cf_rp hP (by decide) h13) ?_
          refine cf_93f (by decide) (by decide) (by decide) ?_
          refine cf_93z (by decide) (by decide) (by decide) (by decide) (cf_rz hP (by decide)) ?_
          refine cf_93z (by decide) (by decide) (by decide) (by decide) (cf_rz hP (by decide)) ?_
          refine cf_93z (by decide) (by decide) (by decide) (by decide) (cf_rz hP (by decide)) ?_
          refine cf_93e ?_
          refine cf_68x (by decide) (by decide) ?_
          exact HN 5 _ _ (cf_no2 h1 h2 q2 h13)
        · cases q1 : G.testBit 1
          · refine ⟨7, ?_⟩
            refine cf_10y (b := 0) (F := 0) (e := 0) (by decide) (by decide) (by decide) (by decide) (by decide) ?_
            refine cf_10n (by decide) (by decide) (by decide) ?_
            refine cf_10n (by decide) (by decide) (by decide) ?_
            refine cf_10n (by decide) (by decide) (by decide) ?_
            refine cf_10n (by decide) (by decide) (by decide) ?_
            refine cf_10n (by decide) (by decide) (by decide) ?_
            refine cf_10e ?_
            refine cf_68s (a := 0) (by decide) (by decide) (by decide) rfl ?_
            refine cf_93f (by decide) (by decide) (by decide) ?_
            refine cf_93z (by decide) (by decide) (by decide) (by decide) (cf_rp hP (by decide) h1) ?_
            refine cf_93n (r := g 2) (by decide) (by decide) (by decide) (by decide) (cf_rp hP (by decide) rfl) (Nat.pos_of_ne_zero h2) (cf_rl hP hbd (by decide)) (by decide) hG q2 ?_
            refine cf_93z (by decide) (by decide) (by decide) (by decide) (cf_rz hP (by decide)) ?_
            refine cf_93z (by decide) (by decide) (by decide) (by decide) (cf_rz hP (by decide)) ?_
            refine cf_93z (by decide) (by decide) (by decide) (by decide) (cf_rz hP (by decide)) ?_
            refine cf_93e ?_
            refine cf_68s (a := 2) (by decide) (by decide) (by decide) rfl ?_
            refine cf_93f (by decide) (by decide) (by decide) ?_
            refine cf_93n (r := g 13) (by decide) (by decide) (by decide) (by decide) (cf_rp hP (by decide) rfl) (Nat.pos_of_ne_zero h13) (cf_rl hP hbd (by decide)) (by decide) hG q1 ?_
            refine cf_93f (by decide) (by decide) (by decide) ?_
            refine cf_93z (by decide) (by decide) (by decide) (by decide) (cf_rz hP (by decide)) ?_
            refine cf_93z (by decide) (by decide) (by decide) (by decide) (cf_rz hP (by decide)) ?_
            refine cf_93z (by decide) (by decide) (by decide) (by decide) (cf_rz hP (by decide)) ?_
            refine cf_93e ?_
            refine cf_68s (a := 1) (by decide) (by decide) (by decide) rfl ?_
            refine cf_93f (by decide) (by decide) (by decide) ?_
            refine cf_93f (by decide) (by decide) (by decide) ?_
            refine cf_93f (by decide) (by decide) (by decide) ?_
            refine cf_93z (by decide) (by decide) (by decide) (by decide) (cf_rz hP (by decide)) ?_
            refine cf_93z (by decide) (by decide) (by decide) (by decide) (cf_rz hP (by decide)) ?_
            refine cf_93z (by decide) (by decide) (by decide) (by decide) (cf_rz hP (by decide)) ?_
            refine cf_93e ?_
            refine cf_68x (by decide) (by decide) ?_
            exact HN 7 _ _ (cf_no3 h1 h2 q2 h13 q1)
          · refine ⟨7, ?_⟩
            refine cf_10y (b := 0) (F := 0) (e := 0) (by decide) (by decide) (by decide) (by decide) (by decide) ?_
            refine cf_10n (by decide) (by decide) (by decide) ?_
            refine cf_10n (by decide) (by decide) (by decide) ?_
            refine cf_10n (by decide) (by decide) (by decide) ?_
            refine cf_10n (by decide) (by decide) (by decide) ?_
            refine cf_10n (by decide) (by decide) (by decide) ?_
            refine cf_10e ?_
            refine cf_68s (a := 0) (by decide) (by decide) (by decide) rfl ?_
            refine cf_93f (by decide) (by decide) (by decide) ?_
            refine cf_93z (by decide) (by decide) (by decide) (by decide) (cf_rp hP (by decide) h1) ?_
            refine cf_93n (r := g 2) (by decide) (by decide) (by decide) (by decide) (cf_rp hP (by decide) rfl) (Nat.pos_of_ne_zero h2) (cf_rl hP hbd (by decide)) (by decide) hG q2 ?_
            refine cf_93z (by decide) (by decide) (by decide) (by decide) (cf_rz hP (by decide)) ?_
            refine cf_93z (by decide) (by decide) (by decide) (by decide) (cf_rz hP (by decide)) ?_
            refine cf_93z (by decide) (by decide) (by decide) (by decide) (cf_rz hP (by decide)) ?_
            refine cf_93e ?_
            refine cf_68s (a := 2) (by decide) (by decide) (by decide) rfl ?_
            refine cf_93f (by decide) (by decide) (by decide) ?_
            refine cf_93g (r := g 13) (by decide) (by decide) (by decide) (by decide) (cf_rp hP (by decide) rfl) (Nat.pos_of_ne_zero h13) (cf_rl hP hbd (by decide)) (by decide) hG q1 ?_
            exact H4 h1 h2 h13 q2 q1 7 _ _ rfl rfl rfl
      · refine ⟨7, ?_⟩
        refine cf_10y (b := 0) (F := 0) (e := 0) (by decide) (by decide) (by decide) (by decide) (by decide) ?_
        refine cf_10n (by decide) (by decide) (by decide) ?_
        refine cf_10n (by decide) (by decide) (by decide) ?_
        refine cf_10n (by decide) (by decide) (by decide) ?_
        refine cf_10n (by decide) (by decide) (by decide) ?_
        refine cf_10n (by decide) (by decide) (by decide) ?_
        refine cf_10e ?_
        refine cf_68s (a := 0) (by decide) (by decide) (by decide) rfl ?_
        refine cf_93f (by decide) (by decide) (by decide) ?_
        refine cf_93z (by decide) (by decide) (by decide) (by decide) (cf_rp hP (by decide) h1) ?_
        refine cf_93g (r := g 2) (by decide) (by decide) (by decide) (by decide) (cf_rp hP (by decide) rfl) (Nat.pos_of_ne_zero h2) (cf_rl hP hbd (by decide)) (by decide) hG q2 ?_
        exact H2 h2 q2 (Or.inl h1) 5 _ _ rfl rfl
  · cases q1 : G.testBit 1
    · by_cases h2 : g 2 = 0
      · by_cases h8 : g 8 = 0
        · refine ⟨7, ?_⟩
          refine cf_10y (b := 0) (F := 0) (e := 0) (by decide) (by decide) (by decide) (by decide) (by decide) ?_
          refine cf_10n (by decide) (by decide) (by decide) ?_
          refine cf_10n (by decide) (by decide) (by decide) ?_
          refine cf_10n (by decide) (by decide) (by decide) ?_
          refine cf_10n (by decide) (by decide) (by decide) ?_
          refine cf_10n (by decide) (by decide) (by decide) ?_
          refine cf_10e ?_
          refine cf_68s (a := 0) (by decide) (by decide) (by decide) rfl ?_
          refine cf_93f (by decide) (by decide) (by decide) ?_
          refine cf_93n (r := g 1) (by decide) (by decide) (by decide) (by decide) (cf_rp hP (by decide) rfl) (Nat.pos_of_ne_zero h1) (cf_rl hP hbd (by decide)) (by decide) hG q1 ?_
          refine cf_93z (by decide) (by decide) (by decide) (by decide) (cf_rp hP (by decide) h2) ?_
          refine cf_93z (by decide) (by decide) (by decide) (by decide) (cf_rz hP (by decide)) ?_
          refine cf_93z (by decide) (by decide) (by decide) (by decide) (cf_rz hP (by decide)) ?_
          refine cf_93z (by decide) (by decide) (by decide) (by decide) (cf_rz hP (by decide)) ?_
          refine cf_93e ?_
          refine cf_68s (a := 1) (by decide) (by decide) (by decide) rfl ?_
          refine cf_93f (by decide) (by decide) (by decide) ?_
          refine cf_93f (by decide) (by decide) (by decide) ?_
          refine cf_93z (by decide) (by decide) (by decide) (by decide) (cf_rp hP (by decide) h8) ?_
          refine cf_93z (by decide) (by decide) (by decide) (by decide) (cf_rz hP (by decide)) ?_
          refine cf_93z (by decide) (by decide) (by decide) (by decide) (cf_rz hP (by decide)) ?_
          refine cf_93z (by decide) (by decide) (by decide) (by decide) (cf_rz hP (by decide)) ?_
          refine cf_93e ?_
          refine cf_68x (by decide) (by decide) ?_
          exact HN 3 _ _ (cf_no4 h1 q1 h2 h8)
        · cases q2 : G.testBit 2
          · refine ⟨7, ?_⟩
            refine cf_10y (b := 0) (F := 0) (e := 0) (by decide) (by decide) (by decide) (by decide) (by decide) ?_
            refine cf_10n (by decide) (by decide) (by decide) ?_
            refine cf_10n (by decide) (by decide) (by decide) ?_
            refine cf_10n (by decide) (by decide) (by decide) ?_
            refine cf_10n (by decide) (by decide) (by decide) ?_
            refine cf_10n (by decide) (by decide) (by decide) ?_
            refine cf_10e ?_
            refine cf_68s (a := 0) (by decide) (by decide) (by decide) rfl ?_
            refine cf_93f (by decide) (by decide) (by decide) ?_
            refine cf_93n (r := g 1) (by decide) (by decide) (by decide) (by decide) (cf_rp hP (by decide) rfl) (Nat.pos_of_ne_zero h1) (cf_rl hP hbd (by decide)) (by decide) hG q1 ?_
            refine cf_93z (by decide) (by decide) (by decide) (by decide) (cf_rp hP (by decide) h2) ?_
            refine cf_93z (by decide) (by decide) (by decide) (by decide) (cf_rz hP (by decide)) ?_
            refine cf_93z (by decide) (by decide) (by decide) (by decide) (cf_rz hP (by decide)) ?_
            refine cf_93z (by decide) (by decide) (by decide) (by decide) (cf_rz hP (by decide)) ?_
            refine cf_93e ?_
            refine cf_68s (a := 1) (by decide) (by decide) (by decide) rfl ?_
            refine cf_93f (by decide) (by decide) (by decide) ?_
            refine cf_93f (by decide) (by decide) (by decide) ?_
            refine cf_93n (r := g 8) (by decide) (by decide) (by decide) (by decide) (cf_rp hP (by decide) rfl) (Nat.pos_of_ne_zero h8) (cf_rl hP hbd (by decide)) (by decide) hG q2 ?_
            refine cf_93z (by decide) (by decide) (by decide) (by decide) (cf_rz hP (by decide)) ?_
            refine cf_93z (by decide) (by decide) (by decide) (by decide) (cf_rz hP (by decide)) ?_
            refine cf_93z (by decide) (by decide) (by decide) (by decide) (cf_rz hP (by decide)) ?_
            refine cf_93e ?_
            refine cf_68s (a := 2) (by decide) (by decide) (by decide) rfl ?_
            refine cf_93f (by decide) (by decide) (by decide) ?_
            refine cf_93f (by decide) (by decide) (by decide) ?_
            refine cf_93f (by decide) (by decide) (by decide) ?_
            refine cf_93z (by decide) (by decide) (by decide) (by decide) (cf_rz hP (by decide)) ?_
            refine cf_93z (by decide) (by decide) (by decide) (by decide) (cf_rz hP (by decide)) ?_
            refine cf_93z (by decide) (by decide) (by decide) (by decide) (cf_rz hP (by decide)) ?_
            refine cf_93e ?_
            refine cf_68x (by decide) (by decide) ?_
            exact HN 7 _ _ (cf_no5 h1 q1 q2)
          · refine ⟨7, ?_⟩
            refine cf_10y (b := 0) (F := 0) (e := 0) (by decide) (by decide) (by decide) (by decide) (by decide) ?_
            refine cf_10n (by decide) (by decide) (by decide) ?_
            refine cf_10n (by decide) (by decide) (by decide) ?_
            refine cf_10n (by decide) (by decide) (by decide) ?_
            refine cf_10n (by decide) (by decide) (by decide) ?_
            refine cf_10n (by decide) (by decide) (by decide) ?_
            refine cf_10e ?_
            refine cf_68s (a := 0) (by decide) (by decide) (by decide) rfl ?_
            refine cf_93f (by decide) (by decide) (by decide) ?_
            refine cf_93n (r := g 1) (by decide) (by decide) (by decide) (by decide) (cf_rp hP (by decide) rfl) (Nat.pos_of_ne_zero h1) (cf_rl hP hbd (by decide)) (by decide) hG q1 ?_
            refine cf_93z (by decide) (by decide) (by decide) (by decide) (cf_rp hP (by decide) h2) ?_
            refine cf_93z (by decide) (by decide) (by decide) (by decide) (cf_rz hP (by decide)) ?_
            refine cf_93z (by decide) (by decide) (by decide) (by decide) (cf_rz hP (by decide)) ?_
            refine cf_93z (by decide) (by decide) (by decide) (by decide) (cf_rz hP (by decide)) ?_
            refine cf_93e ?_
            refine cf_68s (a := 1) (by decide) (by decide) (by decide) rfl ?_
            refine cf_93f (by decide) (by decide) (by decide) ?_
            refine cf_93f (by decide) (by decide) (by decide) ?_
            refine cf_93g (r := g 8) (by decide) (by decide) (by decide) (by decide) (cf_rp hP (by decide) rfl) (Nat.pos_of_ne_zero h8) (cf_rl hP hbd (by decide)) (by decide) hG q2 ?_
            exact H3 h1 h8 h2 q1 q2 7 _ _ rfl rfl rfl
      · cases q2 : G.testBit 2
        · refine ⟨7, ?_⟩
          refine cf_10y (b := 0) (F := 0) (e := 0) (by decide) (by decide) (by decide) (by decide) (by decide) ?_
          refine cf_10n (by decide) (by decide) (by decide) ?_
          refine cf_10n (by decide) (by decide) (by decide) ?_
          refine cf_10n (by decide) (by decide) (by decide) ?_
          refine cf_10n (by decide) (by decide) (by decide) ?_
          refine cf_10n (by decide) (by decide) (by decide) ?_
          refine cf_10e ?_
          refine cf_68s (a := 0) (by decide) (by decide) (by decide) rfl ?_
          refine cf_93f (by decide) (by decide) (by decide) ?_
          refine cf_93n (r := g 1) (by decide) (by decide) (by decide) (by decide) (cf_rp hP (by decide) rfl) (Nat.pos_of_ne_zero h1) (cf_rl hP hbd (by decide)) (by decide) hG q1 ?_
          refine cf_93n (r := g 2) (by decide) (by decide) (by decide) (by decide) (cf_rp hP (by decide) rfl) (Nat.pos_of_ne_zero h2) (cf_rl hP hbd (by decide)) (by decide) hG q2 ?_
          refine cf_93z (by decide) (by decide) (by decide) (by decide) (cf_rz hP (by decide)) ?_
          refine cf_93z (by decide) (by decide) (by decide) (by decide) (cf_rz hP (by decide)) ?_
          refine cf_93z (by decide) (by decide) (by decide) (by decide) (cf_rz hP (by decide)) ?_
          refine cf_93e ?_
          refine cf_68s (a := 1) (by decide) (by decide) (by decide) rfl ?_
          refine cf_93f (by decide) (by decide) (by decide) ?_
          refine cf_93f (by decide) (by decide) (by decide) ?_
          refine cf_93f (by decide) (by decide) (by decide) ?_
          refine cf_93z (by decide) (by decide) (by decide) (by decide) (cf_rz hP (by decide)) ?_
          refine cf_93z (by decide) (by decide) (by decide) (by decide) (cf_rz hP (by decide)) ?_
          refine cf_93z (by decide) (by decide) (by decide) (by decide) (cf_rz hP (by decide)) ?_
          refine cf_93e ?_
          refine cf_68s (a := 2) (by decide) (by decide) (by decide) rfl ?_
          refine cf_93f (by decide) (by decide) (by decide) ?_
          refine cf_93f (by decide) (by decide) (by decide) ?_
          refine cf_93f (by decide) (by decide) (by decide) ?_
          refine cf_93z (by decide) (by decide) (by decide) (by decide) (cf_rz hP (by decide)) ?_
          refine cf_93z (by decide) (by decide) (by decide) (by decide) (cf_rz hP (by decide)) ?_
          refine cf_93z (by decide) (by decide) (by decide) (by decide) (cf_rz hP (by decide)) ?_
          refine cf_93e ?_
          refine cf_68x (by decide) (by decide) ?_
          exact HN 7 _ _ (cf_no5 h1 q1 q2)
        · refine ⟨7, ?_⟩
          refine cf_10y (b := 0) (F := 0) (e := 0) (by decide) (by decide) (by decide) (by decide) (by decide) ?_
          refine cf_10n (by decide) (by decide) (by decide) ?_
          refine cf_10n (by decide) (by decide) (by decide) ?_
          refine cf_10n (by decide) (by decide) (by decide) ?_
          refine cf_10n (by decide) (by decide) (by decide) ?_
          refine cf_10n (by decide) (by decide) (by decide) ?_
          refine cf_10e ?_
          refine cf_68s (a := 0) (by decide) (by decide) (by decide) rfl ?_
          refine cf_93f (by decide) (by decide) (by decide) ?_
          refine cf_93n (r := g 1) (by decide) (by decide) (by decide) (by decide) (cf_rp hP (by decide) rfl) (Nat.pos_of_ne_zero h1) (cf_rl hP hbd (by decide)) (by decide) hG q1 ?_
          refine cf_93g (r := g 2) (by decide) (by decide) (by decide) (by decide) (cf_rp hP (by decide) rfl) (Nat.pos_of_ne_zero h2) (cf_rl hP hbd (by decide)) (by decide) hG q2 ?_
          exact H2 h2 q2 (Or.inr q1) 7 _ _ rfl rfl
    · refine ⟨7, ?_⟩
      refine cf_10y (b := 0) (F := 0) (e := 0) (by decide) (by decide) (by decide) (by decide) (by decide) ?_
      refine cf_10n (by decide) (by decide) (by decide) ?_
      refine cf_10n (by decide) (by decide) (by decide) ?_
      refine cf_10n (by decide) (by decide) (by decide) ?_
      refine cf_10n (by decide) (by decide) (by decide) ?_
      refine cf_10n (by decide) (by decide) (by decide) ?_
      refine cf_10e ?_
      refine cf_68s (a := 0) (by decide) (by decide) (by decide) rfl ?_
      refine cf_93f (by decide) (by decide) (by decide) ?_
      refine cf_93g (r := g 1) (by decide) (by decide) (by decide) (by decide) (cf_rp hP (by decide) rfl) (Nat.pos_of_ne_zero h1) (cf_rl hP hbd (by decide)) (by decide) hG q1 ?_
      exact H1 h1 q1 3 _ _ rfl rfl
theorem cf_sp5 (hP : cf_P a2 g bd) (hbd : bd ≤ 100000) (hG : G < 64) (q1 : G.testBit 1 = true)
    (H1 : g 1 ≠ 0 → ∀ (F : Nat) (b3 b4 : Nat → Int32), b3 0 = -1 → b3 1 = nI 0 → post (nI 1) (nI F, a1, a2, b3, b4, a5, a6, a7, a8))
    (H5 : g 1 = 0 → g 13 ≠ 0 → ∀ (F : Nat) (b3 b4 : Nat → Int32), b3 2 = -1 → b3 1 = nI 2 → post (nI 1) (nI F, a1, a2, b3, b4, a5, a6, a7, a8))
    (HN : ∀ (F : Nat) (b3 b4 : Nat → Int32), g 1 = 0 → g 13 = 0 → post (-1) (nI F, a1, a2, b3, b4, a5, a6, a7, a8)) :
    wpX_spread post (f, a1, a2, a3, a4, a5, a6, a7, a8) (nI 5) (nI G) := by
  by_cases h1 : g 1 = 0
  · by_cases h13 : g 13 = 0
    · refine ⟨7, ?_⟩
      refine cf_10y (b := 0) (F := 0) (e := 0) (by decide) (by decide) (by decide) (by decide) (by decide) ?_
      refine cf_10n (by decide) (by decide) (by decide) ?_
      refine cf_10y (by decide) (by decide) (by decide) (by decide) (by decide) ?_
      refine cf_10n (by decide) (by decide) (by decide) ?_
      refine cf_10n (by decide) (by decide) (by decide) ?_
      refine cf_10n (by decide) (by decide) (by decide) ?_
      refine cf_10e ?_
      refine cf_68s (a := 0) (by decide) (by decide) (by decide) rfl ?_
      refine cf_93f (by decide) (by decide) (by decide) ?_
      refine cf_93z (by decide) (by decide) (by decide) (by decide) (cf_rp hP (by decide) h1) ?_
      refine cf_93f (by decide) (by decide) (by decide) ?_
      refine cf_93z (by decide) (by decide) (by decide) (by decide) (cf_rz hP (by decide)) ?_
      refine cf_93z (by decide) (by decide) (by decide) (by decide) (cf_rz hP (by decide)) ?_
      refine cf_93z (by decide) (by decide) (by decide) (by decide) (cf_rz hP (by decide)) ?_
      refine cf_93e ?_
      refine cf_68s (a := 2) (by decide) (by decide) (by decide) rfl ?_
      refine cf_93f (by decide) (by decide) (by decide) ?_
      refine cf_93z (by decide) (by decide) (by decide) (by decide) (cf_rp hP (by decide) h13) ?_
      refine cf_93f (by decide) (by decide) (by decide) ?_
      refine cf_93z (by decide) (by decide) (by decide) (by decide) (cf_rz hP (by decide)) ?_
      refine cf_93z (by decide) (by decide) (by decide) (by decide) (cf_rz hP (by decide)) ?_
      refine cf_93z (by decide) (by decide) (by decide) (by decide) (cf_rz hP (by decide)) ?_
      refine cf_93e ?_
      refine cf_68x (by decide) (by decide) ?_
      exact HN 5 _ _ h1 h13
    · refine ⟨7, ?_⟩
      refine cf_10y (b := 0) (F := 0) (e := 0) (by decide) (by decide) (by decide) (by decide) (by decide) ?_
      refine cf_10n (by decide) (by decide) (by decide) ?_
      refine cf_10y (by decide) (by decide) (by decide) (by decide) (by decide) ?_
      refine cf_10n (by decide) (by decide) (by decide) ?_
      refine cf_10n (by decide) (by decide) (by decide) ?_
      refine cf_10n (by decide) (by decide) (by decide) ?_
      refine cf_10e ?_
      refine cf_68s (a := 0) (by decide) (by decide) (by decide) rfl ?_
      refine cf_93f (by decide) (by decide) (by decide) ?_
      refine cf_93z (by decide) (by decide) (by decide) (by decide) (cf_rp hP (by decide) h1) ?_
      refine cf_93f (by decide) (by decide) (by decide) ?_
      refine cf_93z (by decide) (by decide) (by decide) (by decide) (cf_rz hP (by decide)) ?_
      refine cf_93z (by decide) (by decide) (by decide) (by decide) (cf_rz hP (by decide)) ?_
      refine cf_93z (by decide) (by decide) (by decide) (by decide) (cf_rz hP (by decide)) ?_
      refine cf_93e ?_
      refine cf_68s (a := 2) (by decide) (by decide) (by decide) rfl ?_
      refine cf_93f (by decide) (by decide) (by decide) ?_
      refine cf_93g (r := g 13) (by decide) (by decide) (by decide) (by decide) (cf_rp hP (by decide) rfl) (Nat.pos_of_ne_zero h13) (cf_rl hP hbd (by decide)) (by decide) hG q1 ?_
      exact H5 h1 h13 7 _ _ rfl rfl
  · refine ⟨7, ?_⟩
    refine cf_10y (b := 0) (F := 0) (e := 0) (by decide) (by decide) (by decide) (by decide) (by decide) ?_
    refine cf_10n (by decide) (by decide) (by decide) ?_
    refine cf_10y (by decide) (by decide) (by decide) (by decide) (by decide) ?_
    refine cf_10n (by decide) (by decide) (by decide) ?_
    refine cf_10n (by decide) (by decide) (by decide) ?_
    refine cf_10n (by decide) (by decide) (by decide) ?_
    refine cf_10e ?_
    refine cf_68s (a := 0) (by decide) (by decide) (by decide) rfl ?_
    refine cf_93f (by decide) (by decide) (by decide) ?_
    refine cf_93g (r := g 1) (by decide) (by decide) (by decide) (by decide) (cf_rp hP (by decide) rfl) (Nat.pos_of_ne_zero h1) (cf_rl hP hbd (by decide)) (by decide) hG q1 ?_
    exact H1 h1 7 _ _ rfl rfl
end
end
section
/-! ===== push: one row a step, then the two kinds of way ===== -/
section
variable {post : Int32 → St2 → Prop} {f : Int32} {a1 a2 a3 a4 a5 a6 a7 a8 : Nat → Int32} {n : Nat} {g : Nat → Nat} {x1 x2 : Int32} {a b c m r : Nat}
theorem cf_57x (ha : a < 6) (h : a3 a = -1) (H : post x2 (f, a1, a2, a3, a4, a5, a6, a7, a8)) : wX_push_57 post x2 f (n + 1) (nI a) a1 a2 a3 a4 a5 a6 a7 a8 :=
  ⟨pk_in a 6 ha, br_t (by rw [cf_c (by omega), h]; decide) H⟩
theorem cf_57s (ha : a < 6) (hb : b < 6) (hab : a ≠ b) (h : a3 b = nI a) (hR : cf_R a2 g) (hm : m ≤ g (a * 6 + b)) (H : ∀ b2 : Nat → Int32, cf_R b2 (cf_pe g (a * 6 + b) (b * 6 + a) m) → wX_push_57 post (nI m) f n (nI a) a1 b2 a3 a4 a5 a6 a7 a8) : wX_push_57 post (nI m) f (n + 1) (nI b) a1 a2 a3 a4 a5 a6 a7 a8 :=
  ⟨pk_in b 6 hb, br_f (by rw [cf_c (by omega), h]; exact nI_pos (by omega)) ⟨pk_in b 6 hb, nm_r (by rw [cf_c (by omega), h]) ⟨cf_vin ha hb, cf_vin ha hb, nm_r (by rw [cf_cl ha hb]) ⟨cf_vin hb ha, cf_vin hb ha, nm_r (by rw [cf_cl hb ha]) ⟨pk_in b 6 hb, nm_r (by rw [cf_c (by omega), h]) (H _ (cf_peR hR (by omega) (by omega) (by omega) hm))⟩⟩⟩⟩⟩
theorem cf_5x (ha : a < 6) (h : a3 a = -1) (H : wX_push_57 post x2 f 4 x1 a1 a2 a3 a4 a5 a6 a7 a8) : wX_push_5 post x1 f a1 a2 a3 a4 a5 a6 a7 a8 (n + 1) x2 (nI a) :=
  ⟨pk_in a 6 ha, br_t (by rw [cf_c (by omega), h]; decide) ⟨4, H⟩⟩
theorem cf_5s (ha : a < 6) (hb : b < 6) (h : a3 b = nI a) (hr : a2 (a * 6 + b) = nI r) (hm : m < 2 ^ 31) (hr1 : r < 2 ^ 31) (H : wX_push_5 post x1 f a1 a2 a3 a4 a5 a6 a7 a8 n (nI (min m r)) (nI a)) : wX_push_5 post x1 f a1 a2 a3 a4 a5 a6 a7 a8 (n + 1) (nI m) (nI b) := by
  have e : (nI b).toNatClampNeg = b := cf_c (by omega)
  refine ⟨pk_in b 6 hb, br_f (by rw [e, h]; exact nI_pos (by omega)) ⟨pk_in b 6 hb, ?_, nm_r (by rw [e, h, cf_cl ha hb, hr]) ?_⟩⟩
  · rw [e, h]
    exact cf_vin ha hb
  · refine pk_le m r (fun z => ⟨pk_in b 6 hb, nm_r (by rw [e, h]) ?_⟩) (fun z => ⟨pk_in b 6 hb, nm_r (by rw [e, h]) ?_⟩)
    · rw [show min m r = m by omega] at H
      exact H
    · rw [show min m r = r by omega] at H
      exact H
/-- a way of one link -/
theorem cf_push1 (ha : a < 6) (hb : b < 6) (hab : a ≠ b) (h1 : a3 b = nI a) (h2 : a3 a = -1) (hR : cf_R a2 g) (hB : g (a * 6 + b) < 1000000) (hm : m = g (a * 6 + b)) (H : ∀ b2 : Nat → Int32, cf_R b2 (cf_pe g (a * 6 + b) (b * 6 + a) m) → post (nI m) (f, a1, b2, a3, a4, a5, a6, a7, a8)) : wpX_push post (f, a1, a2, a3, a4, a5, a6, a7, a8) (nI b) := by
  refine ⟨3, ?_⟩
  refine cf_5s (m := 1048576) (r := m) ha hb h1 (by rw [hR _ (by omega), hm]) (by decide) (by omega) (cf_5x ha h2 ?_)
  rw [show min 1048576 m = m by omega]
  exact cf_57s ha hb hab h1 hR (by omega) (fun b2 h => cf_57x ha h2 (H b2 h))
/-- a way of two links, a to c to b -/
theorem cf_push2 (ha : a < 6) (hb : b < 6) (hc : c < 6) (hab : a ≠ b) (hac : a ≠ c) (hcb : c ≠ b) (h1 : a3 b = nI c) (h2 : a3 c = nI a) (h3 : a3 a = -1) (hR : cf_R a2 g) (hB : g (c * 6 + b) < 1000000) (hB2 : g (a * 6 + c) < 1000000) (hm : m = min (g (c * 6 + b)) (g (a * 6 + c))) (H : ∀ b2 : Nat → Int32, cf_R b2 (cf_pe (cf_pe g (c * 6 + b) (b * 6 + c) m) (a * 6 + c) (c * 6 + a) m) → post (nI m) (f, a1, b2, a3, a4, a5, a6, a7, a8)) : wpX_push post (f, a1, a2, a3, a4, a5, a6, a7, a8) (nI b) := by
  refine ⟨4, ?_⟩
  refine cf_5s (m := 1048576) (r := g (c * 6 + b)) hc hb h1 (hR _ (by omega)) (by decide) (by omega) (cf_5s (r := g (a * 6 + c)) ha hc h2 (hR _ (by omega)) (by omega) (by omega) (cf_5x ha h3 ?_))
  rw [show min (min 1048576 (g (c * 6 + b))) (g (a * 6 + c)) = m by omega]
  refine cf_57s hc hb hcb h1 hR (by omega) (fun b2 h => cf_57s ha hc hac h2 h ?_ (fun b2 h => cf_57x ha h3 (H b2 h)))
  show m ≤ (if a * 6 + c = b * 6 + c then g (b * 6 + c) + m else if a * 6 + c = c * 6 + b then g (c * 6 + b) - m else g (a * 6 + c))
  rw [if_neg (by omega), if_neg (by omega)]
  omega
end
end
section
/-! ===== flow: a round, then the flows that the law asks for ===== -/
theorem cf_P1 {a : Nat → Int32} {g : Nat → Nat} {i j m bd : Nat} (hZ : cf_Z g) (hB : cf_B g bd) (hR : cf_R a (cf_pe g i j m)) (hi : i = 1 ∨ i = 2 ∨ i = 6 ∨ i = 8 ∨ i = 12 ∨ i = 13) (hj : j = 1 ∨ j = 2 ∨ j = 6 ∨ j = 8 ∨ j = 12 ∨ j = 13) (hm : m ≤ g i) : cf_P a (cf_pe g i j m) (4 * bd) :=
  ⟨hR, cf_peZ hZ hi hj, fun k hk => Nat.le_trans (cf_peB hB (by omega) (by omega) hm k hk) (by omega)⟩
theorem cf_P2 {a : Nat → Int32} {g : Nat → Nat} {i j i' j' m bd : Nat} (hZ : cf_Z g) (hB : cf_B g bd) (hR : cf_R a (cf_pe (cf_pe g i j m) i' j' m)) (hi : i = 1 ∨ i = 2 ∨ i = 6 ∨ i = 8 ∨ i = 12 ∨ i = 13) (hj : j = 1 ∨ j = 2 ∨ j = 6 ∨ j = 8 ∨ j = 12 ∨ j = 13) (hi' : i' = 1 ∨ i' = 2 ∨ i' = 6 ∨ i' = 8 ∨ i' = 12 ∨ i' = 13) (hj' : j' = 1 ∨ j' = 2 ∨ j' = 6 ∨ j' = 8 ∨ j' = 12 ∨ j' = 13) (hm : m ≤ g i) (hm' : m ≤ cf_pe g i j m i') : cf_P a (cf_pe (cf_pe g i j m) i' j' m) (4 * bd) :=
  ⟨hR, cf_peZ (cf_peZ hZ hi hj) hi' hj', fun k hk => Nat.le_trans (cf_peB (cf_peB hB (by omega) (by omega) hm) (by omega) (by omega) hm' k hk) (by omega)⟩
section
variable {post : Int32 → St2 → Prop} {f : Int32} {a1 a2 a3 a4 a5 a6 a7 a8 : Nat → Int32} {n : Nat} {g : Nat → Nat} {bd G s c : Nat}
theorem cf_rd1 (hP : cf_P a2 g bd) (hbd : bd ≤ 100000) (hG : G < 64) (hc : c < 128)
    (H1 : g 1 ≠ 0 → G.testBit 1 = true → ∀ (f' : Int32) (b2 b3 b4 : Nat → Int32), cf_P b2 (cf_pe g 1 6 (g 1)) (4 * bd) → wX_flow_31 post (nI 1) (nI G) n (nI (s + g 1)) (nI (c + 1)) f' a1 b2 b3 b4 a5 a6 a7 a8)
    (H2 : g 2 ≠ 0 → G.testBit 2 = true → (g 1 = 0 ∨ G.testBit 1 = false) → ∀ (f' : Int32) (b2 b3 b4 : Nat → Int32), cf_P b2 (cf_pe g 2 12 (g 2)) (4 * bd) → wX_flow_31 post (nI 1) (nI G) n (nI (s + g 2)) (nI (c + 1)) f' a1 b2 b3 b4 a5 a6 a7 a8)
    (H3 : g 1 ≠ 0 → g 8 ≠ 0 → g 2 = 0 → G.testBit 1 = false → G.testBit 2 = true → ∀ (m : Nat) (f' : Int32) (b2 b3 b4 : Nat → Int32), m = min (g 8) (g 1) → cf_P b2 (cf_pe (cf_pe g 8 13 m) 1 6 m) (4 * bd) → wX_flow_31 post (nI 1) (nI G) n (nI (s + m)) (nI (c + 1)) f' a1 b2 b3 b4 a5 a6 a7 a8)
    (H4 : g 1 = 0 → g 2 ≠ 0 → g 13 ≠ 0 → G.testBit 2 = false → G.testBit 1 = true → ∀ (m : Nat) (f' : Int32) (b2 b3 b4 : Nat → Int32), m = min (g 13) (g 2) → cf_P b2 (cf_pe (cf_pe g 13 8 m) 2 12 m) (4 * bd) → wX_flow_31 post (nI 1) (nI G) n (nI (s + m)) (nI (c + 1)) f' a1 b2 b3 b4 a5 a6 a7 a8)
    (HN : ∀ (F : Nat) (b3 b4 : Nat → Int32), cf_no g G F → post (nI s) (nI F, a1, a2, b3, b4, a5, a6, a7, a8)) :
    wX_flow_31 post (nI 1) (nI G) (n + 1) (nI s) (nI c) f a1 a2 a3 a4 a5 a6 a7 a8 := by
  have hR := hP.1
  have hZ := hP.2.1
  have hB := hP.2.2
  have l1 := hB 1 (by decide)
  have l2 := hB 2 (by decide)
  have l8 := hB 8 (by decide)
  have l13 := hB 13 (by decide)
  refine pk_le 128 c (fun z => absurd z (by omega)) (fun _ => cf_sp1 hP hbd hG (fun h1 q1 F b3 b4 e0 e1 => br_t (by decide) ?_) (fun h2 q2 q1 F b3 b4 e0 e2 => br_t (by decide) ?_) (fun h1 h8 h2 q1 q2 F b3 b4 e0 e1 e2 => br_t (by decide) ?_) (fun h1 h2 h13 q2 q1 F b3 b4 e0 e2 e1 => br_t (by decide) ?_) (fun F b3 b4 h => br_f (by decide) (HN F b3 b4 h)))
  · exact cf_push1 (a := 0) (b := 1) (m := g 1) (by decide) (by decide) (by decide) e1 e0 hR (show g 1 < 1000000 by omega) rfl (fun b2 hR2 => nm_r (nI_add s (g 1)) (nm_r (nI_1 c) (H1 h1 q1 _ b2 b3 b4 (cf_P1 hZ hB hR2 (by decide) (by decide) (Nat.le_refl _)))))
  · exact cf_push1 (a := 0) (b := 2) (m := g 2) (by decide) (by decide) (by decide) e2 e0 hR (show g 2 < 1000000 by omega) rfl (fun b2 hR2 => nm_r (nI_add s (g 2)) (nm_r (nI_1 c) (H2 h2 q2 q1 _ b2 b3 b4 (cf_P1 hZ hB hR2 (by decide) (by decide) (Nat.le_refl _)))))
  · exact cf_push2 (a := 0) (c := 1) (b := 2) (m := min (g 8) (g 1)) (by decide) (by decide) (by decide) (by decide) (by decide) (by decide) e2 e1 e0 hR (show g 8 < 1000000 by omega) (show g 1 < 1000000 by omega) rfl (fun b2 hR2 => nm_r (nI_add s _) (nm_r (nI_1 c) (H3 h1 h8 h2 q1 q2 _ _ b2 b3 b4 rfl (cf_P2 hZ hB hR2 (by decide) (by decide) (by decide) (by decide) (by omega) (show min (g 8) (g 1) ≤ g 1 by omega)))))
  · exact cf_push2 (a := 0) (c := 2) (b := 1) (m := min (g 13) (g 2)) (by decide) (by decide) (by decide) (by decide) (by decide) (by decide) e1 e2 e0 hR (show g 13 < 1000000 by omega) (show g 2 < 1000000 by omega) rfl (fun b2 hR2 => nm_r (nI_add s _) (nm_r (nI_1 c) (H4 h1 h2 h13 q2 q1 _ _ b2 b3 b4 rfl (cf_P2 hZ hB hR2 (by decide) (by decide) (by decide) (by decide) (by omega) (show min (g 13) (g 2) ≤ g 2 by omega)))))
theorem cf_rd5 (hP : cf_P a2 g bd) (hbd : bd ≤ 100000) (hG : G < 64) (q1 : G.testBit 1 = true) (hc : c < 128)
    (H1 : g 1 ≠ 0 → ∀ (f' : Int32) (b2 b3 b4 : Nat → Int32), cf_P b2 (cf_pe g 1 6 (g 1)) (4 * bd) → wX_flow_31 post (nI 5) (nI G) n (nI (s + g 1)) (nI (c + 1)) f' a1 b2 b3 b4 a5 a6 a7 a8)
    (H5 : g 1 = 0 → g 13 ≠ 0 → ∀ (f' : Int32) (b2 b3 b4 : Nat → Int32), cf_P b2 (cf_pe g 13 8 (g 13)) (4 * bd) → wX_flow_31 post (nI 5) (nI G) n (nI (s + g 13)) (nI (c + 1)) f' a1 b2 b3 b4 a5 a6 a7 a8)
    (HN : ∀ (F : Nat) (b3 b4 : Nat → Int32), g 1 = 0 → g 13 = 0 → post (nI s) (nI F, a1, a2, b3, b4, a5, a6, a7, a8)) :
    wX_flow_31 post (nI 5) (nI G) (n + 1) (nI s) (nI c) f a1 a2 a3 a4 a5 a6 a7 a8 := by
  have hR := hP.1
  have hZ := hP.2.1
  have hB := hP.2.2
  have l1 := hB 1 (by decide)
  have l13 := hB 13 (by decide)
  refine pk_le 128 c (fun z => absurd z (by omega)) (fun _ => cf_sp5 hP hbd hG q1 (fun h1 F b3 b4 e0 e1 => br_t (by decide) ?_) (fun h1 h13 F b3 b4 e2 e1 => br_t (by decide) ?_) (fun F b3 b4 h1 h13 => br_f (by decide) (HN F b3 b4 h1 h13)))
  · exact cf_push1 (a := 0) (b := 1) (m := g 1) (by decide) (by decide) (by decide) e1 e0 hR (show g 1 < 1000000 by omega) rfl (fun b2 hR2 => nm_r (nI_add s (g 1)) (nm_r (nI_1 c) (H1 h1 _ b2 b3 b4 (cf_P1 hZ hB hR2 (by decide) (by decide) (Nat.le_refl _)))))
  · exact cf_push1 (a := 2) (b := 1) (m := g 13) (by decide) (by decide) (by decide) e1 e2 hR (show g 13 < 1000000 by omega) rfl (fun b2 hR2 => nm_r (nI_add s (g 13)) (nm_r (nI_1 c) (H5 h1 h13 _ b2 b3 b4 (cf_P1 hZ hB hR2 (by decide) (by decide) (Nat.le_refl _)))))
/-! goal 1 and not 2 -/
theorem cf_fA3 (hP : cf_P a2 g bd) (hbd : bd ≤ 100000) (hG : G < 64) (q1 : G.testBit 1 = true) (q2 : G.testBit 2 = false) (hc : c < 128) (h1 : g 1 = 0) (h2 : g 2 = 0 ∨ g 13 = 0)
    (H : ∀ (F : Nat) (b2 b3 b4 : Nat → Int32), (g 2 = 0 → F = 1) → (g 2 ≠ 0 → F = 5) → post (nI s) (nI F, a1, b2, b3, b4, a5, a6, a7, a8)) : wX_flow_31 post (nI 1) (nI G) (n + 1) (nI s) (nI c) f a1 a2 a3 a4 a5 a6 a7 a8 :=
  cf_rd1 hP hbd hG hc (fun z => absurd h1 z) (fun _ z => cf_tf z q2) (fun z => absurd h1 z) (fun _ z1 z2 => absurd h2 (by omega))
    (fun F b3 b4 h => H F a2 b3 b4 (fun z => h.2.2.2.2.1 h1 z) (fun z => h.2.2.2.2.2 h1 z (by omega)))
theorem cf_fA2 (hP : cf_P a2 g bd) (hbd : bd ≤ 10000) (hG : G < 64) (q1 : G.testBit 1 = true) (q2 : G.testBit 2 = false) (hc : c < 127) (h1 : g 1 = 0)
    (H : ∀ (F : Nat) (b2 b3 b4 : Nat → Int32), (g 2 ≤ g 13 → F = 1) → (¬ g 2 ≤ g 13 → F = 5) → post (nI (s + min (g 13) (g 2))) (nI F, a1, b2, b3, b4, a5, a6, a7, a8)) : wX_flow_31 post (nI 1) (nI G) (n + 2) (nI s) (nI c) f a1 a2 a3 a4 a5 a6 a7 a8 := by
  refine cf_rd1 hP (by omega) hG (by omega) (fun z => absurd h1 z) (fun _ z => cf_tf z q2) (fun z => absurd h1 z) (fun _ z2 z13 _ _ m f' b2 b3 b4 hm hQ => ?_) (fun F b3 b4 h => ?_)
  · have e2 : cf_pe (cf_pe g 13 8 m) 2 12 m 2 = g 2 - m := rfl
    have e13 : cf_pe (cf_pe g 13 8 m) 2 12 m 13 = g 13 - m := rfl
    have e1 : cf_pe (cf_pe g 13 8 m) 2 12 m 1 = g 1 := rfl
    refine cf_fA3 hQ (by omega) hG q1 q2 (by omega) (by omega) (by omega) (fun F b2 b3 b4 u1 u2 => ?_)
    rw [hm]
    exact H F b2 b3 b4 (fun z => u1 (by omega)) (fun z => u2 (by omega))
  · have t := h.2.2.1 q1 q2
    have t1 := h.2.2.2.2.1 h1
    have t2 := h.2.2.2.2.2 h1
    have e : s = s + min (g 13) (g 2) := by omega
    rw [e]
    exact H F a2 b3 b4 (fun z => t1 (by omega)) (fun z => t2 (by omega) (by omega))
theorem cf_fA1 (hP : cf_P a2 g bd) (hbd : bd ≤ 1000) (hG : G < 64) (q1 : G.testBit 1 = true) (q2 : G.testBit 2 = false) (hc : c < 126)
    (H : ∀ (F : Nat) (b2 b3 b4 : Nat → Int32), (g 2 ≤ g 13 → F = 1) → (¬ g 2 ≤ g 13 → F = 5) → post (nI (s + g 1 + min (g 13) (g 2))) (nI F, a1, b2, b3, b4, a5, a6, a7, a8)) : wX_flow_31 post (nI 1) (nI G) (n + 3) (nI s) (nI c) f a1 a2 a3 a4 a5 a6 a7 a8 := by
  by_cases h1 : g 1 = 0
  · refine cf_fA2 (n := n + 1) hP (by omega) hG q1 q2 (by omega) h1 ?_
    rw [h1] at H
    exact H
  · refine cf_rd1 (n := n + 2) hP (by omega) hG (by omega) (fun _ _ f' b2 b3 b4 hQ => ?_) (fun _ z => cf_tf z q2) (fun _ _ _ z => cf_tf q1 z) (fun z => absurd z h1) (fun F b3 b4 h => absurd (h.1 q1) h1)
    exact cf_fA2 hQ (by omega) hG q1 q2 (by omega) (show g 1 - g 1 = 0 by omega) H
/-! goal 2 and not 1 -/
theorem cf_fB3 (hP : cf_P a2 g bd) (hbd : bd ≤ 100000) (hG : G < 64) (q1 : G.testBit 1 = false) (q2 : G.testBit 2 = true) (hc : c < 128) (h2 : g 2 = 0) (h1 : g 1 = 0 ∨ g 8 = 0)
    (H : ∀ (f' : Int32) (b2 b3 b4 : Nat → Int32), post (nI s) (f', a1, b2, b3, b4, a5, a6, a7, a8)) : wX_flow_31 post (nI 1) (nI G) (n + 1) (nI s) (nI c) f a1 a2 a3 a4 a5 a6 a7 a8 :=
  cf_rd1 hP hbd hG hc (fun _ z => cf_tf z q1) (fun z => absurd h2 z) (fun z1 z2 => absurd h1 (by omega)) (fun _ _ _ _ z => cf_tf z q1)
    (fun F b3 b4 h => H _ a2 b3 b4)
theorem cf_fB2 (hP : cf_P a2 g bd) (hbd : bd ≤ 10000) (hG : G < 64) (q1 : G.testBit 1 = false) (q2 : G.testBit 2 = true) (hc : c < 127) (h2 : g 2 = 0)
    (H : ∀ (f' : Int32) (b2 b3 b4 : Nat → Int32), post (nI (s + min (g 8) (g 1))) (f', a1, b2, b3, b4, a5, a6, a7, a8)) : wX_flow_31 post (nI 1) (nI G) (n + 2) (nI s) (nI c) f a1 a2 a3 a4 a5 a6 a7 a8 := by
  refine cf_rd1 hP (by omega) hG (by omega) (fun _ z => cf_tf z q1) (fun z => absurd h2 z) (fun z1 z8 _ _ _ m f' b2 b3 b4 hm hQ => ?_) (fun _ _ _ _ z => cf_tf z q1) (fun F b3 b4 h => ?_)
  · have e1 : cf_pe (cf_pe g 8 13 m) 1 6 m 1 = g 1 - m := rfl
    have e8 : cf_pe (cf_pe g 8 13 m) 1 6 m 8 = g 8 - m := rfl
    have e2 : cf_pe (cf_pe g 8 13 m) 1 6 m 2 = g 2 := rfl
    refine cf_fB3 hQ (by omega) hG q1 q2 (by omega) (by omega) (by omega) ?_
    rw [hm]
    exact H
  · have t := h.2.2.2.1 q2 q1
    have e : s = s + min (g 8) (g 1) := by omega
    rw [e]
    exact H _ a2 b3 b4
theorem cf_fB1 (hP : cf_P a2 g bd) (hbd : bd ≤ 1000) (hG : G < 64) (q1 : G.testBit 1 = false) (q2 : G.testBit 2 = true) (hc : c < 126)
    (H : ∀ (f' : Int32) (b2 b3 b4 : Nat → Int32), post (nI (s + g 2 + min (g 8) (g 1))) (f', a1, b2, b3, b4, a5, a6, a7, a8)) : wX_flow_31 post (nI 1) (nI G) (n + 3) (nI s) (nI c) f a1 a2 a3 a4 a5 a6 a7 a8 := by
  by_cases h2 : g 2 = 0
  · refine cf_fB2 (n := n + 1) hP (by omega) hG q1 q2 (by omega) h2 ?_
    rw [h2] at H
    exact H
  · refine cf_rd1 (n := n + 2) hP (by omega) hG (by omega) (fun _ z => cf_tf z q1) (fun _ _ _ f' b2 b3 b4 hQ => ?_) (fun _ _ z => absurd z h2) (fun _ _ _ _ z => cf_tf z q1) (fun F b3 b4 h => absurd (h.2.1 q2) h2)
    exact cf_fB2 hQ (by omega) hG q1 q2 (by omega) (show g 2 - g 2 = 0 by omega) H
/-! goal 1 and 2 -/
theorem cf_fC3 (hP : cf_P a2 g bd) (hbd : bd ≤ 100000) (hG : G < 64) (q1 : G.testBit 1 = true) (q2 : G.testBit 2 = true) (hc : c < 128) (h1 : g 1 = 0) (h2 : g 2 = 0)
    (H : ∀ (f' : Int32) (b2 b3 b4 : Nat → Int32), post (nI s) (f', a1, b2, b3, b4, a5, a6, a7, a8)) : wX_flow_31 post (nI 1) (nI G) (n + 1) (nI s) (nI c) f a1 a2 a3 a4 a5 a6 a7 a8 :=
  cf_rd1 hP hbd hG hc (fun z => absurd h1 z) (fun z => absurd h2 z) (fun z => absurd h1 z) (fun _ z => absurd h2 z)
    (fun F b3 b4 h => H _ a2 b3 b4)
theorem cf_fC2 (hP : cf_P a2 g bd) (hbd : bd ≤ 10000) (hG : G < 64) (q1 : G.testBit 1 = true) (q2 : G.testBit 2 = true) (hc : c < 127) (h1 : g 1 = 0)
    (H : ∀ (f' : Int32) (b2 b3 b4 : Nat → Int32), post (nI (s + g 2)) (f', a1, b2, b3, b4, a5, a6, a7, a8)) : wX_flow_31 post (nI 1) (nI G) (n + 2) (nI s) (nI c) f a1 a2 a3 a4 a5 a6 a7 a8 := by
  by_cases h2 : g 2 = 0
  · refine cf_fC3 (n := n + 1) hP (by omega) hG q1 q2 (by omega) h1 h2 ?_
    rw [h2] at H
    exact H
  · refine cf_rd1 (n := n + 1) hP (by omega) hG (by omega) (fun z => absurd h1 z) (fun _ _ _ f' b2 b3 b4 hQ => ?_) (fun z => absurd h1 z) (fun _ _ _ z => cf_tf q2 z) (fun F b3 b4 h => absurd (h.2.1 q2) h2)
    exact cf_fC3 hQ (by omega) hG q1 q2 (by omega) h1 (show g 2 - g 2 = 0 by omega) H
theorem cf_fC1 (hP : cf_P a2 g bd) (hbd : bd ≤ 1000) (hG : G < 64) (q1 : G.testBit 1 = true) (q2 : G.testBit 2 = true) (hc : c < 126)
    (H : ∀ (f' : Int32) (b2 b3 b4 : Nat → Int32), post (nI (s + g 1 + g 2)) (f', a1, b2, b3, b4, a5, a6, a7, a8)) : wX_flow_31 post (nI 1) (nI G) (n + 3) (nI s) (nI c) f a1 a2 a3 a4 a5 a6 a7 a8 := by
  by_cases h1 : g 1 = 0
  · refine cf_fC2 (n := n + 1) hP (by omega) hG q1 q2 (by omega) h1 ?_
    rw [h1] at H
    exact H
  · refine cf_rd1 (n := n + 2) hP (by omega) hG (by omega) (fun _ _ f' b2 b3 b4 hQ => ?_) (fun _ _ z => z.elim (fun z => absurd z h1) (fun z => cf_tf q1 z)) (fun _ _ _ z => cf_tf q1 z) (fun z => absurd z h1) (fun F b3 b4 h => absurd (h.1 q1) h1)
    exact cf_fC2 hQ (by omega) hG q1 q2 (by omega) (show g 1 - g 1 = 0 by omega) H
/-! neither: no way at all -/
theorem cf_fD (hP : cf_P a2 g bd) (hbd : bd ≤ 1000) (hG : G < 64) (q1 : G.testBit 1 = false) (q2 : G.testBit 2 = false) (hc : c < 126)
    (H : ∀ (f' : Int32) (b2 b3 b4 : Nat → Int32), post (nI s) (f', a1, b2, b3, b4, a5, a6, a7, a8)) : wX_flow_31 post (nI 1) (nI G) (n + 1) (nI s) (nI c) f a1 a2 a3 a4 a5 a6 a7 a8 :=
  cf_rd1 hP (by omega) hG (by omega) (fun _ z => cf_tf z q1) (fun _ z => cf_tf z q2) (fun _ _ _ _ z => cf_tf z q2) (fun _ _ _ _ z => cf_tf z q1)
    (fun F b3 b4 h => H _ a2 b3 b4)
/-! sources 0 and 2, goal 1 -/
theorem cf_fE3 (hP : cf_P a2 g bd) (hbd : bd ≤ 100000) (hG : G < 64) (q1 : G.testBit 1 = true) (hc : c < 128) (h1 : g 1 = 0) (h13 : g 13 = 0)
    (H : ∀ (f' : Int32) (b2 b3 b4 : Nat → Int32), post (nI s) (f', a1, b2, b3, b4, a5, a6, a7, a8)) : wX_flow_31 post (nI 5) (nI G) (n + 1) (nI s) (nI c) f a1 a2 a3 a4 a5 a6 a7 a8 :=
  cf_rd5 hP hbd hG q1 hc (fun z => absurd h1 z) (fun _ z => absurd h13 z) (fun F b3 b4 _ _ => H _ a2 b3 b4)
theorem cf_fE2 (hP : cf_P a2 g bd) (hbd : bd ≤ 10000) (hG : G < 64) (q1 : G.testBit 1 = true) (hc : c < 127) (h1 : g 1 = 0)
    (H : ∀ (f' : Int32) (b2 b3 b4 : Nat → Int32), post (nI (s + g 13)) (f', a1, b2, b3, b4, a5, a6, a7, a8)) : wX_flow_31 post (nI 5) (nI G) (n + 2) (nI s) (nI c) f a1 a2 a3 a4 a5 a6 a7 a8 := by
  by_cases h13 : g 13 = 0
  · refine cf_fE3 (n := n + 1) hP (by omega) hG q1 (by omega) h1 h13 ?_
    rw [h13] at H
    exact H
  · refine cf_rd5 (n := n + 1) hP (by omega) hG q1 (by omega) (fun z => absurd h1 z) (fun _ _ f' b2 b3 b4 hQ => ?_) (fun F b3 b4 _ h => absurd h h13)
    exact cf_fE3 hQ (by omega) hG q1 (by omega) h1 (show g 13 - g 13 = 0 by omega) H
theorem cf_fE1 (hP : cf_P a2 g bd) (hbd : bd ≤ 1000) (hG : G < 64) (q1 : G.testBit 1 = true) (hc : c < 126)
    (H : ∀ (f' : Int32) (b2 b3 b4 : Nat → Int32), post (nI (s + g 1 + g 13)) (f', a1, b2, b3, b4, a5, a6, a7, a8)) : wX_flow_31 post (nI 5) (nI G) (n + 3) (nI s) (nI c) f a1 a2 a3 a4 a5 a6 a7 a8 := by
  by_cases h1 : g 1 = 0
  · refine cf_fE2 (n := n + 1) hP (by omega) hG q1 (by omega) h1 ?_
    rw [h1] at H
    exact H
  · refine cf_rd5 (n := n + 2) hP (by omega) hG q1 (by omega) (fun _ f' b2 b3 b4 hQ => ?_) (fun z => absurd z h1) (fun F b3 b4 h => absurd h h1)
    exact cf_fE2 hQ (by omega) hG q1 (by omega) (show g 1 - g 1 = 0 by omega) H
/-! the copy of the capacities, then the rounds -/
theorem cf_flow {x1 x2 : Int32} (hC : cf_R a1 g) (hZ : cf_Z g) (hB : cf_B g bd) (H : ∀ b2 : Nat → Int32, cf_P b2 g bd → ∃ n, wX_flow_31 post x1 x2 n (nI 0) (nI 0) f a1 b2 a3 a4 a5 a6 a7 a8) : wpX_flow post (f, a1, a2, a3, a4, a5, a6, a7, a8) x1 x2 :=
  pk_loop (fun n i s => wX_flow_2 post x1 x2 f n (nI i) a1 s a3 a4 a5 a6 a7 a8) (fun i s => ∀ k, k < i → s k = a1 k) 36 0 a2 (by omega) (fun k hk => absurd hk (by omega))
    (fun n s h => pk_le 36 36 (fun _ => H s ⟨fun k hk => by rw [h k hk]; exact hC k hk, hZ, hB⟩) (fun z => absurd z (by omega)))
    (fun n i s hi h hw => pk_le 36 i (fun z => absurd z (by omega)) (fun _ => ⟨pk_in i 36 hi, pk_in i 36 hi, nm_r (by rw [cf_c (by omega)]) (nm_r (nI_1 i) (hw (upd s i (a1 i)) (fun k hk => by
      by_cases e : k = i
      · rw [e, pk_us]
      · rw [pk_un e]; exact h k (by omega))))⟩))
end
end
section
/-! ===== tightest and merge ===== -/
theorem cf_nm {p : Nat} (h : p < 2 ^ 31) : ¬ nI p = -1 := by
  intro z
  have t := nI_pos h
  rw [z] at t
  exact t (by decide)
/-- how tightly place a is joined to those added, over the places below b -/
def cf_S (j : Nat → Nat) (ad a : Nat) : Nat → Nat
  | 0 => 0
  | b + 1 => cf_S j ad a b + (if ad.testBit b = true then j (a * 6 + b) else 0)
theorem cf_S0 {j : Nat → Nat} {ad a b : Nat} (h : ad.testBit b = false) : cf_S j ad a (b + 1) = cf_S j ad a b := by
  show cf_S j ad a b + (if ad.testBit b = true then j (a * 6 + b) else 0) = cf_S j ad a b
  rw [if_neg (by rw [h]; decide)]
  rfl
theorem cf_S1 {j : Nat → Nat} {ad a b : Nat} (h : ad.testBit b = true) : cf_S j ad a (b + 1) = cf_S j ad a b + j (a * 6 + b) := by
  show cf_S j ad a b + (if ad.testBit b = true then j (a * 6 + b) else 0) = cf_S j ad a b + j (a * 6 + b)
  rw [if_pos h]
theorem cf_SB {j : Nat → Nat} {ad a bd : Nat} (hB : cf_B j bd) (ha : a < 6) : ∀ i, i ≤ 6 → cf_S j ad a i ≤ i * bd := by
  intro i
  induction i with
  | zero => intro _; exact Nat.zero_le _
  | succ i ih =>
    intro hi
    have t := ih (by omega)
    have t2 := hB (a * 6 + i) (by omega)
    rw [Nat.succ_mul]
    cases h : ad.testBit i
    · rw [cf_S0 h]; omega
    · rw [cf_S1 h]; omega
theorem cf_SB6 {j : Nat → Nat} {ad a bd : Nat} (hB : cf_B j bd) (hbd : bd ≤ 100000) (ha : a < 6) : cf_S j ad a 6 ≤ 600000 := by
  have := cf_SB (ad := ad) hB ha 6 (by omega)
  omega
theorem cf_SZ {j : Nat → Nat} {ad a : Nat} (h : ∀ b, b < 6 → j (a * 6 + b) = 0) : ∀ i, i ≤ 6 → cf_S j ad a i = 0 := by
  intro i
  induction i with
  | zero => intro _; rfl
  | succ i ih =>
    intro hi
    have t := ih (by omega)
    have t2 := h i (by omega)
    cases q : ad.testBit i
    · rw [cf_S0 q]; exact t
    · rw [cf_S1 q]; omega
/-- the best of the places below a -/
def cf_T (j : Nat → Nat) (th ad a : Nat) (x3 : Int32) (a6 : Nat → Int32) : Prop :=
  (x3 = -1 ∧ ∀ c, c < a → th.testBit c = true → ad.testBit c = true) ∨ (∃ p, p < a ∧ x3 = nI p ∧ th.testBit p = true ∧ ad.testBit p = false ∧ a6 p = nI (cf_S j ad p 6) ∧ ∀ c, c < a → th.testBit c = true → ad.testBit c = false → cf_S j ad c 6 ≤ cf_S j ad p 6 ∧ (c < p → cf_S j ad c 6 < cf_S j ad p 6))
theorem cf_Tn {j : Nat → Nat} {th ad a : Nat} {x3 : Int32} {a6 : Nat → Int32} (h : cf_T j th ad a x3 a6) (hn : th.testBit a = false ∨ ad.testBit a = true) : cf_T j th ad (a + 1) x3 a6 := by
  rcases h with ⟨e, h⟩ | ⟨p, hp, e, h1, h2, h3, h⟩
  · refine Or.inl ⟨e, fun c hc ht => ?_⟩
    by_cases ec : c = a
    · rw [ec] at ht ⊢
      exact hn.elim (fun z => cf_tf ht z) (fun z => z)
    · exact h c (by omega) ht
  · refine Or.inr ⟨p, by omega, e, h1, h2, h3, fun c hc ht hd => ?_⟩
    by_cases ec : c = a
    · rw [ec] at ht hd
      exact hn.elim (fun z => cf_tf ht z) (fun z => cf_tf z hd)
    · exact h c (by omega) ht hd
section
variable {post : Int32 → St2 → Prop} {f : Int32} {a1 a2 a3 a4 a5 a6 a7 a8 : Nat → Int32} {n : Nat} {j : Nat → Nat} {bd th ad a b : Nat}
theorem cf_t36 {J5 : Int32 → Int32 → (Nat → Int32) → (Nat → Int32) → (Nat → Int32) → (Nat → Int32) → (Nat → Int32) → (Nat → Int32) → (Nat → Int32) → (Nat → Int32) → Prop} {x1 x3 : Int32} (hj : cf_R a5 j) (hB : cf_B j bd) (hbd : bd ≤ 100000) (ha : a < 6) (had : ad < 64)
    (Hn : x3 = -1 → J5 (nI a) (nI (a + 1)) a1 a2 a3 a4 a5 (upd a6 a (nI (cf_S j ad a 6))) a7 a8)
    (Hp : x3 = -1 ∨ ∃ p, p < a ∧ x3 = nI p ∧ a6 p = nI (cf_S j ad p 6) ∧ (cf_S j ad a 6 ≤ cf_S j ad p 6 → J5 (nI p) (nI (a + 1)) a1 a2 a3 a4 a5 (upd a6 a (nI (cf_S j ad a 6))) a7 a8) ∧ (cf_S j ad p 6 < cf_S j ad a 6 → J5 (nI a) (nI (a + 1)) a1 a2 a3 a4 a5 (upd a6 a (nI (cf_S j ad a 6))) a7 a8)) :
    ∃ n, wX_tightest_36 post J5 x1 (nI ad) x3 (nI a) f a1 a2 a3 a4 a5 a6 a7 a8 n 0 0 := by
  have sa := cf_SB6 (ad := ad) hB hbd ha
  refine pk_loop (σ := Unit) (fun n i _ => wX_tightest_36 post J5 x1 (nI ad) x3 (nI a) f a1 a2 a3 a4 a5 a6 a7 a8 n (nI (cf_S j ad a i)) (nI i)) (fun _ _ => True) 6 0 () (by omega) trivial (fun n _ _ => ?_) (fun n i _ hi _ hw => ?_)
  · refine pk_le 6 6 (fun _ => ⟨pk_in a 6 ha, nm_r (by rw [cf_c (by omega)]) ?_⟩) (fun z => absurd z (by omega))
    rcases Hp with e | ⟨p, hp, e, e6, hA, hC⟩
    · exact br_t (by rw [e]; decide) (nm_r (nI_1 a) (Hn e))
    · subst e
      have sp := cf_SB6 (ad := ad) hB hbd (show p < 6 by omega)
      refine br_f (nI_pos (by omega)) ⟨pk_in p 6 (by omega), ?_⟩
      refine pk_le (cf_S j ad a 6) (cf_S j ad p 6) (fun z => nm_r (nI_1 a) (hA z)) (fun z => nm_r (nI_1 a) (hC z)) rfl ?_
      rw [cf_c (by omega), pk_un (by omega), e6]
  · refine pk_le 6 i (fun z => absurd z (by omega)) (fun _ => cf_inI had hi (fun z => ?_) (fun z => ⟨cf_vin ha hi, ?_⟩))
    · have t : wX_tightest_36 post J5 x1 (nI ad) x3 (nI a) f a1 a2 a3 a4 a5 a6 a7 a8 n (nI (cf_S j ad a (i + 1))) (nI (i + 1)) := hw () trivial
      rw [cf_S0 z] at t
      exact nm_r (nI_add (cf_S j ad a i) 0) (nm_r (nI_1 i) t)
    · have t : wX_tightest_36 post J5 x1 (nI ad) x3 (nI a) f a1 a2 a3 a4 a5 a6 a7 a8 n (nI (cf_S j ad a (i + 1))) (nI (i + 1)) := hw () trivial
      rw [cf_S1 z] at t
      exact nm_r (by rw [cf_cl ha hi, hj _ (by omega), nI_add]) (nm_r (nI_1 i) t)
theorem cf_tgt (hj : cf_R a5 j) (hB : cf_B j bd) (hbd : bd ≤ 100000) (hth : th < 64) (had : ad < 64) (hex : cf_cnt ad < cf_cnt th)
    (H : ∀ (p : Nat) (b6 : Nat → Int32), p < 6 → th.testBit p = true → ad.testBit p = false → b6 p = nI (cf_S j ad p 6) → (∀ c, c < p → th.testBit c = true → ad.testBit c = false → cf_S j ad c 6 < cf_S j ad p 6) → post (nI p) (f, a1, a2, a3, a4, a5, b6, a7, a8)) :
    wpX_tightest post (f, a1, a2, a3, a4, a5, a6, a7, a8) (nI th) (nI ad) := by
  refine pk_loop (σ := Int32 × (Nat → Int32)) (fun n i s => wX_tightest_5 post (nI th) (nI ad) f n s.1 (nI i) a1 a2 a3 a4 a5 s.2 a7 a8) (fun i s => cf_T j th ad i s.1 s.2) 6 0 (-1, a6) (by omega) (Or.inl ⟨rfl, fun c hc => absurd hc (by omega)⟩) (fun n s h => ?_) (fun n i s hi h hw => ?_)
  · refine pk_le 6 6 (fun _ => ?_) (fun z => absurd z (by omega))
    obtain ⟨x3, b6⟩ := s
    rcases h with ⟨e, h⟩ | ⟨p, hp, e, h1, h2, h3, h⟩
    · obtain ⟨c, hc, hc1, hc2⟩ := cf_ex hth had hex
      exact cf_tf (h c hc hc1) hc2
    · have e' : x3 = nI p := e
      subst e'
      exact H p b6 hp h1 h2 h3 (fun c hc hc1 hc2 => (h c (by omega) hc1 hc2).2 hc)
  · obtain ⟨x3, b6⟩ := s
    refine pk_le 6 i (fun z => absurd z (by omega)) (fun _ => cf_inI hth hi (fun z => nm_r (nI_1 i) (hw (x3, b6) (cf_Tn h (Or.inl z)))) (fun z => cf_inI had hi (fun z2 => ?_) (fun z2 => nm_r (nI_1 i) (hw (x3, b6) (cf_Tn h (Or.inr z2))))))
    have h' : cf_T j th ad i x3 b6 := h
    refine cf_t36 hj hB hbd hi had (fun e => ?_) ?_
    · refine hw (nI i, upd b6 i (nI (cf_S j ad i 6))) (Or.inr ⟨i, by omega, rfl, z, z2, pk_us, fun c hc hc1 hc2 => ?_⟩)
      by_cases ec : c = i
      · rw [ec]
        exact ⟨Nat.le_refl _, fun q => absurd q (by omega)⟩
      · rcases h' with ⟨_, h⟩ | ⟨p, hp, e', _⟩
        · exact cf_tf (h c (by omega) hc1) hc2
        · have e3 : x3 = -1 := e
          exact absurd (e'.symm.trans e3) (cf_nm (by omega))
    · rcases h' with ⟨e, _⟩ | ⟨p, hp, e, h1, h2, h3, h⟩
      · exact Or.inl e
      · refine Or.inr ⟨p, hp, e, h3, fun q => ?_, fun q => ?_⟩
        · refine hw (nI p, upd b6 i (nI (cf_S j ad i 6))) (Or.inr ⟨p, by omega, rfl, h1, h2, ?_, fun c hc hc1 hc2 => ?_⟩)
          · show upd b6 i (nI (cf_S j ad i 6)) p = nI (cf_S j ad p 6)
            rw [pk_un (by omega), h3]
          · by_cases ec : c = i
            · rw [ec]
              exact ⟨q, fun q2 => absurd q2 (by omega)⟩
            · exact h c (by omega) hc1 hc2
        · refine hw (nI i, upd b6 i (nI (cf_S j ad i 6))) (Or.inr ⟨i, by omega, rfl, z, z2, pk_us, fun c hc hc1 hc2 => ?_⟩)
          by_cases ec : c = i
          · rw [ec]
            exact ⟨Nat.le_refl _, fun q => absurd q (by omega)⟩
          · have t := (h c (by omega) hc1 hc2).1
            exact ⟨by omega, fun _ => by omega⟩
end
/-- the bounds while row and column a take up row b -/
def cf_M (j : Nat → Nat) (a bd c : Nat) : Prop := (∀ k, k < 36 → j k ≤ 3 * bd) ∧ (∀ k, k < 36 → k ≠ a * 6 + a → j k ≤ 2 * bd) ∧ (∀ k, k < 36 → k % 6 ≠ a → (k / 6 ≠ a ∨ c ≤ k % 6) → j k ≤ bd) ∧ (c ≤ a → j (a * 6 + a) ≤ bd)
theorem cf_M0 {j : Nat → Nat} {a bd : Nat} (ha : a < 6) (h : cf_B j bd) : cf_M j a bd 0 :=
  ⟨fun k hk => Nat.le_trans (h k hk) (by omega), fun k hk _ => Nat.le_trans (h k hk) (by omega), fun k hk _ _ => h k hk, fun _ => h _ (by omega)⟩
theorem cf_Ms {j : Nat → Nat} {a b bd c : Nat} (ha : a < 6) (hb : b < 6) (hc : c < 6) (hab : a ≠ b) (h : cf_M j a bd c) : cf_M (fun k => if k = c * 6 + a then j (a * 6 + c) + j (b * 6 + c) else if k = a * 6 + c then j (a * 6 + c) + j (b * 6 + c) else j k) a bd (c + 1) := by
  obtain ⟨h1, h2, h3, h4⟩ := h
  have v2 : c ≠ a → j (a * 6 + c) + j (b * 6 + c) ≤ 2 * bd := by
    intro hca
    have t1 := h3 (a * 6 + c) (by omega) (by omega) (by omega)
    have t2 := h3 (b * 6 + c) (by omega) (by omega) (by omega)
    omega
  have v3 : j (a * 6 + c) + j (b * 6 + c) ≤ 3 * bd := by
    by_cases hca : c = a
    · have t1 := h4 (by omega)
      have t2 := h2 (b * 6 + c) (by omega) (by omega)
      rw [hca] at t2 ⊢
      omega
    · have := v2 hca
      omega
  refine ⟨fun k hk => ?_, fun k hk hn => ?_, fun k hk hn ho => ?_, fun hl => ?_⟩
  · show (if k = c * 6 + a then j (a * 6 + c) + j (b * 6 + c) else if k = a * 6 + c then j (a * 6 + c) + j (b * 6 + c) else j k) ≤ 3 * bd
    have := h1 k hk
    split
    · exact v3
    · split
      · exact v3
      · exact this
  · show (if k = c * 6 + a then j (a * 6 + c) + j (b * 6 + c) else if k = a * 6 + c then j (a * 6 + c) + j (b * 6 + c) else j k) ≤ 2 * bd
    have := h2 k hk hn
    split
    · exact v2 (by omega)
    · split
      · exact v2 (by omega)
      · exact this
  · show (if k = c * 6 + a then j (a * 6 + c) + j (b * 6 + c) else if k = a * 6 + c then j (a * 6 + c) + j (b * 6 + c) else j k) ≤ bd
    rw [if_neg (by omega), if_neg (by omega)]
    exact h3 k hk hn (by omega)
  · show (if a * 6 + a = c * 6 + a then j (a * 6 + c) + j (b * 6 + c) else if a * 6 + a = a * 6 + c then j (a * 6 + c) + j (b * 6 + c) else j (a * 6 + a)) ≤ bd
    rw [if_neg (by omega), if_neg (by omega)]
    exact h4 (by omega)
section
variable {post : St2 → Prop} {f : Int32} {a1 a2 a3 a4 a5 a6 a7 a8 : Nat → Int32} {n : Nat} {j : Nat → Nat} {bd a b : Nat}
theorem cf_merge (ha : a < 6) (hb : b < 6) (hab : a ≠ b) (hj : cf_R a5 j) (hB : cf_B j bd) (H : ∀ (b5 : Nat → Int32) (j' : Nat → Nat), cf_R b5 j' → cf_B j' (2 * bd) → post (f, a1, a2, a3, a4, b5, a6, a7, a8)) : wpX_merge post (f, a1, a2, a3, a4, a5, a6, a7, a8) (nI a) (nI b) := by
  refine pk_loop (σ := Nat → Int32) (fun n i s => wX_merge_2 post (nI a) (nI b) f n (nI i) a1 a2 a3 a4 s a6 a7 a8) (fun i s => ∃ j', cf_R s j' ∧ cf_M j' a bd i) 6 0 a5 (by omega) ⟨j, hj, cf_M0 ha hB⟩ (fun n s h => ?_) (fun n i s hi h hw => ?_)
  · obtain ⟨j', hj', hM⟩ := h
    refine pk_le 6 6 (fun _ => ⟨cf_vin ha ha, nm_r (by rw [cf_cl ha ha]) ?_⟩) (fun z => absurd z (by omega))
    refine H _ (fun k => if k = a * 6 + a then 0 else j' k) (fun k hk => ?_) (fun k hk => ?_)
    · show upd s (a * 6 + a) 0 k = nI (if k = a * 6 + a then 0 else j' k)
      by_cases e : k = a * 6 + a
      · rw [if_pos e, e, pk_us]
        rfl
      · rw [if_neg e, pk_un e, hj' k hk]
    · show (if k = a * 6 + a then 0 else j' k) ≤ 2 * bd
      by_cases e : k = a * 6 + a
      · rw [if_pos e]
        exact Nat.zero_le _
      · rw [if_neg e]
        exact hM.2.1 k hk e
  · obtain ⟨j', hj', hM⟩ := h
    have r1 := hj' (a * 6 + i) (by omega)
    have r2 := hj' (b * 6 + i) (by omega)
    refine pk_le 6 i (fun z => absurd z (by omega)) (fun _ => ⟨cf_vin ha hi, cf_vin hb hi, cf_vin ha hi, nm_r (e' := upd s (a * 6 + i) (nI (j' (a * 6 + i) + j' (b * 6 + i)))) (by rw [cf_cl ha hi, cf_cl hb hi, r1, r2, nI_add]) ⟨cf_vin ha hi, cf_vin hi ha, nm_r (e' := upd (upd s (a * 6 + i) (nI (j' (a * 6 + i) + j' (b * 6 + i)))) (i * 6 + a) (nI (j' (a * 6 + i) + j' (b * 6 + i)))) (by rw [cf_cl ha hi, cf_cl hi ha, pk_us]) (nm_r (nI_1 i) (hw _ ⟨_, ?_, cf_Ms ha hb hi hab hM⟩))⟩⟩)
    intro k hk
    show upd (upd s (a * 6 + i) (nI (j' (a * 6 + i) + j' (b * 6 + i)))) (i * 6 + a) (nI (j' (a * 6 + i) + j' (b * 6 + i))) k = nI (if k = i * 6 + a then j' (a * 6 + i) + j' (b * 6 + i) else if k = a * 6 + i then j' (a * 6 + i) + j' (b * 6 + i) else j' k)
    by_cases e1 : k = i * 6 + a
    · rw [if_pos e1, e1, pk_us]
    · rw [if_neg e1, pk_un e1]
      by_cases e2 : k = a * 6 + i
      · rw [if_pos e2, e2, pk_us]
      · rw [if_neg e2, pk_un e2, hj' k hk]
end
end
section
/-! ===== least ===== -/
/-- within a phase: places added, the last one and the one before -/
def cf_L (th ph i : Nat) (x4 x5 x6 : Int32) (a6 : Nat → Int32) : Prop :=
  ∃ ad, ad < 64 ∧ x6 = nI ad ∧ cf_cnt ad + ph = i ∧ (ph < i → ∃ p v, p < 6 ∧ x4 = nI p ∧ ad.testBit p = true ∧ th.testBit p = true ∧ a6 p = nI v ∧ v ≤ 600000 ∧ (ph = 0 → i = 6 → v = 0)) ∧ (ph + 1 < i → ∃ q, q < 6 ∧ x5 = nI q ∧ x4 ≠ nI q) ∧ (ph = 0 → ad.testBit 3 = true → ∀ c, c < 3 → ad.testBit c = true)
theorem cf_L0 (th ph : Nat) (x4 x5 : Int32) (a6 : Nat → Int32) : cf_L th ph ph x4 x5 (nI 0) a6 :=
  ⟨0, by decide, rfl, Nat.zero_add ph, fun z => absurd z (by omega), fun z => absurd z (by omega), fun _ z => absurd z (by decide)⟩
theorem cf_63 : ∀ c, c < 6 → Nat.testBit 63 c = true := by decide
theorem cf_Ls {j : Nat → Nat} {th ph i ad p bd : Nat} {x4 : Int32} {a6 b6 : Nat → Int32} (hB : cf_B j bd) (hbd : bd ≤ 100000) (hz : ph = 0 → th = 63 ∧ ∀ p, 3 ≤ p → p < 6 → ∀ b, b < 6 → j (p * 6 + b) = 0)
    (had : ad < 64) (hcn : cf_cnt ad + ph = i) (h1 : ph < i → ∃ p v, p < 6 ∧ x4 = nI p ∧ ad.testBit p = true ∧ th.testBit p = true ∧ a6 p = nI v ∧ v ≤ 600000 ∧ (ph = 0 → i = 6 → v = 0)) (h3 : ph = 0 → ad.testBit 3 = true → ∀ c, c < 3 → ad.testBit c = true)
    (hp : p < 6) (hpt : th.testBit p = true) (hpa : ad.testBit p = false) (h6 : b6 p = nI (cf_S j ad p 6)) (hbest : ∀ c, c < p → th.testBit c = true → ad.testBit c = false → cf_S j ad c 6 < cf_S j ad p 6) : cf_L th ph (i + 1) (nI p) x4 (nI (ad ||| 2 ^ p)) b6 := by
  have hlow : ph = 0 → 3 ≤ p → ∀ c, c < p → ad.testBit c = true := by
    intro e0 e3 c hc
    refine cf_bt (fun z => ?_)
    have hz' := hz e0
    have t := hbest c hc (by rw [hz'.1]; exact cf_63 c (by omega)) z
    rw [cf_SZ (hz'.2 p e3 hp) 6 (by omega)] at t
    omega
  refine ⟨ad ||| 2 ^ p, cf_or64 ad had p hp, rfl, ?_, fun _ => ⟨p, cf_S j ad p 6, hp, rfl, ?_, hpt, h6, cf_SB6 hB hbd hp, fun e0 e6 => ?_⟩, fun hq => ?_, fun e0 e3 c hc => ?_⟩
  · rw [cf_cntA ad had p hp hpa]
    omega
  · rw [Nat.testBit_or, Nat.testBit_two_pow_self, Bool.or_true]
  · have hz' := hz e0
    rcases Nat.lt_or_ge p 3 with hlt | hge
    · have t := h3 e0 (cf_cnt5 ad had (by omega) p hlt hpa) p hlt
      exact cf_tf t hpa
    · exact cf_SZ (hz'.2 p hge hp) 6 (by omega)
  · obtain ⟨q, v, hq6, eq, hqa, _⟩ := h1 (by omega)
    refine ⟨q, hq6, eq, fun z => ?_⟩
    rw [nI_eq (by omega) (by omega)] at z
    rw [z] at hpa
    exact cf_tf hqa hpa
  · rw [Nat.testBit_or]
    by_cases e : p = 3
    · rw [hlow e0 (by omega) c (by omega), Bool.true_or]
    · rw [Nat.testBit_or, Nat.testBit_two_pow_of_ne e, Bool.or_false] at e3
      rw [h3 e0 e3 c hc, Bool.true_or]
section
variable {post : Int32 → St2 → Prop} {f : Int32} {a1 a2 a3 a4 a5 a6 a7 a8 : Nat → Int32} {n : Nat} {j : Nat → Nat} {bd th ph : Nat} {J : Int32 → Int32 → Int32 → Int32 → (Nat → Int32) → (Nat → Int32) → (Nat → Int32) → (Nat → Int32) → (Nat → Int32) → (Nat → Int32) → (Nat → Int32) → (Nat → Int32) → Prop}
theorem cf_108 {p q : Nat} {z0 : Int32} (hp : p < 6) (hq : q < 6) (hpq : q ≠ p) (hth : th < 64) (hj : cf_R a5 j) (hB : cf_B j bd)
    (H : ∀ (b5 : Nat → Int32) (j' : Nat → Nat), cf_R b5 j' → cf_B j' (2 * bd) → J z0 (nI (th &&& (63 ^^^ 2 ^ p))) (nI (ph + 1)) f a1 a2 a3 a4 b5 a6 a7 a8) :
    wX_least_108 post J (nI th) (nI ph) (nI p) (nI q) z0 f a1 a2 a3 a4 a5 a6 a7 a8 := by
  unfold wX_least_108
  exact cf_merge hq hp hpq hj hB (fun b5 j' h1 h2 => nm_r (cf_andT th hth p hp) (nm_r (nI_1 ph) (H b5 j' h1 h2)))
theorem cf_phase {x1 : Int32} (hph : ph < 5) (hth : th < 64) (hcn : cf_cnt th + ph = 6) (hj : cf_R a5 j) (hB : cf_B j bd) (hbd : bd ≤ 100000) (hz : ph = 0 → th = 63 ∧ ∀ p, 3 ≤ p → p < 6 → ∀ b, b < 6 → j (p * 6 + b) = 0) (hx0 : ph = 0 → x1 = nI 1048576) (hx1 : 0 < ph → x1 = nI 0)
    (H : ∀ (th' : Nat) (b5 b6 : Nat → Int32) (j' : Nat → Nat), th' < 64 → cf_cnt th' + (ph + 1) = 6 → cf_R b5 j' → cf_B j' (2 * bd) → J (nI 0) (nI th') (nI (ph + 1)) f a1 a2 a3 a4 b5 b6 a7 a8) :
    ∃ n, wX_least_51 post J x1 (nI th) (nI ph) n (-1) (-1) 0 (nI ph) f a1 a2 a3 a4 a5 a6 a7 a8 := by
  refine pk_loop (σ := Int32 × Int32 × Int32 × (Nat → Int32)) (fun n i s => wX_least_51 post J x1 (nI th) (nI ph) n s.1 s.2.1 s.2.2.1 (nI i) f a1 a2 a3 a4 a5 s.2.2.2 a7 a8) (fun i s => cf_L th ph i s.1 s.2.1 s.2.2.1 s.2.2.2) 6 ph (-1, -1, nI 0, a6) (by omega) (cf_L0 th ph (-1) (-1) a6) (fun n s h => ?_) (fun n i s hi h hw => ?_)
  · obtain ⟨x4, x5, x6, b6⟩ := s
    obtain ⟨ad, had, e6, hc, h1, h2, h3⟩ := h
    obtain ⟨p, v, hp, ep, hpa, hpt, hv, hvb, hv0⟩ := h1 (by omega)
    obtain ⟨q, hq, eq, hpq⟩ := h2 (by omega)
    have ep' : x4 = nI p := ep
    have eq' : x5 = nI q := eq
    have hv' : b6 p = nI v := hv
    have hpq' : x4 ≠ nI q := hpq
    subst ep' eq'
    have hne : q ≠ p := fun z => hpq' (by rw [z])
    have hcc := cf_cntD th hth p hp hpt
    have fin : wX_least_108 post J (nI th) (nI ph) (nI p) (nI q) (nI 0) f a1 a2 a3 a4 a5 b6 a7 a8 :=
      cf_108 hp hq hne hth hj hB (fun b5 j' t1 t2 => H _ b5 b6 j' (cf_and64 th hth p hp) (by omega) t1 t2)
    refine pk_le 6 6 (fun _ => ⟨pk_in p 6 hp, ?_⟩) (fun z => absurd z (by omega))
    rcases Nat.eq_zero_or_pos ph with e0 | e0
    · have e1 := hx0 e0
      have ev := hv0 e0 rfl
      subst e1 ev
      refine pk_le 1048576 0 (fun z => absurd z (by omega)) (fun _ => ⟨pk_in p 6 hp, ?_⟩) rfl ?_
      · show wX_least_108 post J (nI th) (nI ph) (nI p) (nI q) (b6 (nI p).toNatClampNeg) f a1 a2 a3 a4 a5 b6 a7 a8
        rw [cf_c (by omega), hv']
        exact fin
      · show b6 (nI p).toNatClampNeg = nI 0
        rw [cf_c (by omega), hv']
    · have e1 := hx1 e0
      subst e1
      refine pk_le 0 v (fun z => fin) (fun z => absurd z (by omega)) rfl ?_
      show b6 (nI p).toNatClampNeg = nI v
      rw [cf_c (by omega), hv']
  · obtain ⟨x4, x5, x6, b6⟩ := s
    obtain ⟨ad, had, e6, hc, h1, h2, h3⟩ := h
    have e6' : x6 = nI ad := e6
    subst e6'
    refine pk_le 6 i (fun z => absurd z (by omega)) (fun _ => cf_tgt hj hB hbd hth had (by omega) (fun p c6 hp hpt hpa h6 hbest => nm_r (cf_or had hp) (nm_r (nI_1 i) ?_)))
    exact hw (nI p, x4, nI (ad ||| 2 ^ p), c6) (cf_Ls hB hbd hz had hc h1 h3 hp hpt hpa h6 hbest)
/-- between phases -/
def cf_K (i : Nat) (x1 x2 : Int32) (a5 : Nat → Int32) : Prop :=
  ∃ (th bd : Nat) (j : Nat → Nat), th < 64 ∧ x2 = nI th ∧ cf_cnt th + i = 6 ∧ cf_R a5 j ∧ cf_B j bd ∧ bd ≤ 100 * 2 ^ i ∧ (i = 0 → th = 63 ∧ ∀ p, 3 ≤ p → p < 6 → ∀ b, b < 6 → j (p * 6 + b) = 0) ∧ (i = 0 → x1 = nI 1048576) ∧ (0 < i → x1 = nI 0)
theorem cf_l34 (hj : cf_R a5 j) (hB : cf_B j 100) (hZ : cf_Z j) (H : ∀ b5 b6 : Nat → Int32, post (nI 0) (f, a1, a2, a3, a4, b5, b6, a7, a8)) : ∃ n, wX_least_34 post n 1048576 63 0 f a1 a2 a3 a4 a5 a6 a7 a8 := by
  refine pk_loop (σ := Int32 × Int32 × (Nat → Int32) × (Nat → Int32)) (fun n i s => wX_least_34 post n s.1 s.2.1 (nI i) f a1 a2 a3 a4 s.2.2.1 s.2.2.2 a7 a8) (fun i s => cf_K i s.1 s.2.1 s.2.2.1) 5 0 (nI 1048576, nI 63, a5, a6) (by omega) ⟨63, 100, j, by decide, rfl, by decide, hj, hB, by decide, fun _ => ⟨rfl, fun p h1 h2 b h3 => hZ _ (by omega) (by omega) (by omega) (by omega) (by omega) (by omega) (by omega)⟩, fun _ => rfl, fun z => absurd z (by omega)⟩ (fun n s h => ?_) (fun n i s hi h hw => ?_)
  · obtain ⟨x1, x2, b5, b6⟩ := s
    obtain ⟨th, bd, j', _, _, _, _, _, _, _, _, e⟩ := h
    have e' : x1 = nI 0 := e (by decide)
    subst e'
    exact pk_le 5 5 (fun _ => H b5 b6) (fun z => absurd z (by omega))
  · obtain ⟨x1, x2, b5, b6⟩ := s
    obtain ⟨th, bd, j', hth, e2, hcn, hj', hB', hbd, hz, h0, h1⟩ := h
    have e2' : x2 = nI th := e2
    subst e2'
    have hp : 2 ^ i ≤ 2 ^ 5 := Nat.pow_le_pow_right (by decide) (by omega)
    have hpe : 2 ^ (i + 1) = 2 ^ i * 2 := Nat.pow_succ ..
    refine pk_le 5 i (fun z => absurd z (by omega)) (fun _ => cf_phase hi hth hcn hj' hB' (by omega) hz h0 h1 (fun th' c5 c6 j2 t1 t2 t3 t4 => ?_))
    exact hw (nI 0, nI th', c5, c6) ⟨th', 2 * bd, j2, t1, rfl, t2, t3, t4, by omega, fun z => absurd z (by omega), fun z => absurd z (by omega), fun _ => rfl⟩
theorem cf_least (hC : cf_R a1 j) (hB : cf_B j 100) (hZ : cf_Z j) (H : ∀ b5 b6 : Nat → Int32, post (nI 0) (f, a1, a2, a3, a4, b5, b6, a7, a8)) : wpX_least post (f, a1, a2, a3, a4, a5, a6, a7, a8) :=
  pk_loop (fun n i s => wX_least_2 post f n (nI i) a1 a2 a3 a4 s a6 a7 a8) (fun i s => ∀ k, k < i → s k = a1 k) 36 0 a5 (by omega) (fun k hk => absurd hk (by omega))
    (fun n s h => pk_le 36 36 (fun _ => cf_l34 (a5 := s) (fun k hk => by rw [h k hk]; exact hC k hk) hB hZ H) (fun z => absurd z (by omega)))
    (fun n i s hi h hw => pk_le 36 i (fun z => absurd z (by omega)) (fun _ => ⟨pk_in i 36 hi, pk_in i 36 hi, nm_r (by rw [cf_c (by omega)]) (nm_r (nI_1 i) (hw (upd s i (a1 i)) (fun k hk => by
      by_cases e : k = i
      · rw [e, pk_us]
      · rw [pk_un e]; exact h k (by omega))))⟩))
end
end
section
/-! ===== the methods that the law calls, over the capacities of the law ===== -/
section
variable {post : Int32 → St2 → Prop} {f : Int32} {a1 a2 a3 a4 a5 a6 a7 a8 : Nat → Int32} {x y z G : Nat} {p q : Int32}
theorem cf_flowA (hC : cf_R a1 (cf_cap x y z)) (hx : x ≤ 31) (hy : y ≤ 31) (hz : z ≤ 31) (hp : p = nI 1) (hq : q = nI 2)
    (H : ∀ (F : Nat) (b2 b3 b4 : Nat → Int32), (z ≤ y → F = 1) → (¬ z ≤ y → F = 5) → post (nI (x + min y z)) (nI F, a1, b2, b3, b4, a5, a6, a7, a8)) : wpX_flow post (f, a1, a2, a3, a4, a5, a6, a7, a8) p q := by
  subst hp hq
  have e : 0 + cf_cap x y z 1 + min (cf_cap x y z 13) (cf_cap x y z 2) = x + min y z := by
    show 0 + x + min y z = x + min y z
    rw [Nat.zero_add]
  refine cf_flow hC (cf_capZ x y z) (cf_capB hx hy hz) (fun b2 hP => ⟨3, cf_fA1 (n := 0) (s := 0) hP (by omega) (by decide) (by decide) (by decide) (by decide) (fun F b2 b3 b4 t1 t2 => ?_)⟩)
  rw [e]
  exact H F b2 b3 b4 t1 t2
theorem cf_flowB (hC : cf_R a1 (cf_cap x y z)) (hx : x ≤ 31) (hy : y ≤ 31) (hz : z ≤ 31) (hp : p = nI 1) (hq : q = nI G) (hG : G < 64) (q1 : G.testBit 1 = false) (q2 : G.testBit 2 = true)
    (H : ∀ (f' : Int32) (b2 b3 b4 : Nat → Int32), post (nI (z + min y x)) (f', a1, b2, b3, b4, a5, a6, a7, a8)) : wpX_flow post (f, a1, a2, a3, a4, a5, a6, a7, a8) p q := by
  subst hp hq
  have e : 0 + cf_cap x y z 2 + min (cf_cap x y z 8) (cf_cap x y z 1) = z + min y x := by
    show 0 + z + min y x = z + min y x
    rw [Nat.zero_add]
  refine cf_flow hC (cf_capZ x y z) (cf_capB hx hy hz) (fun b2 hP => ⟨3, cf_fB1 (n := 0) (s := 0) hP (by omega) hG q1 q2 (by decide) ?_⟩)
  rw [e]
  exact H
theorem cf_flowC (hC : cf_R a1 (cf_cap x y z)) (hx : x ≤ 31) (hy : y ≤ 31) (hz : z ≤ 31) (hp : p = nI 1) (hq : q = nI G) (hG : G < 64) (q1 : G.testBit 1 = true) (q2 : G.testBit 2 = true)
    (H : ∀ (f' : Int32) (b2 b3 b4 : Nat → Int32), post (nI (x + z)) (f', a1, b2, b3, b4, a5, a6, a7, a8)) : wpX_flow post (f, a1, a2, a3, a4, a5, a6, a7, a8) p q := by
  subst hp hq
  have e : 0 + cf_cap x y z 1 + cf_cap x y z 2 = x + z := by
    show 0 + x + z = x + z
    rw [Nat.zero_add]
  refine cf_flow hC (cf_capZ x y z) (cf_capB hx hy hz) (fun b2 hP => ⟨3, cf_fC1 (n := 0) (s := 0) hP (by omega) hG q1 q2 (by decide) ?_⟩)
  rw [e]
  exact H
theorem cf_flowD (hC : cf_R a1 (cf_cap x y z)) (hx : x ≤ 31) (hy : y ≤ 31) (hz : z ≤ 31) (hp : p = nI 1) (hq : q = nI G) (hG : G < 64) (q1 : G.testBit 1 = false) (q2 : G.testBit 2 = false)
    (H : ∀ (f' : Int32) (b2 b3 b4 : Nat → Int32), post (nI 0) (f', a1, b2, b3, b4, a5, a6, a7, a8)) : wpX_flow post (f, a1, a2, a3, a4, a5, a6, a7, a8) p q := by
  subst hp hq
  exact cf_flow hC (cf_capZ x y z) (cf_capB hx hy hz) (fun b2 hP => ⟨1, cf_fD (n := 0) (s := 0) hP (by omega) hG q1 q2 (by decide) H⟩)
theorem cf_flowE (hC : cf_R a1 (cf_cap x y z)) (hx : x ≤ 31) (hy : y ≤ 31) (hz : z ≤ 31) (hp : p = nI 5) (hq : q = nI G) (hG : G < 64) (q1 : G.testBit 1 = true)
    (H : ∀ (f' : Int32) (b2 b3 b4 : Nat → Int32), post (nI (x + y)) (f', a1, b2, b3, b4, a5, a6, a7, a8)) : wpX_flow post (f, a1, a2, a3, a4, a5, a6, a7, a8) p q := by
  subst hp hq
  have e : 0 + cf_cap x y z 1 + cf_cap x y z 13 = x + y := by
    show 0 + x + y = x + y
    rw [Nat.zero_add]
  refine cf_flow hC (cf_capZ x y z) (cf_capB hx hy hz) (fun b2 hP => ⟨3, cf_fE1 (n := 0) (s := 0) hP (by omega) hG q1 (by decide) ?_⟩)
  rw [e]
  exact H
/-- the side that the law expects -/
def cf_sd (x y z : Nat) : Nat := if x = 0 ∧ z = 0 then 1 else if x = 0 ∧ y = 0 then 5 else if y = 0 ∧ z = 0 then 3 else 7
theorem cf_side (hC : cf_R a1 (cf_cap x y z)) (hx : x ≤ 31) (hy : y ≤ 31) (hz : z ≤ 31)
    (H : ∀ (f' : Int32) (b2 b3 b4 b5 b6 : Nat → Int32), post (nI (cf_sd x y z)) (f', a1, b2, b3, b4, b5, b6, a7, a8)) : wpX_leastSide post (f, a1, a2, a3, a4, a5, a6, a7, a8) := by
  unfold wpX_leastSide
  dsimp only
  have Hs : ∀ (s : Nat) (f' : Int32) (b2 b3 b4 b5 b6 : Nat → Int32), s = cf_sd x y z → post (nI s) (f', a1, b2, b3, b4, b5, b6, a7, a8) := by
    intro s f' b2 b3 b4 b5 b6 e
    rw [e]
    exact H f' b2 b3 b4 b5 b6
  refine cf_least hC (cf_capB (by omega) (by omega) (by omega)) (cf_capZ x y z) (fun b5 b6 => ⟨6, ?_⟩)
  refine pk_le 5 0 (fun e => absurd e (by omega)) (fun _ => cf_flowD (G := 32) hC hx hy hz rfl (by decide) (by decide) (by decide) (by decide) (fun f1 c2 c3 c4 => br_t rfl (nm_r (e' := nI 32) (by decide) (nm_r (e' := nI 4) (by decide) ?_))))
  refine pk_le 4 0 (fun e => absurd e (by omega)) (fun _ => cf_flowD (G := 48) hC hx hy hz rfl (by decide) (by decide) (by decide) (by decide) (fun f1 c2 c3 c4 => br_t rfl (nm_r (e' := nI 48) (by decide) (nm_r (e' := nI 3) (by decide) ?_))))
  refine pk_le 3 0 (fun e => absurd e (by omega)) (fun _ => cf_flowD (G := 56) hC hx hy hz rfl (by decide) (by decide) (by decide) (by decide) (fun f1 c2 c3 c4 => br_t rfl (nm_r (e' := nI 56) (by decide) (nm_r (e' := nI 2) (by decide) ?_))))
  refine pk_le 2 0 (fun e => absurd e (by omega)) (fun _ => cf_flowB (G := 60) hC hx hy hz rfl (by decide) (by decide) (by decide) (by decide) (fun f1 c2 c3 c4 => pk_eq (z + min y x) 0 (fun e2 => nm_r (e' := nI 60) (by decide) (nm_r (e' := nI 1) (by decide) ?_)) (fun e2 => nm_r (e' := nI 5) (by decide) (nm_r (e' := nI 1) (by decide) ?_))))
  · refine pk_le 1 0 (fun e => absurd e (by omega)) (fun _ => cf_flowC (G := 62) hC hx hy hz rfl (by decide) (by decide) (by decide) (by decide) (fun f1 c2 c3 c4 => pk_eq (x + z) 0 (fun e1 => nm_r (e' := nI 62) (by decide) (nm_r (e' := nI 0) (by decide) ?_)) (fun e1 => nm_r (e' := nI 3) (by decide) (nm_r (e' := nI 0) (by decide) ?_))))
    · refine pk_le 0 0 (fun _ => Hs 1 _ _ _ _ _ _ ?_) (fun e => absurd e (by omega))
      unfold cf_sd
      repeat' split
      all_goals omega
    · refine pk_le 0 0 (fun _ => Hs 3 _ _ _ _ _ _ ?_) (fun e => absurd e (by omega))
      unfold cf_sd
      repeat' split
      all_goals omega
  · refine pk_le 1 0 (fun e => absurd e (by omega)) (fun _ => cf_flowE (G := 58) hC hx hy hz rfl (by decide) (by decide) (by decide) (fun f1 c2 c3 c4 => pk_eq (x + y) 0 (fun e1 => nm_r (e' := nI 58) (by decide) (nm_r (e' := nI 0) (by decide) ?_)) (fun e1 => nm_r (e' := nI 7) (by decide) (nm_r (e' := nI 0) (by decide) ?_))))
    · refine pk_le 0 0 (fun _ => Hs 5 _ _ _ _ _ _ ?_) (fun e => absurd e (by omega))
      unfold cf_sd
      repeat' split
      all_goals omega
    · refine pk_le 0 0 (fun _ => Hs 7 _ _ _ _ _ _ ?_) (fun e => absurd e (by omega))
      unfold cf_sd
      repeat' split
      all_goals omega
theorem cf_pair {post : Int32 → Prop} {u : St0} {a b : Nat} (ha : a < 6) (hb : b < 6) (hab : a ≠ b) (H : post 1) : wpX_isPair post u (nI a) (nI b) := by
  unfold wpX_isPair
  exact br_f (nI_pos (by omega)) (br_f (nI_ge (b := 6) ha (by decide)) (br_f (by decide) (br_f (nI_pos (by omega)) (br_f (nI_ge (b := 6) hb (by decide)) (br_f (by decide) (br_f (fun e => hab ((nI_eq (by omega) (by omega)).mp e)) H))))))
theorem cf_put {post : St2 → Prop} {a b : Nat} {c : Int32} (ha : a < 6) (hb : b < 6) (H : post (f, upd (upd a1 (a * 6 + b) c) (b * 6 + a) c, a2, a3, a4, a5, a6, a7, a8)) : wpX_put post (f, a1, a2, a3, a4, a5, a6, a7, a8) (nI a) (nI b) c :=
  ⟨cf_vin ha hb, nm_r (by rw [cf_cl ha hb]) ⟨cf_vin hb ha, nm_r (by rw [cf_cl hb ha]) H⟩⟩
theorem cf_set {a b v : Nat} (ha : a < 6) (hb : b < 6) (hab : a ≠ b) (hv : v ≤ 30) (H : post 1 (f, upd (upd a1 (a * 6 + b) (nI v)) (b * 6 + a) (nI v), a2, a3, a4, a5, a6, a7, a8)) : wpX_set post (f, a1, a2, a3, a4, a5, a6, a7, a8) (nI a) (nI b) (nI v) := by
  unfold wpX_set
  dsimp only
  exact cf_pair ha hb hab (br_f (by decide) (br_f (nI_pos (by omega)) (br_t (nI_le (b := 30) hv (by decide)) (cf_put ha hb H))))
theorem cf_between (hC : cf_R a1 (cf_cap x y z)) (hx : x ≤ 31) (hy : y ≤ 31) (hz : z ≤ 31)
    (H : ∀ (f' : Int32) (b2 b3 b4 : Nat → Int32), post (nI (x + min y z)) (f', a1, b2, b3, b4, a5, a6, a7, a8)) : wpX_between post (f, a1, a2, a3, a4, a5, a6, a7, a8) 0 1 := by
  unfold wpX_between
  dsimp only
  exact cf_pair (a := 0) (b := 1) (by decide) (by decide) (by decide) (br_f (by decide) (cf_flowA hC hx hy hz (by decide) (by decide) (fun F b2 b3 b4 _ _ => H _ b2 b3 b4)))
theorem cf_core (hC : cf_R a1 (cf_cap x y z)) (hx : x ≤ 31) (hy : y ≤ 31) (hz : z ≤ 31)
    (H : ∀ (F : Nat) (f' : Int32) (b2 b3 b4 : Nat → Int32), (z ≤ y → F = 1) → (¬ z ≤ y → F = 5) → post (nI F) (f', a1, b2, b3, b4, a5, a6, a7, a8)) : wpX_core post (f, a1, a2, a3, a4, a5, a6, a7, a8) 0 1 := by
  unfold wpX_core
  dsimp only
  exact cf_pair (a := 0) (b := 1) (by decide) (by decide) (by decide) (br_f (by decide) (cf_flowA hC hx hy hz (by decide) (by decide) (fun F b2 b3 b4 h1 h2 => H F _ b2 b3 b4 h1 h2)))
theorem cf_forced (hC : cf_R a1 (cf_cap x y z)) (hx : x ≤ 31) (hy : y ≤ 31) (hz : z ≤ 31)
    (H : ∀ (f' : Int32) (b2 b3 b4 : Nat → Int32), post (nI (x + z)) (f', a1, b2, b3, b4, a5, a6, a7, a8)) : wpX_forced post (f, a1, a2, a3, a4, a5, a6, a7, a8) 1 6 := by
  unfold wpX_forced
  dsimp only
  exact br_f (by decide) (br_f (by decide) (br_f (by decide) (br_f (by decide) (br_t (by decide) (br_f (by decide) (br_f (by decide) (br_f (by decide) (br_f (by decide) (cf_flowC (G := 6) hC hx hy hz (by decide) (by decide) (by decide) (by decide) (by decide) H)))))))))
theorem cf_capY {k y' : Nat} (h8 : k ≠ 8) (h13 : k ≠ 13) : cf_cap x y' z k = cf_cap x y z k := by
  simp only [cf_cap, if_neg h8, if_neg h13]
theorem cf_capU {y' : Nat} (hC : cf_R a1 (cf_cap x y z)) : cf_R (upd (upd a1 (1 * 6 + 2) (nI y')) (2 * 6 + 1) (nI y')) (cf_cap x y' z) := by
  intro k hk
  by_cases e13 : k = 13
  · subst e13
    rfl
  · by_cases e8 : k = 8
    · subst e8
      rfl
    · show upd (upd a1 8 (nI y')) 13 (nI y') k = nI (cf_cap x y' z k)
      rw [pk_un e13, pk_un e8, cf_capY (y := y) e8 e13]
      exact hC k hk
theorem cf_tight (hC : cf_R a1 (cf_cap x y z)) (hx : x ≤ 30) (hy : y ≤ 30) (hz : z ≤ 30)
    (H : ∀ (t : Nat) (f' : Int32) (b1 b2 b3 b4 : Nat → Int32), (z ≤ y → t = 0) → (¬ z ≤ y → t = 1) → post (nI t) (f', b1, b2, b3, b4, a5, a6, a7, a8)) : wpX_tight post (f, a1, a2, a3, a4, a5, a6, a7, a8) 0 1 1 2 := by
  unfold wpX_tight
  dsimp only
  refine cf_pair (a := 0) (b := 1) (by decide) (by decide) (by decide) (br_f (by decide) (cf_pair (a := 1) (b := 2) (by decide) (by decide) (by decide) (br_f (by decide) ⟨cf_vin (a := 1) (b := 2) (by decide) (by decide), nm_r (e' := nI y) (hC 8 (by decide)) ?_⟩)))
  refine cf_between hC (by omega) (by omega) (by omega) (fun f1 b2 b3 b4 => ?_)
  dsimp only
  rw [nI_1]
  refine cf_put (a := 1) (b := 2) (by decide) (by decide) (cf_between (cf_capU (y' := y + 1) hC) (by omega) (by omega) (by omega) (fun f2 c2 c3 c4 => cf_put (a := 1) (b := 2) (by decide) (by decide) (pk_le (x + min (y + 1) z) (x + min y z) (fun e => ?_) (fun e => ?_))))
  · exact H 0 _ _ _ _ _ (fun _ => rfl) (fun e2 => absurd e (by omega))
  · exact H 1 _ _ _ _ _ (fun e2 => absurd e (by omega)) (fun _ => rfl)
end
end
section
/-! ===== the law ===== -/
theorem cf_set3 (x y z : Nat) : cf_R (upd (upd (upd (upd (upd (upd (fun _ => 0) (0 * 6 + 1) (nI x)) (1 * 6 + 0) (nI x)) (1 * 6 + 2) (nI y)) (2 * 6 + 1) (nI y)) (2 * 6 + 0) (nI z)) (0 * 6 + 2) (nI z)) (cf_cap x y z) := by
  intro k hk
  by_cases e1 : k = 1
  · subst e1; rfl
  by_cases e2 : k = 2
  · subst e2; rfl
  by_cases e6 : k = 6
  · subst e6; rfl
  by_cases e8 : k = 8
  · subst e8; rfl
  by_cases e12 : k = 12
  · subst e12; rfl
  by_cases e13 : k = 13
  · subst e13; rfl
  rw [cf_capZ x y z k hk e1 e2 e6 e8 e12 e13]
  rw [pk_un (by omega), pk_un (by omega), pk_un (by omega), pk_un (by omega), pk_un (by omega), pk_un (by omega)]
  rfl
section
variable {mc ms kc ks : Nat} {x y z F t : Nat}
theorem cf_193 {s : Nat} {w : Int32} (hx : x ≤ 30) (hy : y ≤ 30) (hz : z ≤ 30) (ht0 : z ≤ y → t = 0) (ht1 : ¬ z ≤ y → t = 1) (hw : w = nI s) : wL_lawOf_193 (fun r _ => r = 1) mc ms (nI x) (nI y) (nI z) (nI F) (nI (x + z)) (nI t) (nI F) (nI s) w kc ks := by
  unfold wL_lawOf_193
  refine br_t hw (br_t rfl (br_t (nI_add x z).symm (pk_le z y (fun e => ?_) (fun e => ?_))))
  · unfold wL_lawOf_227
    exact br_t (by rw [ht0 e]; rfl) rfl
  · unfold wL_lawOf_227
    exact br_t (by rw [ht1 (by omega)]; rfl) rfl
theorem cf_133 (hx : x ≤ 30) (hy : y ≤ 30) (hz : z ≤ 30) (ht0 : z ≤ y → t = 0) (ht1 : ¬ z ≤ y → t = 1) : wL_lawOf_133 (fun r _ => r = 1) mc ms (nI x) (nI y) (nI z) (nI (x + min y z)) (nI 0) (nI (cf_sd x y z)) (nI F) (nI (x + z)) (nI t) (nI (x + min y z)) (nI F) kc ks := by
  have S : ∀ s, cf_sd x y z = s → wL_lawOf_193 (fun r _ => r = 1) mc ms (nI x) (nI y) (nI z) (nI F) (nI (x + z)) (nI t) (nI F) (nI s) (nI (cf_sd x y z)) kc ks := by
    intro s e
    exact cf_193 hx hy hz ht0 ht1 (by rw [e])
  have K : ¬ (x = 0 ∧ z = 0) → wL_lawOf_163 (fun r _ => r = 1) mc ms (nI x) (nI y) (nI z) (nI F) (nI (x + z)) (nI t) (nI F) (nI (cf_sd x y z)) kc ks := by
    intro h1
    have Q : ¬ (x = 0 ∧ y = 0) → wL_lawOf_177 (fun r _ => r = 1) mc ms (nI x) (nI y) (nI z) (nI F) (nI (x + z)) (nI t) (nI F) (nI (cf_sd x y z)) kc ks := by
      intro h2
      have R : ¬ (y = 0 ∧ z = 0) → wL_lawOf_191 (fun r _ => r = 1) mc ms (nI x) (nI y) (nI z) (nI F) (nI (x + z)) (nI t) (nI F) (nI (cf_sd x y z)) kc ks := by
        intro h3
        unfold wL_lawOf_191
        exact S 7 (by unfold cf_sd; rw [if_neg h1, if_neg h2, if_neg h3])
      unfold wL_lawOf_177
      exact pk_eq y 0 (fun ey => pk_eq z 0 (fun ez => S 3 (by unfold cf_sd; rw [if_neg h1, if_neg h2, if_pos ⟨ey, ez⟩])) (fun ez => R (fun h => ez h.2))) (fun ey => R (fun h => ey h.1))
    unfold wL_lawOf_163
    exact pk_eq x 0 (fun ex => pk_eq y 0 (fun ey => S 5 (by unfold cf_sd; rw [if_neg h1, if_pos ⟨ex, ey⟩])) (fun ey => Q (fun h => ey h.2))) (fun ex => Q (fun h => ex h.1))
  unfold wL_lawOf_133
  exact br_t rfl (br_t rfl (pk_eq x 0 (fun ex => pk_eq z 0 (fun ez => S 1 (by unfold cf_sd; rw [if_pos ⟨ex, ez⟩])) (fun ez => K (fun h => ez h.2))) (fun ex => K (fun h => ex h.1))))
end
theorem cf_mod (p : Int32) : ∃ x : Nat, x ≤ 30 ∧ (p &&& 65535) - (p &&& 65535) / 31 * 31 = nI x := by
  obtain ⟨j, hj, e⟩ := pk_andE p (m := 65535) 16 (by decide)
  refine ⟨j % 31, by omega, ?_⟩
  rw [e]
  exact pk_rem (d := 31) (by omega) (by decide) (by decide)
theorem cf_lawOf (p0 p1 p2 : Int32) : wpL_lawOf (fun r _ => r = 1) 86 1360 () p0 p1 p2 := by
  obtain ⟨x, hx, ex⟩ := cf_mod p0
  obtain ⟨y, hy, ey⟩ := cf_mod p1
  obtain ⟨z, hz, ez⟩ := cf_mod p2
  unfold wpL_lawOf
  refine ⟨by decide, by decide, 8, 140, by decide, by decide, ?_⟩
  unfold wpX_init
  refine ⟨by decide, by decide, by decide, by decide, by decide, by decide, by decide, by decide, by decide, by decide, by decide, by decide, by decide, by decide, by decide, by decide, ?_⟩
  dsimp only
  refine ⟨by decide, nm_r ex ⟨by decide, nm_r ey ⟨by decide, nm_r ez ?_⟩⟩⟩
  refine cf_set (a := 0) (b := 1) (by decide) (by decide) (by decide) hx ?_
  refine cf_set (a := 1) (b := 2) (by decide) (by decide) (by decide) hy ?_
  refine cf_set (a := 2) (b := 0) (by decide) (by decide) (by decide) hz ?_
  have hC := cf_set3 x y z
  refine cf_between hC (by omega) (by omega) (by omega) (fun f1 b2 b3 b4 => ?_)
  refine cf_least hC (cf_capB (by omega) (by omega) (by omega)) (cf_capZ x y z) (fun b5 b6 => ?_)
  refine cf_side hC (by omega) (by omega) (by omega) (fun f2 b2 b3 b4 b5 b6 => ?_)
  refine cf_core hC (by omega) (by omega) (by omega) (fun F f3 b2 b3 b4 hF1 hF5 => ?_)
  refine cf_forced hC (by omega) (by omega) (by omega) (fun f4 b2 b3 b4 => ?_)
  refine cf_tight hC hx hy hz (fun t f5 b1 b2 b3 b4 ht0 ht1 => ?_)
  have fin : ∀ d fst : Int32, d = nI (x + min y z) → fst = nI F → wL_lawOf_133 (fun r _ => r = 1) 86 1360 (nI x) (nI y) (nI z) (nI (x + min y z)) (nI 0) (nI (cf_sd x y z)) (nI F) (nI (x + z)) (nI t) d fst (1 + 8) (9 + 140) := by
    intro d fst e1 e2
    subst e1 e2
    exact cf_133 hx hy hz ht0 ht1
  have last : ∀ d : Int32, d = nI (x + min y z) → ((nI y < nI z → wL_lawOf_133 (fun r _ => r = 1) 86 1360 (nI x) (nI y) (nI z) (nI (x + min y z)) (nI 0) (nI (cf_sd x y z)) (nI F) (nI (x + z)) (nI t) d 5 (1 + 8) (9 + 140)) ∧ (¬ nI y < nI z → wL_lawOf_133 (fun r _ => r = 1) 86 1360 (nI x) (nI y) (nI z) (nI (x + min y z)) (nI 0) (nI (cf_sd x y z)) (nI F) (nI (x + z)) (nI t) d 1 (1 + 8) (9 + 140))) := by
    intro d e
    exact pk_lt y z (fun h => fin d 5 e (by rw [hF5 (by omega)]; rfl)) (fun h => fin d 1 e (by rw [hF1 (by omega)]; rfl))
  unfold wpL_min
  exact pk_le z y (fun h => nm_e (last _ (by rw [nI_add, show min y z = z by omega]))) (fun h => nm_e (last _ (by rw [nI_add, show min y z = y by omega])))
theorem cf_cell {post : Int32 → Prop} {L : Nat} {xs : Nat → Int32} (hL : L ≤ 3) (i : Nat) (hi : i < 3) (H : ∀ v, post v) : wpL_cellAt post L xs () (nI i) :=
  pk_le L i (fun _ => H 0) (fun h => ⟨pk_in i L h, H _⟩)
theorem i_vc (xs : Nat → Int32) (L : Nat) (hL : L ≤ 3) : wpL_law (fun r => r = 1) L xs := by
  unfold wpL_law
  exact cf_cell hL 0 (by decide) (fun v0 => cf_cell hL 1 (by decide) (fun v1 => cf_cell hL 2 (by decide) (fun v2 => ⟨86, 1360, by decide, by decide, cf_lawOf v0 v1 v2⟩)))
end
