section
/-! rows of kit/rows/PURE-ROWS (a starting text) -/
theorem pk_us {f : Nat → Int32} {k : Nat} {x : Int32} : upd f k x k = x := if_pos rfl
theorem pk_un {f : Nat → Int32} {k j : Nat} {x : Int32} (h : j ≠ k) : upd f k x j = f j := if_neg h
theorem pk_sub {a b : Nat} (h : b ≤ a) : nI a - nI b = nI (a - b) := by
  obtain ⟨c, rfl⟩ : ∃ c, a = c + b := ⟨a - b, by omega⟩
  rw [← nI_add, Int32.add_sub_cancel, Nat.add_sub_cancel]
theorem pk_m1 (n : Nat) : nI (n + 1) + (-1) = nI n := by
  rw [← nI_1, Int32.add_assoc, show (1 : Int32) + (-1) = 0 from rfl, Int32.add_zero]
theorem pk_mul (a b : Nat) : nI a * nI b = nI (a * b) := (Int32.ofNat_mul a b).symm
theorem pk_div {a d : Nat} (ha : a < 2 ^ 31) (h0 : 0 < d) (hd : d < 2 ^ 31) : nI a / nI d = nI (a / d) := by
  apply Int32.toInt_inj.mp
  rw [lg_idiv_nonneg (by rw [nI_toInt ha]; omega) (by rw [nI_toInt hd]; omega), nI_toInt ha, nI_toInt hd, nI_toInt (Nat.lt_of_le_of_lt (Nat.div_le_self a d) ha)]
  first | rfl | exact (Int.natCast_ediv _ _).symm
theorem pk_rem {a d : Nat} (ha : a < 2 ^ 31) (h0 : 0 < d) (hd : d < 2 ^ 31) : nI a - nI a / nI d * nI d = nI (a % d) := by
  rw [pk_div ha h0 hd, pk_mul, pk_sub (Nat.div_mul_le_self a d)]
  exact congrArg nI (by have := Nat.div_add_mod' a d; omega)
theorem pk_ix (x : Int32) {n : Nat} (hn : n < 2 ^ 31) : x < 0 ∨ nI n ≤ x ∨ ∃ j : Nat, j < n ∧ x = nI j := by
  by_cases h : x < 0
  · exact Or.inl h
  · obtain ⟨j, hj, rfl⟩ := nI_of h
    by_cases h2 : j < n
    · exact Or.inr (Or.inr ⟨j, h2, rfl⟩)
    · exact Or.inr (Or.inl (nI_le (by omega) hj))
theorem pk_le {x y : Int32} {A B : Prop} (a b : Nat) (f : a ≤ b → A) (g : b < a → B) (hx : x = nI a := by rfl) (hy : y = nI b := by rfl) (ha : a < 2 ^ 31 := by omega) (hb : b < 2 ^ 31 := by omega) : (x ≤ y → A) ∧ (¬ x ≤ y → B) := by
  subst hx hy
  rw [nI_leI ha hb]
  exact ⟨f, fun z => g (by omega)⟩
theorem pk_lt {x y : Int32} {A B : Prop} (a b : Nat) (f : a < b → A) (g : b ≤ a → B) (hx : x = nI a := by rfl) (hy : y = nI b := by rfl) (ha : a < 2 ^ 31 := by omega) (hb : b < 2 ^ 31 := by omega) : (x < y → A) ∧ (¬ x < y → B) := by
  subst hx hy
  rw [nI_ltI ha hb]
  exact ⟨f, fun z => g (by omega)⟩
theorem pk_eq {x y : Int32} {A B : Prop} (a b : Nat) (f : a = b → A) (g : a ≠ b → B) (hx : x = nI a := by rfl) (hy : y = nI b := by rfl) (ha : a < 2 ^ 31 := by omega) (hb : b < 2 ^ 31 := by omega) : (x = y → A) ∧ (¬ x = y → B) := by
  subst hx hy
  rw [nI_eq ha hb]
  exact ⟨f, g⟩
theorem pk_in {x : Int32} (n N : Nat) (h : n < N) (hx : x = nI n := by rfl) (hN : N < 2 ^ 31 := by omega) : vp_in x N := by
  subst hx
  exact vp_in_nI h hN
theorem pk_cl {x : Int32} (n : Nat) (hx : x = nI n := by rfl) (h : n < 2 ^ 31 := by omega) : x.toNatClampNeg = n := by
  subst hx
  exact nI_clamp h
theorem pk_tn {n : Nat} (h : n < 2 ^ 32) : (nI n).toBitVec.toNat = n := Nat.mod_eq_of_lt h
theorem pk_and (x : Int32) {m : Int32} (k : Nat) (hm : m.toBitVec.toNat = 2 ^ k - 1) : x &&& m = nI (x.toBitVec.toNat % 2 ^ k) := by
  apply Int32.toBitVec_inj.mp
  apply BitVec.eq_of_toNat_eq
  rw [Int32.toBitVec_and, BitVec.toNat_and, hm, Nat.and_two_pow_sub_one_eq_mod]
  show _ = (BitVec.ofNat 32 _).toNat
  rw [BitVec.toNat_ofNat]
  exact (Nat.mod_eq_of_lt (Nat.lt_of_le_of_lt (Nat.mod_le _ _) x.toBitVec.isLt)).symm
theorem pk_andE (x : Int32) {m : Int32} (k : Nat) (hm : m.toBitVec.toNat = 2 ^ k - 1) : ∃ j : Nat, j < 2 ^ k ∧ x &&& m = nI j := ⟨_, Nat.mod_lt _ (Nat.two_pow_pos k), pk_and x k hm⟩
end
section
/-! ===== counts ===== -/
/-- how many of the first n cells hold v -/
def bs_cnt (a : Nat → Int32) (v : Int32) : Nat → Nat
  | 0 => 0
  | n + 1 => bs_cnt a v n + if a n = v then 1 else 0
theorem bs_cnt_same {a b : Nat → Int32} {v : Int32} : ∀ n : Nat, (∀ j, j < n → a j = b j) → bs_cnt a v n = bs_cnt b v n := by
  intro n
  induction n with
  | zero => intro _; rfl
  | succ n ih =>
    intro h
    show bs_cnt a v n + (if a n = v then 1 else 0) = bs_cnt b v n + (if b n = v then 1 else 0)
    rw [ih (fun j hj => h j (by omega)), h n (by omega)]
theorem bs_cnt_upd {a : Nat → Int32} {j : Nat} {x v : Int32} : ∀ n : Nat, j < n → bs_cnt (upd a j x) v n + (if a j = v then 1 else 0) = bs_cnt a v n + (if x = v then 1 else 0) := by
  intro n
  induction n with
  | zero => intro h; omega
  | succ n ih =>
    intro h
    show bs_cnt (upd a j x) v n + (if upd a j x n = v then 1 else 0) + (if a j = v then 1 else 0) = bs_cnt a v n + (if a n = v then 1 else 0) + (if x = v then 1 else 0)
    by_cases e : n = j
    · subst e
      have e1 : bs_cnt (upd a n x) v n = bs_cnt a v n := bs_cnt_same n (fun i hi => pk_un (by omega))
      rw [e1, pk_us]
      omega
    · have e1 := ih (by omega)
      rw [pk_un e]
      omega
theorem bs_cnt_le {a : Nat → Int32} {v : Int32} : ∀ n : Nat, bs_cnt a v n ≤ n := by
  intro n
  induction n with
  | zero => exact Nat.le_refl 0
  | succ n ih =>
    show bs_cnt a v n + (if a n = v then 1 else 0) ≤ n + 1
    split <;> omega
theorem bs_cnt_pos {a : Nat → Int32} {v : Int32} {j : Nat} (e : a j = v) : ∀ n : Nat, j < n → 0 < bs_cnt a v n := by
  intro n
  induction n with
  | zero => intro h; omega
  | succ n ih =>
    intro h
    show 0 < bs_cnt a v n + (if a n = v then 1 else 0)
    by_cases z : n = j
    · subst z
      rw [if_pos e]
      omega
    · have := ih (by omega)
      omega
theorem bs_cnt_0 {a : Nat → Int32} {v : Int32} {n : Nat} (h : bs_cnt a v n = 0) : ∀ j, j < n → ¬ a j = v := by
  intro j hj e
  have := bs_cnt_pos e n hj
  omega
theorem bs_cnt_z {a : Nat → Int32} {v : Int32} : ∀ n : Nat, (∀ j, j < n → ¬ a j = v) → bs_cnt a v n = 0 := by
  intro n
  induction n with
  | zero => intro _; rfl
  | succ n ih =>
    intro h
    show bs_cnt a v n + (if a n = v then 1 else 0) = 0
    rw [ih (fun j hj => h j (by omega)), if_neg (h n (by omega))]
theorem bs_cnt_ex {a : Nat → Int32} {v : Int32} : ∀ n : Nat, ¬ bs_cnt a v n = 0 → ∃ j, j < n ∧ a j = v := by
  intro n
  induction n with
  | zero => intro h; exact absurd rfl h
  | succ n ih =>
    intro h
    by_cases e : a n = v
    · exact ⟨n, by omega, e⟩
    · have h2 : ¬ (bs_cnt a v n + if a n = v then 1 else 0) = 0 := h
      rw [if_neg e] at h2
      obtain ⟨j, hj, ej⟩ := ih h2
      exact ⟨j, by omega, ej⟩
theorem bs_cnt_1 {a : Nat → Int32} {v x : Int32} (hx : ¬ x = v) {n p : Nat} (hp : p < n) (e : a p = v) (h : bs_cnt a v n = 1) : ∀ j, j < n → ¬ j = p → ¬ a j = v := by
  have e1 := bs_cnt_upd (a := a) (x := x) (v := v) n hp
  rw [if_pos e, if_neg hx] at e1
  have e2 : bs_cnt (upd a p x) v n = 0 := by omega
  intro j hj hne
  have e3 := bs_cnt_0 e2 j hj
  rw [pk_un hne] at e3
  exact e3
/-! ===== a free slot exists ===== -/
def bs_sm (g : Nat → Nat) : Nat → Nat
  | 0 => 0
  | n + 1 => bs_sm g n + g n
theorem bs_sm_add (g k : Nat → Nat) : ∀ n : Nat, bs_sm (fun s => g s + k s) n = bs_sm g n + bs_sm k n := by
  intro n
  induction n with
  | zero => rfl
  | succ n ih =>
    show bs_sm (fun s => g s + k s) n + (g n + k n) = bs_sm g n + g n + (bs_sm k n + k n)
    rw [ih]
    omega
theorem bs_sm_z {g : Nat → Nat} : ∀ n : Nat, (∀ s, s < n → g s = 0) → bs_sm g n = 0 := by
  intro n
  induction n with
  | zero => intro _; rfl
  | succ n ih =>
    intro h
    show bs_sm g n + g n = 0
    rw [ih (fun s hs => h s (by omega)), h n (by omega)]
theorem bs_sm_ge {g : Nat → Nat} : ∀ n : Nat, (∀ s, s < n → 1 ≤ g s) → n ≤ bs_sm g n := by
  intro n
  induction n with
  | zero => intro _; exact Nat.zero_le _
  | succ n ih =>
    intro h
    show n + 1 ≤ bs_sm g n + g n
    have h1 := ih (fun s hs => h s (by omega))
    have h2 := h n (by omega)
    omega
theorem bs_m1 {f : Nat} (hf : f < 2 ^ 31) : ¬ (-1 : Int32) = nI f := by
  intro e
  have h := nI_pos hf
  rw [← e] at h
  exact h (by decide)
theorem bs_sm_one (x : Int32) : ∀ n : Nat, n < 2 ^ 31 → bs_sm (fun s => if x = nI s then 1 else 0) n ≤ 1 := by
  intro n
  induction n with
  | zero => intro _; exact Nat.zero_le _
  | succ n ih =>
    intro hn
    show bs_sm (fun s => if x = nI s then 1 else 0) n + (if x = nI n then 1 else 0) ≤ 1
    by_cases e : x = nI n
    · have z : bs_sm (fun s => if x = nI s then 1 else 0) n = 0 := by
        apply bs_sm_z
        intro s hs
        rw [if_neg]
        intro e2
        rw [e, nI_eq (by omega) (by omega)] at e2
        omega
      rw [z, if_pos e]
      omega
    · rw [if_neg e]
      exact ih (by omega)
theorem bs_pig (a : Nat → Int32) : ∀ n : Nat, bs_sm (fun s => bs_cnt a (nI s) n) 24 + bs_cnt a (-1) n ≤ n := by
  intro n
  induction n with
  | zero =>
    have z : bs_sm (fun s => bs_cnt a (nI s) 0) 24 = 0 := bs_sm_z 24 (fun _ _ => rfl)
    rw [z]
    exact Nat.le_refl 0
  | succ n ih =>
    show bs_sm (fun s => bs_cnt a (nI s) n + (if a n = nI s then 1 else 0)) 24 + (bs_cnt a (-1) n + if a n = -1 then 1 else 0) ≤ n + 1
    rw [bs_sm_add (fun s => bs_cnt a (nI s) n) (fun s => if a n = nI s then 1 else 0)]
    have h1 := bs_sm_one (a n) 24 (by omega)
    by_cases e : a n = -1
    · have z : bs_sm (fun s => if a n = nI s then 1 else 0) 24 = 0 := by
        apply bs_sm_z
        intro s hs
        rw [if_neg]
        rw [e]
        exact bs_m1 (by omega)
      rw [z, if_pos e]
      omega
    · rw [if_neg e]
      omega
theorem bs_slot23 {a : Nat → Int32} {p : Nat} (hp : p < 24) (e : a p = -1) (h : ∀ s, s < 23 → ¬ bs_cnt a (nI s) 24 = 0) : bs_cnt a (nI 23) 24 = 0 := by
  have h1 := bs_pig a 24
  have h2 := bs_cnt_pos e 24 hp
  by_cases z : bs_cnt a (nI 23) 24 = 0
  · exact z
  · have h3 : 24 ≤ bs_sm (fun s => bs_cnt a (nI s) 24) 24 := by
      apply bs_sm_ge
      intro s hs
      by_cases hs2 : s = 23
      · subst hs2; omega
      · have := h s (by omega); omega
    omega
/-! ===== holders ===== -/
/-- places a of 24 pages: none, or one of N; c: how many pages each of M has -/
def bs_K (N M : Nat) (a c : Nat → Int32) : Prop := (∀ p, p < 24 → a p = -1 ∨ ∃ f, f < N ∧ a p = nI f) ∧ ∀ f, f < M → c f = nI (bs_cnt a (nI f) 24)
theorem bs_K_off {N M : Nat} {a c : Nat → Int32} {p f : Nat} (hM : M ≤ 24) (h : bs_K N M a c) (hp : p < 24) (hf : f < M) (e : a p = nI f) : bs_K N M (upd a p (-1)) (upd c f (c f - 1)) := by
  refine ⟨fun q hq => ?_, fun g hg => ?_⟩
  · by_cases z : q = p
    · subst z; exact Or.inl pk_us
    · rw [pk_un z]; exact h.1 q hq
  · have e1 := bs_cnt_upd (a := a) (x := -1) (v := nI g) 24 hp
    rw [if_neg (bs_m1 (by omega)), e] at e1
    by_cases z : g = f
    · subst z
      rw [pk_us, h.2 g hg]
      rw [if_pos rfl] at e1
      rw [show bs_cnt a (nI g) 24 = bs_cnt (upd a p (-1)) (nI g) 24 + 1 from by omega]
      exact nI_pred _
    · rw [pk_un z, h.2 g hg]
      rw [if_neg (fun w => z ((nI_eq (by omega) (by omega)).mp w).symm)] at e1
      exact congrArg nI (by omega)
theorem bs_K_on {N M : Nat} {a c : Nat → Int32} {p f : Nat} (hM : M ≤ 24) (h : bs_K N M a c) (hp : p < 24) (hf : f < M) (hN : f < N) (e : a p = -1) : bs_K N M (upd a p (nI f)) (upd c f (c f + 1)) := by
  refine ⟨fun q hq => ?_, fun g hg => ?_⟩
  · by_cases z : q = p
    · subst z; exact Or.inr ⟨f, hN, pk_us⟩
    · rw [pk_un z]; exact h.1 q hq
  · have e1 := bs_cnt_upd (a := a) (x := nI f) (v := nI g) 24 hp
    rw [e, if_neg (bs_m1 (by omega))] at e1
    by_cases z : g = f
    · subst z
      rw [pk_us, h.2 g hg, nI_1]
      rw [if_pos rfl] at e1
      exact congrArg nI (by omega)
    · rw [pk_un z, h.2 g hg]
      rw [if_neg (fun w => z ((nI_eq (by omega) (by omega)).mp w).symm)] at e1
      exact congrArg nI (by omega)
theorem bs_upd_id {a : Nat → Int32} {p : Nat} {x : Int32} (e : a p = x) : upd a p x = a := by
  funext j
  by_cases z : j = p
  · subst z; rw [pk_us, e]
  · rw [pk_un z]
theorem bs_upd_2 {a : Nat → Int32} {p : Nat} {x y : Int32} : upd (upd a p x) p y = upd a p y := by
  funext j
  by_cases z : j = p
  · subst z; rw [pk_us, pk_us]
  · rw [pk_un z, pk_un z, pk_un z]
end
section
/-! ===== the state ===== -/
theorem bs_i4 (a c : Nat) : nI a * 4 + nI c = nI (a * 4 + c) := by
  show nI a * nI 4 + nI c = _
  rw [pk_mul, nI_add]
theorem bs_i8 (a c : Nat) : nI a * 8 + nI c = nI (a * 8 + c) := by
  show nI a * nI 8 + nI c = _
  rw [pk_mul, nI_add]
theorem bs_i32 (a c : Nat) : nI a * 32 + nI c = nI (a * 32 + c) := by
  show nI a * nI 32 + nI c = _
  rw [pk_mul, nI_add]
theorem bs_i324 (a b c : Nat) : nI a * 32 + nI b * 4 + nI c = nI ((a * 8 + b) * 4 + c) := by
  show nI a * nI 32 + nI b * nI 4 + nI c = _
  rw [pk_mul, pk_mul, nI_add, nI_add]
  exact congrArg nI (by omega)
/-- frames and slots: who holds what -/
def bs_C (F : Nat) (fo so ho sh : Nat → Int32) : Prop := 3 ≤ F ∧ F ≤ 16 ∧ bs_K F 16 fo ho ∧ bs_K 24 24 so sh ∧ ∀ p, p < 24 → fo p = -1 ∨ so p = -1
/-- the pages' words, wherever they are -/
def bs_D (W fo so iF iS : Nat → Int32) : Prop := ∀ p, p < 24 → ∀ w, w < 4 → (∀ f, f < 16 → fo p = nI f → W (p * 4 + w) = iF (f * 4 + w)) ∧ (∀ s, s < 24 → so p = nI s → W (p * 4 + w) = iS (s * 4 + w)) ∧ (fo p = -1 → so p = -1 → W (p * 4 + w) = 0)
section
variable {F h : Nat} {W fo so iF ho la iS sh sr bu ib : Nat → Int32}
theorem bs_wordOf {post : Int32 → Prop} (hC : bs_C F fo so ho sh) (hD : bs_D W fo so iF iS) {p w : Nat} (hp : p < 24) (hw : w < 4) (hJ : post (W (p * 4 + w))) : wpX_wordOf post (nI F, nI h, fo, so, iF, ho, la, iS, sh, sr, bu, ib) (nI p) (nI w) := by
  have e : (nI p).toNatClampNeg = p := nI_clamp (by omega)
  have hi : vp_in (nI p) 24 := vp_in_nI hp (by omega)
  obtain ⟨h3, h16, hK, hS, hX⟩ := hC
  unfold wpX_wordOf
  dsimp only
  rw [e]
  refine ⟨hi, ?_⟩
  rcases hK.1 p hp with h1 | ⟨f, hf, h1⟩
  · rw [h1]
    refine br_t (by decide) ⟨hi, ?_⟩
    rcases hS.1 p hp with h2 | ⟨s, hs, h2⟩
    · rw [h2]
      refine br_t (by decide) ?_
      rw [(hD p hp w hw).2.2 h1 h2] at hJ
      exact hJ
    · rw [h2, bs_i4, nI_clamp (n := s * 4 + w) (by omega)]
      refine br_f (nI_pos (by omega)) ⟨hi, vp_in_nI (by omega) (by omega), ?_⟩
      rw [(hD p hp w hw).2.1 s hs h2] at hJ
      exact hJ
  · rw [h1, bs_i4, nI_clamp (n := f * 4 + w) (by omega)]
    refine br_f (nI_pos (by omega)) ⟨hi, vp_in_nI (by omega) (by omega), ?_⟩
    rw [(hD p hp w hw).1 f (by omega) h1] at hJ
    exact hJ
theorem bs_det24 {post : SX → Prop} {p : Nat} (hS : bs_K 24 24 so sh) (hp : p < 24) (hJ : ∀ sh' : Nat → Int32, bs_K 24 24 (upd so p (-1)) sh' → post (nI F, nI h, upd fo p (-1), upd so p (-1), iF, ho, la, iS, sh', sr, bu, ib)) : wX_detach_24 post (nI p) (nI F) (nI h) fo so iF ho la iS sh sr bu ib := by
  have e : (nI p).toNatClampNeg = p := nI_clamp (by omega)
  have hi : vp_in (nI p) 24 := vp_in_nI hp (by omega)
  have h48 : ∀ sh' : Nat → Int32, bs_K 24 24 (upd so p (-1)) sh' → wX_detach_48 post (nI p) (nI F) (nI h) fo so iF ho la iS sh' sr bu ib := by
    intro sh' k
    unfold wX_detach_48
    rw [e]
    exact ⟨hi, nm_e ⟨hi, nm_e (hJ sh' k)⟩⟩
  unfold wX_detach_24
  rw [e]
  refine ⟨hi, ?_⟩
  rcases hS.1 p hp with h1 | ⟨s, hs, h1⟩
  · rw [h1]
    refine br_t (by decide) (h48 sh ?_)
    rw [bs_upd_id h1]
    exact hS
  · rw [h1, nI_clamp (n := s) (by omega)]
    exact br_f (nI_pos (by omega)) ⟨hi, vp_in_nI hs (by omega), vp_in_nI hs (by omega), nm_e (h48 _ (bs_K_off (by omega) hS hp hs h1))⟩
theorem bs_detach {post : SX → Prop} {p : Nat} (hC : bs_C F fo so ho sh) (hp : p < 24) (hJ : ∀ ho' sh' : Nat → Int32, bs_C F (upd fo p (-1)) (upd so p (-1)) ho' sh' → post (nI F, nI h, upd fo p (-1), upd so p (-1), iF, ho', la, iS, sh', sr, bu, ib)) : wpX_detach post (nI F, nI h, fo, so, iF, ho, la, iS, sh, sr, bu, ib) (nI p) := by
  have e : (nI p).toNatClampNeg = p := nI_clamp (by omega)
  have hi : vp_in (nI p) 24 := vp_in_nI hp (by omega)
  obtain ⟨h3, h16, hK, hS, hX⟩ := hC
  have hk : ∀ ho' : Nat → Int32, bs_K F 16 (upd fo p (-1)) ho' → wX_detach_24 post (nI p) (nI F) (nI h) fo so iF ho' la iS sh sr bu ib := by
    intro ho' k
    refine bs_det24 hS hp (fun sh' k' => hJ ho' sh' ⟨h3, h16, k, k', fun q hq => ?_⟩)
    by_cases z : q = p
    · subst z; exact Or.inl pk_us
    · rw [pk_un z, pk_un z]; exact hX q hq
  unfold wpX_detach
  dsimp only
  rw [e]
  refine ⟨hi, ?_⟩
  rcases hK.1 p hp with h1 | ⟨f, hf, h1⟩
  · rw [h1]
    refine br_t (by decide) (hk ho ?_)
    rw [bs_upd_id h1]
    exact hK
  · rw [h1, nI_clamp (n := f) (by omega)]
    exact br_f (nI_pos (by omega)) ⟨hi, vp_in_nI (by omega) (by omega), vp_in_nI (by omega) (by omega), nm_e (hk _ (bs_K_off (by omega) hK hp (by omega) h1))⟩
theorem bs_att59 {post : SX → Prop} {p : Nat} {x : Int32} (hS : bs_K 24 24 (upd so p (-1)) sh) (hp : p < 24) (hx : x = -1 ∨ ∃ s, s < 24 ∧ x = nI s) (hJ : ∀ sh' : Nat → Int32, bs_K 24 24 (upd so p x) sh' → post (nI F, nI h, fo, upd so p x, iF, ho, la, iS, sh', sr, bu, ib)) : wX_attachLike_59 post (nI p) (nI F) (nI h) fo (upd so p x) iF ho la iS sh sr bu ib := by
  have e : (nI p).toNatClampNeg = p := nI_clamp (by omega)
  have hi : vp_in (nI p) 24 := vp_in_nI hp (by omega)
  unfold wX_attachLike_59
  rw [e, pk_us]
  refine ⟨hi, ?_⟩
  rcases hx with rfl | ⟨s, hs, rfl⟩
  · exact br_t (by decide) (hJ sh hS)
  · rw [nI_clamp (n := s) (by omega)]
    refine br_f (nI_pos (by omega)) ⟨hi, vp_in_nI hs (by omega), vp_in_nI hs (by omega), nm_e (hJ _ ?_)⟩
    have k := bs_K_on (f := s) (Nat.le_refl 24) hS hp hs hs pk_us
    rw [bs_upd_2] at k
    exact k
theorem bs_attach {post : SX → Prop} {p q : Nat} {W' : Nat → Int32} (hC : bs_C F fo so ho sh) (hD : bs_D W fo so iF iS) (hp : p < 24) (hq : q < 24) (hW : ∀ j, j < 24 → ∀ w, w < 4 → W' (j * 4 + w) = if j = p then W (q * 4 + w) else W (j * 4 + w)) (hJ : ∀ fo' so' ho' sh' : Nat → Int32, bs_C F fo' so' ho' sh' → bs_D W' fo' so' iF iS → post (nI F, nI h, fo', so', iF, ho', la, iS, sh', sr, bu, ib)) : wpX_attachLike post (nI F, nI h, fo, so, iF, ho, la, iS, sh, sr, bu, ib) (nI p) (nI q) := by
  have ep : (nI p).toNatClampNeg = p := nI_clamp (by omega)
  have eq : (nI q).toNatClampNeg = q := nI_clamp (by omega)
  have ip : vp_in (nI p) 24 := vp_in_nI hp (by omega)
  have iq : vp_in (nI q) 24 := vp_in_nI hq (by omega)
  unfold wpX_attachLike
  dsimp only
  by_cases z : p = q
  · subst z
    refine br_t rfl (hJ fo so ho sh hC ?_)
    intro j hj w hw
    have e1 : W' (j * 4 + w) = W (j * 4 + w) := by
      rw [hW j hj w hw]
      by_cases y : j = p
      · subst y; rw [if_pos rfl]
      · rw [if_neg y]
    rw [e1]
    exact hD j hj w hw
  · refine br_f (fun y => z ((nI_eq (by omega) (by omega)).mp y)) ?_
    refine bs_detach hC hp (fun ho1 sh1 hC1 => ?_)
    obtain ⟨h3, h16, hK, hS, hX⟩ := hC
    obtain ⟨_, _, hK1, hS1, _⟩ := hC1
    dsimp only
    rw [ep, eq]
    have e1 : upd (upd fo p (-1)) p (upd fo p (-1) q) = upd fo p (fo q) := by rw [pk_un (Ne.symm z), bs_upd_2]
    have e2 : upd (upd so p (-1)) p (upd so p (-1) q) = upd so p (so q) := by rw [pk_un (Ne.symm z), bs_upd_2]
    have key : ∀ ho' : Nat → Int32, bs_K F 16 (upd fo p (fo q)) ho' → wX_attachLike_59 post (nI p) (nI F) (nI h) (upd fo p (fo q)) (upd so p (so q)) iF ho' la iS sh1 sr bu ib := by
      intro ho' k
      refine bs_att59 hS1 hp (hS.1 q hq) (fun sh' k' => hJ _ _ _ _ ⟨h3, h16, k, k', fun j hj => ?_⟩ (fun j hj w hw => ?_))
      · by_cases y : j = p
        · subst y; rw [pk_us, pk_us]; exact hX q hq
        · rw [pk_un y, pk_un y]; exact hX j hj
      · rw [hW j hj w hw]
        by_cases y : j = p
        · subst y; rw [pk_us, pk_us, if_pos rfl]; exact hD q hq w hw
        · rw [pk_un y, pk_un y, if_neg y]; exact hD j hj w hw
    refine ⟨iq, ip, nm_r e1 ⟨iq, ip, nm_r e2 ⟨ip, ?_⟩⟩⟩
    rw [pk_us]
    rcases hK.1 q hq with h1 | ⟨f, hf, h1⟩
    · rw [h1]
      rw [h1] at key
      exact br_t (by decide) (key ho1 hK1)
    · rw [h1, nI_clamp (n := f) (by omega)]
      rw [h1] at key
      have k := bs_K_on (f := f) (by omega) hK1 hp (by omega) hf pk_us
      rw [bs_upd_2] at k
      exact br_f (nI_pos (by omega)) ⟨ip, vp_in_nI (by omega) (by omega), vp_in_nI (by omega) (by omega), nm_e (key _ k)⟩
end
end
section
/-! ===== who pays; the victim: some frame ===== -/
theorem bs_fuel {d n : Nat} (h : d < n) : ∃ m, n = m + 1 := ⟨n - 1, by omega⟩
section
variable {F h : Nat} {W fo so iF ho la iS sh sr bu ib : Nat → Int32}
theorem bs_payer2 {post : Int32 → Prop} {fr hd x1 : Int32} (hJ : ∀ g, g < 3 → post (nI g)) : ∀ d i n : Nat, i + d = 24 → d < n → wX_payer_2 post x1 fr hd fo so iF ho la iS sh sr bu ib n (nI i) := by
  intro d
  induction d with
  | zero =>
    intro i n hi hn
    obtain ⟨m, rfl⟩ := bs_fuel hn
    exact br_t (nI_le (a := 24) (by omega) (by omega)) (hJ 0 (by omega))
  | succ d ih =>
    intro i n hi hn
    obtain ⟨m, rfl⟩ := bs_fuel hn
    have e : nI i / 8 = nI (i / 8) := pk_div (a := i) (d := 8) (by omega) (by omega) (by omega)
    refine br_f (nI_ge (b := 24) (by omega) (by omega)) ⟨vp_in_nI (by omega) (by omega), br_c (fun _ => ⟨by decide, ?_⟩) (fun _ => nm_r (nI_1 i) (ih (i + 1) m (by omega) (by omega)))⟩
    rw [e]
    exact hJ _ (by omega)
theorem bs_payer {post : Int32 → Prop} {fr hd x1 : Int32} (hJ : ∀ g, g < 3 → post (nI g)) : wpX_payer post (fr, hd, fo, so, iF, ho, la, iS, sh, sr, bu, ib) x1 := ⟨25, bs_payer2 hJ 24 0 25 rfl (by omega)⟩
theorem bs_charge29 {post : SX → Prop} (h16 : F ≤ 16) (hJ : ∀ bu ib : Nat → Int32, post (nI F, nI h, fo, so, iF, ho, la, iS, sh, sr, bu, ib)) : ∀ (d i n : Nat) (bu ib : Nat → Int32), i + d = F → d < n → wX_charge_29 post (nI F) (nI h) n (nI i) fo so iF ho la iS sh sr bu ib := by
  intro d
  induction d with
  | zero =>
    intro i n bu ib hi hn
    obtain ⟨m, rfl⟩ := bs_fuel hn
    exact br_t (nI_le (a := F) (by omega) (by omega)) (hJ bu ib)
  | succ d ih =>
    intro i n bu ib hi hn
    obtain ⟨m, rfl⟩ := bs_fuel hn
    refine br_f (nI_ge (b := F) (by omega) (by omega)) (bs_payer (fun g hg => ?_))
    have ig : vp_in (nI g) 3 := vp_in_nI hg (by omega)
    exact ⟨vp_in_nI (by omega) (by omega), br_c (fun _ => ⟨ig, ig, nm_e (nm_r (nI_1 i) (ih (i + 1) m _ _ (by omega) (by omega)))⟩) (fun _ => ⟨ig, ig, nm_e (nm_r (nI_1 i) (ih (i + 1) m _ _ (by omega) (by omega)))⟩)⟩
theorem bs_charge2 {post : SX → Prop} (h16 : F ≤ 16) (hJ : ∀ bu ib : Nat → Int32, post (nI F, nI h, fo, so, iF, ho, la, iS, sh, sr, bu, ib)) : ∀ (d i n : Nat) (bu ib : Nat → Int32), i + d = 3 → d < n → wX_charge_2 post (nI F) (nI h) n (nI i) fo so iF ho la iS sh sr bu ib := by
  intro d
  induction d with
  | zero =>
    intro i n bu ib hi hn
    obtain ⟨m, rfl⟩ := bs_fuel hn
    exact br_t (nI_le (a := 3) (by omega) (by omega)) ⟨F + 1, bs_charge29 h16 hJ F 0 (F + 1) bu ib (by omega) (by omega)⟩
  | succ d ih =>
    intro i n bu ib hi hn
    obtain ⟨m, rfl⟩ := bs_fuel hn
    have ig : vp_in (nI i) 3 := vp_in_nI (by omega) (by omega)
    exact br_f (nI_ge (b := 3) (by omega) (by omega)) ⟨ig, nm_e ⟨ig, nm_e (nm_r (nI_1 i) (ih (i + 1) m _ _ (by omega) (by omega)))⟩⟩
theorem bs_charge {post : SX → Prop} (h16 : F ≤ 16) (hJ : ∀ bu ib : Nat → Int32, post (nI F, nI h, fo, so, iF, ho, la, iS, sh, sr, bu, ib)) : wpX_charge post (nI F, nI h, fo, so, iF, ho, la, iS, sh, sr, bu, ib) := ⟨4, bs_charge2 h16 hJ 3 0 4 bu ib rfl (by omega)⟩
theorem bs_poor61 {post : Int32 → Prop} {J4 : Int32 → Int32 → Prop} {x1 x2 x4 x5 : Int32} {g : Nat} (hg : g < 3) (hx : x2 = -1 ∨ ∃ b, b < 3 ∧ x2 = nI b) (hJ : ∀ x : Int32, (x = -1 ∨ ∃ b, b < 3 ∧ x = nI b) → J4 x (nI (g + 1))) : wX_poorest_61 post J4 x1 x2 (nI g) x4 x5 (nI F) (nI h) fo so iF ho la iS sh sr bu ib := by
  unfold wX_poorest_61
  refine br_c (fun _ => nm_r (nI_1 g) (hJ x2 hx)) (fun _ => ?_)
  have ig : vp_in (nI g) 3 := vp_in_nI hg (by omega)
  rcases hx with rfl | ⟨b, hb, rfl⟩
  · exact br_f (by decide) (nm_r (nI_1 g) (hJ _ (Or.inr ⟨g, hg, rfl⟩)))
  · have jb : vp_in (nI b) 3 := vp_in_nI hb (by omega)
    exact br_t (nI_pos' (by omega)) ⟨ig, jb, jb, jb, br_c (fun _ => nm_r (nI_1 g) (hJ _ (Or.inr ⟨b, hb, rfl⟩))) (fun _ => nm_r (nI_1 g) (hJ _ (Or.inr ⟨g, hg, rfl⟩)))⟩
theorem bs_poor4 {post : Int32 → Prop} {x1 : Int32} (hJ : ∀ g, g < 3 → post (nI g)) : ∀ (d g n : Nat) (x2 : Int32), g + d = 3 → d < n → (x2 = -1 ∨ ∃ b, b < 3 ∧ x2 = nI b) → wX_poorest_4 post x1 (nI F) (nI h) fo so iF ho la iS sh sr bu ib n x2 (nI g) := by
  intro d
  induction d with
  | zero =>
    intro g n x2 hg hn hx
    obtain ⟨m, rfl⟩ := bs_fuel hn
    refine br_t (nI_le (a := 3) (by omega) (by omega)) ?_
    rcases hx with rfl | ⟨b, hb, rfl⟩
    · exact br_f (by decide) (hJ 0 (by omega))
    · exact br_t (nI_pos' (by omega)) (hJ b hb)
  | succ d ih =>
    intro g n x2 hg hn hx
    obtain ⟨m, rfl⟩ := bs_fuel hn
    have ig : vp_in (nI g) 3 := vp_in_nI (by omega) (by omega)
    have k : ∀ x : Int32, (x = -1 ∨ ∃ b, b < 3 ∧ x = nI b) → wX_poorest_4 post x1 (nI F) (nI h) fo so iF ho la iS sh sr bu ib m x (nI (g + 1)) := fun x hx' => ih (g + 1) m x (by omega) (by omega) hx'
    exact br_f (nI_ge (b := 3) (by omega) (by omega)) ⟨ig, ig, nm_e ⟨ig, ig, nm_e (br_c (fun _ => bs_poor61 (by omega) hx k) (fun _ => bs_payer (fun g' _ => br_c (fun _ => nm_e (bs_poor61 (by omega) hx k)) (fun _ => bs_poor61 (by omega) hx k))))⟩⟩
theorem bs_poorest {post : Int32 → Prop} {x1 : Int32} (hJ : ∀ g, g < 3 → post (nI g)) : wpX_poorest post (nI F, nI h, fo, so, iF, ho, la, iS, sh, sr, bu, ib) x1 := ⟨4, bs_poor4 hJ 3 0 4 (-1) rfl (by omega) (Or.inl rfl)⟩
theorem bs_vic48 {post : Int32 → SX → Prop} {J13 : Int32 → Int32 → Int32 → (Nat → Int32) → (Nat → Int32) → (Nat → Int32) → (Nat → Int32) → (Nat → Int32) → (Nat → Int32) → (Nat → Int32) → (Nat → Int32) → (Nat → Int32) → (Nat → Int32) → Prop} {x1 x2 hd : Int32} {l i z : Nat} (h16 : F ≤ 16) (hz : z < F) (hl : l < F) (hP : post (nI z) (nI F, nI z, fo, so, iF, ho, la, iS, sh, sr, bu, ib)) (hJ : ∀ (l' : Nat) (la : Nat → Int32), l' < F → J13 (nI l') (nI (i + 1)) (nI z) fo so iF ho la iS sh sr bu ib) : wX_victim_48 post J13 x1 x2 (nI l) (nI i) (nI z) (nI F) hd fo so iF ho la iS sh sr bu ib := by
  unfold wX_victim_48
  have iz : vp_in (nI z) 16 := vp_in_nI (by omega) (by omega)
  exact bs_payer (fun g hg => br_c (fun _ => nm_r (nI_1 i) (hJ l la hl)) (fun _ => br_c (fun _ => ⟨iz, br_c (fun _ => hP) (fun _ => ⟨iz, nm_e (nm_r (nI_1 i) (hJ z _ hz))⟩)⟩) (fun _ => nm_r (nI_1 i) (hJ l la hl))))
theorem bs_vic13 {post : Int32 → SX → Prop} {x1 x2 : Int32} (h3 : 3 ≤ F) (h16 : F ≤ 16) (hP : ∀ (f h : Nat) (la : Nat → Int32), f < F → h < F → post (nI f) (nI F, nI h, fo, so, iF, ho, la, iS, sh, sr, bu, ib)) : ∀ (d i n l h : Nat) (la : Nat → Int32), i + d = 2 * F → d < n → l < F → h < F → wX_victim_13 post x1 x2 (nI F) n (nI l) (nI i) (nI h) fo so iF ho la iS sh sr bu ib := by
  have e : (2 : Int32) * nI F = nI (2 * F) := pk_mul 2 F
  intro d
  induction d with
  | zero =>
    intro i n l h la hi hn hl hh
    obtain ⟨m, rfl⟩ := bs_fuel hn
    have c : (2 : Int32) * nI F ≤ nI i := by rw [e]; exact nI_le (by omega) (by omega)
    exact br_t c (hP l h la hl hh)
  | succ d ih =>
    intro i n l h la hi hn hl hh
    obtain ⟨m, rfl⟩ := bs_fuel hn
    have c : ¬ (2 : Int32) * nI F ≤ nI i := by rw [e]; exact nI_ge (by omega) (by omega)
    refine br_f c ?_
    by_cases z : h + 1 < F
    · have c2 : nI h + 1 < nI F := by rw [nI_1]; exact nI_lt z (by omega)
      refine br_t c2 ?_
      rw [nI_1 h]
      exact bs_vic48 h16 z hl (hP _ _ _ z z) (fun l' la' hl' => ih (i + 1) m l' (h + 1) la' (by omega) (by omega) hl' z)
    · have c2 : ¬ nI h + 1 < nI F := by rw [nI_1]; exact nI_nlt (by omega) (by omega)
      refine br_f c2 ?_
      exact bs_vic48 (z := 0) h16 (by omega) hl (hP 0 0 _ (by omega) (by omega)) (fun l' la' hl' => ih (i + 1) m l' 0 la' (by omega) (by omega) hl' (by omega))
theorem bs_victim {post : Int32 → SX → Prop} {x1 x2 : Int32} (h3 : 3 ≤ F) (h16 : F ≤ 16) (hh : h < F) (hP : ∀ (f h : Nat) (la : Nat → Int32), f < F → h < F → post (nI f) (nI F, nI h, fo, so, iF, ho, la, iS, sh, sr, bu, ib)) : wpX_victim post (nI F, nI h, fo, so, iF, ho, la, iS, sh, sr, bu, ib) x1 x2 := by
  unfold wpX_victim
  dsimp only
  exact br_c (fun _ => ⟨2 * F + 1, bs_vic13 h3 h16 hP (2 * F) 0 (2 * F + 1) 1 h la (by omega) (by omega) (by omega) hh⟩) (fun _ => ⟨2 * F + 1, bs_vic13 h3 h16 hP (2 * F) 0 (2 * F + 1) 0 h la (by omega) (by omega) (by omega) hh⟩)
end
end
section
/-! ===== a frame is emptied: every page keeps its words ===== -/
theorem bs_D_move {W fo so iF iS : Nat → Int32} {i f : Nat} {x : Int32} (hD : bs_D W fo so iF iS) (hi : i < 24) (hf : f < 16) (e : fo i = nI f) (hz : x = -1 → ∀ w, w < 4 → iF (f * 4 + w) = 0) (ht : ∀ t, t < 24 → x = nI t → ∀ w, w < 4 → iS (t * 4 + w) = iF (f * 4 + w)) : bs_D W (upd fo i (-1)) (upd so i x) iF iS := by
  intro p hp w hw
  by_cases y : p = i
  · subst y
    have hWi := (hD p hp w hw).1 f hf e
    rw [pk_us, pk_us, hWi]
    exact ⟨fun g hg c => absurd c (bs_m1 (by omega)), fun s hs c => (ht s hs c w hw).symm, fun _ c => hz c w hw⟩
  · rw [pk_un y, pk_un y]
    exact hD p hp w hw
theorem bs_D_iS {W fo so iF iS : Nat → Int32} {t w : Nat} {x : Int32} (hD : bs_D W fo so iF iS) (ht : t < 24) (hw : w < 4) (hn : ∀ p, p < 24 → ¬ so p = nI t) : bs_D W fo so iF (upd iS (t * 4 + w) x) := by
  intro p hp v hv
  refine ⟨(hD p hp v hv).1, fun s hs e => ?_, (hD p hp v hv).2.2⟩
  have z : ¬ s = t := fun y => hn p hp (y ▸ e)
  rw [pk_un (by omega)]
  exact (hD p hp v hv).2.1 s hs e
theorem bs_D_iF {W fo so iF iS : Nat → Int32} {f w : Nat} {x : Int32} (hD : bs_D W fo so iF iS) (hf : f < 16) (hw : w < 4) (hn : ∀ p, p < 24 → ¬ fo p = nI f) : bs_D W fo so (upd iF (f * 4 + w) x) iS := by
  intro p hp v hv
  refine ⟨fun g hg e => ?_, (hD p hp v hv).2⟩
  have z : ¬ g = f := fun y => hn p hp (y ▸ e)
  rw [pk_un (by omega)]
  exact (hD p hp v hv).1 g hg e
section
variable {F h : Nat} {W fo so iF ho la iS sh sr bu ib : Nat → Int32}
theorem bs_sw107 {post : SX → Prop} {f : Nat} {x : Int32} (hf : f < F) (hx : x = -1 ∨ ∃ t, t < 24 ∧ x = nI t) (hz : x = -1 → ∀ w, w < 4 → iF (f * 4 + w) = 0) (ht : ∀ t, t < 24 → x = nI t → ∀ w, w < 4 → iS (t * 4 + w) = iF (f * 4 + w)) (hJ : ∀ fo so ho la sh : Nat → Int32, bs_C F fo so ho sh → bs_D W fo so iF iS → (∀ j, j < 24 → ¬ fo j = nI f) → post (nI F, nI h, fo, so, iF, ho, la, iS, sh, sr, bu, ib)) : ∀ (d i n : Nat) (fo so ho sh : Nat → Int32), i + d = 24 → d < n → bs_C F fo so ho sh → bs_D W fo so iF iS → (∀ j, j < i → ¬ fo j = nI f) → wX_swapOut_107 post (nI f) x n (nI i) (nI F) (nI h) fo so iF ho la iS sh sr bu ib := by
  intro d
  induction d with
  | zero =>
    intro i n fo so ho sh hi hn hC hD hN
    obtain ⟨m, rfl⟩ := bs_fuel hn
    have h16 := hC.2.1
    exact br_t (nI_le (a := 24) (by omega) (by omega)) ⟨vp_in_nI (by omega) (by omega), nm_e (hJ _ _ _ _ _ hC hD (fun j hj => hN j (by omega)))⟩
  | succ d ih =>
    intro i n fo so ho sh hi hn hC hD hN
    obtain ⟨m, rfl⟩ := bs_fuel hn
    have h16 := hC.2.1
    have e : (nI i).toNatClampNeg = i := nI_clamp (by omega)
    have ii : vp_in (nI i) 24 := vp_in_nI (by omega) (by omega)
    refine br_f (nI_ge (b := 24) (by omega) (by omega)) ⟨ii, ?_⟩
    rw [e]
    by_cases z : fo i = nI f
    · refine br_t z (bs_detach hC (by omega) (fun ho1 sh1 hC1 => ?_))
      dsimp only
      have hD1 := bs_D_move hD (i := i) (by omega) (by omega) z hz ht
      have hN1 : ∀ j, j < i + 1 → ¬ upd fo i (-1) j = nI f := by
        intro j hj
        by_cases y : j = i
        · subst y; rw [pk_us]; exact bs_m1 (by omega)
        · rw [pk_un y]; exact hN j (by omega)
      refine ⟨ii, nm_r bs_upd_2 ?_⟩
      rcases hx with rfl | ⟨t, ht2, rfl⟩
      · exact br_t (by decide) (nm_r (nI_1 i) (ih (i + 1) m _ _ _ _ (by omega) (by omega) hC1 hD1 hN1))
      · have it : vp_in (nI t) 24 := vp_in_nI ht2 (by omega)
        obtain ⟨a1, a2, a3, a4, a5⟩ := hC1
        have k := bs_K_on (f := t) (Nat.le_refl 24) a4 (p := i) (by omega) ht2 ht2 pk_us
        rw [bs_upd_2] at k
        rw [nI_clamp (n := t) (by omega)]
        refine br_f (nI_pos (by omega)) ⟨it, it, nm_e (nm_r (nI_1 i) (ih (i + 1) m _ _ _ _ (by omega) (by omega) ⟨a1, a2, a3, k, fun j hj => ?_⟩ hD1 hN1))⟩
        by_cases y : j = i
        · subst y; exact Or.inl pk_us
        · rw [pk_un y, pk_un y]; exact hC.2.2.2.2 j hj
    · refine br_f z (nm_r (nI_1 i) (ih (i + 1) m _ _ _ _ (by omega) (by omega) hC hD (fun j hj => ?_)))
      by_cases y : j = i
      · subst y; exact z
      · exact hN j (by omega)
theorem bs_sw70 {post : SX → Prop} {f t : Nat} (hf : f < F) (ht : t < 24) (hC : bs_C F fo so ho sh) (hn : ∀ p, p < 24 → ¬ so p = nI t) (hJ : ∀ fo so ho la iS sh : Nat → Int32, bs_C F fo so ho sh → bs_D W fo so iF iS → (∀ j, j < 24 → ¬ fo j = nI f) → post (nI F, nI h, fo, so, iF, ho, la, iS, sh, sr, bu, ib)) : ∀ (d w n : Nat) (iS : Nat → Int32), w + d = 4 → d < n → bs_D W fo so iF iS → (∀ v, v < w → iS (t * 4 + v) = iF (f * 4 + v)) → wX_swapOut_70 post (nI f) (nI t) (nI F) (nI h) n (nI w) fo so iF ho la iS sh sr bu ib := by
  have h16 := hC.2.1
  intro d
  induction d with
  | zero =>
    intro w n iS hw hd hD hE
    obtain ⟨m, rfl⟩ := bs_fuel hd
    refine br_t (nI_le (a := 4) (by omega) (by omega)) ⟨25, bs_sw107 hf (Or.inr ⟨t, ht, rfl⟩) (fun c => absurd c.symm (bs_m1 (by omega))) (fun t' ht' e v hv => ?_) (fun fo so ho la sh a b c => hJ fo so ho la iS sh a b c) 24 0 25 _ _ _ _ rfl (by omega) hC hD (fun j hj => absurd hj (by omega))⟩
    have e2 : t = t' := (nI_eq (by omega) (by omega)).mp e
    subst e2
    exact hE v (by omega)
  | succ d ih =>
    intro w n iS hw hd hD hE
    obtain ⟨m, rfl⟩ := bs_fuel hd
    refine br_f (nI_ge (b := 4) (by omega) (by omega)) ?_
    rw [bs_i4, bs_i4, nI_clamp (n := f * 4 + w) (by omega), nI_clamp (n := t * 4 + w) (by omega)]
    refine ⟨vp_in_nI (by omega) (by omega), vp_in_nI (by omega) (by omega), nm_e (nm_r (nI_1 w) (ih (w + 1) m _ (by omega) (by omega) (bs_D_iS hD ht (by omega) hn) (fun v hv => ?_)))⟩
    by_cases y : v = w
    · subst y; rw [pk_us]
    · rw [pk_un (by omega)]; exact hE v (by omega)
theorem bs_sw46 {post : SX → Prop} {f p0 : Nat} (hf : f < F) (hC : bs_C F fo so ho sh) (hD : bs_D W fo so iF iS) (hp : p0 < 24) (e0 : so p0 = -1) (hJ : ∀ fo so ho la iS sh : Nat → Int32, bs_C F fo so ho sh → bs_D W fo so iF iS → (∀ j, j < 24 → ¬ fo j = nI f) → post (nI F, nI h, fo, so, iF, ho, la, iS, sh, sr, bu, ib)) : ∀ d s n : Nat, s + d = 23 → d < n → (∀ j, j < s → ¬ bs_cnt so (nI j) 24 = 0) → wX_swapOut_46 post (nI f) (nI F) (nI h) fo so iF ho la iS sh sr bu ib n (nI s) := by
  have go : ∀ t, t < 24 → bs_cnt so (nI t) 24 = 0 → ∃ n70 : Nat, wX_swapOut_70 post (nI f) (nI t) (nI F) (nI h) n70 0 fo so iF ho la iS sh sr bu ib := fun t ht e => ⟨5, bs_sw70 hf ht hC (bs_cnt_0 e) hJ 4 0 5 iS rfl (by omega) hD (fun v hv => absurd hv (by omega))⟩
  intro d
  induction d with
  | zero =>
    intro s n hs hn hN
    obtain ⟨m, rfl⟩ := bs_fuel hn
    obtain rfl : s = 23 := by omega
    exact br_t (nI_le (a := 23) (by omega) (by omega)) (go 23 (by omega) (bs_slot23 hp e0 hN))
  | succ d ih =>
    intro s n hs hn hN
    obtain ⟨m, rfl⟩ := bs_fuel hn
    have e : (nI s).toNatClampNeg = s := nI_clamp (by omega)
    refine br_f (nI_ge (b := 23) (by omega) (by omega)) ⟨vp_in_nI (by omega) (by omega), ?_⟩
    rw [e, hC.2.2.2.1.2 s (by omega)]
    have hle := bs_cnt_le (a := so) (v := nI s) 24
    by_cases z : bs_cnt so (nI s) 24 = 0
    · refine br_t ?_ (go s (by omega) z)
      rw [z]
      exact nI_le (a := 0) (b := 0) (by omega) (by omega)
    · refine br_f (nI_nle (by omega) (by omega)) (nm_r (nI_1 s) (ih (s + 1) m (by omega) (by omega) (fun j hj => ?_)))
      by_cases y : j = s
      · subst y; exact z
      · exact hN j (by omega)
theorem bs_sw4 {post : SX → Prop} {f p0 : Nat} (hf : f < F) (hC : bs_C F fo so ho sh) (hD : bs_D W fo so iF iS) (hp : p0 < 24) (e0 : so p0 = -1) (hJ : ∀ fo so ho la iS sh : Nat → Int32, bs_C F fo so ho sh → bs_D W fo so iF iS → (∀ j, j < 24 → ¬ fo j = nI f) → post (nI F, nI h, fo, so, iF, ho, la, iS, sh, sr, bu, ib)) : ∀ (d w n : Nat) (x2 : Int32), w + d = 4 → d < n → (x2 = 0 ∨ (x2 = 1 ∧ ∀ v, v < w → iF (f * 4 + v) = 0)) → wX_swapOut_4 post (nI f) (nI F) (nI h) fo so iF ho la iS sh sr bu ib n x2 (nI w) := by
  have h16 := hC.2.1
  intro d
  induction d with
  | zero =>
    intro w n x2 hw hn hx
    obtain ⟨m, rfl⟩ := bs_fuel hn
    refine br_t (nI_le (a := 4) (by omega) (by omega)) ?_
    rcases hx with rfl | ⟨rfl, hz⟩
    · exact br_t rfl ⟨24, bs_sw46 hf hC hD hp e0 hJ 23 0 24 rfl (by omega) (fun j hj => absurd hj (by omega))⟩
    · refine br_f (by decide) ⟨25, bs_sw107 hf (Or.inl rfl) (fun _ v hv => hz v (by omega)) (fun t ht e => absurd e (bs_m1 (by omega))) (fun fo so ho la sh a b c => hJ fo so ho la iS sh a b c) 24 0 25 _ _ _ _ rfl (by omega) hC hD (fun j hj => absurd hj (by omega))⟩
  | succ d ih =>
    intro w n x2 hw hn hx
    obtain ⟨m, rfl⟩ := bs_fuel hn
    refine br_f (nI_ge (b := 4) (by omega) (by omega)) ?_
    rcases hx with rfl | ⟨rfl, hz⟩
    · exact br_t rfl (nm_r (nI_1 w) (ih (w + 1) m 0 (by omega) (by omega) (Or.inl rfl)))
    · rw [bs_i4, nI_clamp (n := f * 4 + w) (by omega)]
      refine br_f (by decide) ⟨vp_in_nI (by omega) (by omega), br_c (fun y => nm_r (nI_1 w) (ih (w + 1) m 1 (by omega) (by omega) (Or.inr ⟨rfl, fun v hv => ?_⟩))) (fun _ => nm_r (nI_1 w) (ih (w + 1) m 0 (by omega) (by omega) (Or.inl rfl)))⟩
      by_cases u : v = w
      · subst u; exact y
      · exact hz v (by omega)
theorem bs_swapOut {post : SX → Prop} {f p0 : Nat} (hf : f < F) (hC : bs_C F fo so ho sh) (hD : bs_D W fo so iF iS) (hp : p0 < 24) (e0 : fo p0 = nI f) (hJ : ∀ fo so ho la iS sh : Nat → Int32, bs_C F fo so ho sh → bs_D W fo so iF iS → (∀ j, j < 24 → ¬ fo j = nI f) → post (nI F, nI h, fo, so, iF, ho, la, iS, sh, sr, bu, ib)) : wpX_swapOut post (nI F, nI h, fo, so, iF, ho, la, iS, sh, sr, bu, ib) (nI f) := by
  have h16 := hC.2.1
  have e1 : so p0 = -1 := by
    rcases hC.2.2.2.2 p0 hp with c | c
    · exact absurd (c.symm.trans e0) (bs_m1 (by omega))
    · exact c
  exact ⟨5, bs_sw4 hf hC hD hp e1 hJ 4 0 5 1 rfl (by omega) (Or.inr ⟨rfl, fun v hv => absurd hv (by omega)⟩)⟩
/-! ===== a free frame ===== -/
theorem bs_free2 {post : Int32 → SX → Prop} {x1 : Int32} (hh : h < F) (hC : bs_C F fo so ho sh) (hD : bs_D W fo so iF iS) (hJ : ∀ (f h : Nat) (fo so ho la iS sh bu ib : Nat → Int32), f < F → h < F → bs_C F fo so ho sh → bs_D W fo so iF iS → (∀ j, j < 24 → ¬ fo j = nI f) → post (nI f) (nI F, nI h, fo, so, iF, ho, la, iS, sh, sr, bu, ib)) : ∀ d i n : Nat, i + d = F → d < n → (∀ j, j < i → ¬ bs_cnt fo (nI j) 24 = 0) → wX_freeFrame_2 post x1 (nI F) (nI h) fo so iF ho la iS sh sr bu ib n (nI i) := by
  have h3 := hC.1
  have h16 := hC.2.1
  intro d
  induction d with
  | zero =>
    intro i n hi hn hN
    obtain ⟨m, rfl⟩ := bs_fuel hn
    refine br_t (nI_le (a := F) (by omega) (by omega)) ?_
    refine bs_charge h16 (fun bu ib => ?_)
    dsimp only
    refine bs_poorest (fun g _ => ?_)
    refine bs_victim h3 h16 hh (fun f h' la' hf hh' => ?_)
    dsimp only
    obtain ⟨p0, hp0, e0⟩ := bs_cnt_ex 24 (hN f (by omega))
    refine bs_swapOut hf hC hD hp0 e0 (fun fo so ho la iS sh a b c => ?_)
    exact hJ f h' fo so ho la iS sh bu ib hf hh' a b c
  | succ d ih =>
    intro i n hi hn hN
    obtain ⟨m, rfl⟩ := bs_fuel hn
    have e : (nI i).toNatClampNeg = i := nI_clamp (by omega)
    refine br_f (nI_ge (b := F) (by omega) (by omega)) ⟨vp_in_nI (by omega) (by omega), ?_⟩
    rw [e, hC.2.2.1.2 i (by omega)]
    have hle := bs_cnt_le (a := fo) (v := nI i) 24
    by_cases z : bs_cnt fo (nI i) 24 = 0
    · refine br_t ?_ (hJ i h fo so ho la iS sh bu ib (by omega) hh hC hD (bs_cnt_0 z))
      rw [z]
      exact nI_0
    · refine br_f (nI_ne0 (by omega) (by omega)) (nm_r (nI_1 i) (ih (i + 1) m (by omega) (by omega) (fun j hj => ?_)))
      by_cases y : j = i
      · subst y; exact z
      · exact hN j (by omega)
theorem bs_freeFrame {post : Int32 → SX → Prop} {x1 : Int32} (hh : h < F) (hC : bs_C F fo so ho sh) (hD : bs_D W fo so iF iS) (hJ : ∀ (f h : Nat) (fo so ho la iS sh bu ib : Nat → Int32), f < F → h < F → bs_C F fo so ho sh → bs_D W fo so iF iS → (∀ j, j < 24 → ¬ fo j = nI f) → post (nI f) (nI F, nI h, fo, so, iF, ho, la, iS, sh, sr, bu, ib)) : wpX_freeFrame post (nI F, nI h, fo, so, iF, ho, la, iS, sh, sr, bu, ib) x1 := ⟨F + 1, bs_free2 hh hC hD hJ F 0 (F + 1) (by omega) (by omega) (fun j hj => absurd hj (by omega))⟩
/-! ===== a frame of its own ===== -/
/-- page p is alone in frame f -/
def bs_O (F : Nat) (W : Nat → Int32) (p f : Nat) (fo so iF ho iS sh : Nat → Int32) : Prop := bs_C F fo so ho sh ∧ bs_D W fo so iF iS ∧ f < F ∧ fo p = nI f ∧ ∀ j, j < 24 → ¬ j = p → ¬ fo j = nI f
theorem bs_own39 {post : Int32 → SX → Prop} {p f : Nat} (hp : p < 24) (hf : f < F) (hC : bs_C F fo so ho sh) (hn : ∀ j, j < 24 → ¬ fo j = nI f) (hJ : ∀ fo so iF ho la sh : Nat → Int32, bs_O F W p f fo so iF ho iS sh → post (nI f) (nI F, nI h, fo, so, iF, ho, la, iS, sh, sr, bu, ib)) : ∀ (d w n : Nat) (iF : Nat → Int32), w + d = 4 → d < n → bs_D W fo so iF iS → (∀ v, v < w → iF (f * 4 + v) = W (p * 4 + v)) → wX_ownFrame_39 post (nI p) (nI f) (nI F) (nI h) n (nI w) fo so iF ho la iS sh sr bu ib := by
  have h16 := hC.2.1
  intro d
  induction d with
  | zero =>
    intro w n iF hw hd hD hE
    obtain ⟨m, rfl⟩ := bs_fuel hd
    refine br_t (nI_le (a := 4) (by omega) (by omega)) (bs_detach hC hp (fun ho1 sh1 hC1 => ?_))
    dsimp only
    have ep : (nI p).toNatClampNeg = p := nI_clamp (by omega)
    have ef : (nI f).toNatClampNeg = f := nI_clamp (by omega)
    have jf : vp_in (nI f) 16 := vp_in_nI (by omega) (by omega)
    rw [ep, ef]
    obtain ⟨a1, a2, a3, a4, a5⟩ := hC1
    have hz : bs_cnt (upd fo p (-1)) (nI f) 24 = 0 := by
      apply bs_cnt_z
      intro j hj
      by_cases y : j = p
      · subst y; rw [pk_us]; exact bs_m1 (by omega)
      · rw [pk_un y]; exact hn j hj
    have k := bs_K_on (f := f) (by omega) a3 hp (by omega) hf pk_us
    rw [bs_upd_2, a3.2 f (by omega), hz] at k
    refine ⟨vp_in_nI hp (by omega), nm_r bs_upd_2 ⟨jf, nm_e ⟨jf, nm_e (hJ _ _ _ _ _ _ ⟨⟨a1, a2, k, a4, fun j hj => ?_⟩, fun j hj v hv => ?_, hf, pk_us, fun j hj y => ?_⟩)⟩⟩⟩
    · by_cases y : j = p
      · subst y; exact Or.inr pk_us
      · rw [pk_un y, pk_un y]; exact hC.2.2.2.2 j hj
    · by_cases y : j = p
      · subst y
        rw [pk_us, pk_us]
        refine ⟨fun g hg e => ?_, fun s hs e => absurd e (bs_m1 (by omega)), fun e => absurd e.symm (bs_m1 (by omega))⟩
        have e2 : f = g := (nI_eq (by omega) (by omega)).mp e
        subst e2
        exact (hE v (by omega)).symm
      · rw [pk_un y, pk_un y]; exact hD j hj v hv
    · rw [pk_un y]; exact hn j hj
  | succ d ih =>
    intro w n iF hw hd hD hE
    obtain ⟨m, rfl⟩ := bs_fuel hd
    refine br_f (nI_ge (b := 4) (by omega) (by omega)) (bs_wordOf hC hD hp (by omega) ?_)
    rw [bs_i4, nI_clamp (n := f * 4 + w) (by omega)]
    refine ⟨vp_in_nI (by omega) (by omega), nm_e (nm_r (nI_1 w) (ih (w + 1) m _ (by omega) (by omega) (bs_D_iF hD (by omega) (by omega) hn) (fun v hv => ?_)))⟩
    by_cases y : v = w
    · subst y; rw [pk_us]
    · rw [pk_un (by omega)]; exact hE v (by omega)
theorem bs_own30 {post : Int32 → SX → Prop} {x2 : Int32} {p : Nat} (hp : p < 24) (hh : h < F) (hC : bs_C F fo so ho sh) (hD : bs_D W fo so iF iS) (hJ : ∀ (f h : Nat) (fo so iF ho la iS sh bu ib : Nat → Int32), h < F → bs_O F W p f fo so iF ho iS sh → post (nI f) (nI F, nI h, fo, so, iF, ho, la, iS, sh, sr, bu, ib)) : wX_ownFrame_30 post (nI p) x2 (nI F) (nI h) fo so iF ho la iS sh sr bu ib := by
  unfold wX_ownFrame_30
  refine bs_freeFrame hh hC hD (fun f h' fo so ho la iS sh bu ib hf hh' hC' hD' hn => ?_)
  exact ⟨5, bs_own39 hp hf hC' hn (fun fo so iF ho la sh o => hJ f h' fo so iF ho la iS sh bu ib hh' o) 4 0 5 _ rfl (by omega) hD' (fun v hv => absurd hv (by omega))⟩
theorem bs_ownFrame {post : Int32 → SX → Prop} {p : Nat} (hp : p < 24) (hh : h < F) (hC : bs_C F fo so ho sh) (hD : bs_D W fo so iF iS) (hJ : ∀ (f h : Nat) (fo so iF ho la iS sh bu ib : Nat → Int32), h < F → bs_O F W p f fo so iF ho iS sh → post (nI f) (nI F, nI h, fo, so, iF, ho, la, iS, sh, sr, bu, ib)) : wpX_ownFrame post (nI F, nI h, fo, so, iF, ho, la, iS, sh, sr, bu, ib) (nI p) := by
  have h16 := hC.2.1
  have ep : (nI p).toNatClampNeg = p := nI_clamp (by omega)
  have k30 : ∀ x2 : Int32, wX_ownFrame_30 post (nI p) x2 (nI F) (nI h) fo so iF ho la iS sh sr bu ib := fun x2 => bs_own30 hp hh hC hD hJ
  unfold wpX_ownFrame
  dsimp only
  rw [ep]
  refine ⟨vp_in_nI hp (by omega), ?_⟩
  rcases hC.2.2.1.1 p hp with e | ⟨f, hf, e⟩
  · exact nm_r e (br_t (by decide) (k30 _))
  · refine nm_r e (br_f (nI_pos (by omega)) ⟨vp_in_nI (by omega) (by omega), ?_⟩)
    rw [nI_clamp (n := f) (by omega)]
    refine br_c (fun e1 => ⟨vp_in_nI (by omega) (by omega), nm_e (hJ f h fo so iF ho _ iS sh bu ib hh ⟨hC, hD, hf, e, ?_⟩)⟩) (fun _ => k30 _)
    have hle := bs_cnt_le (a := fo) (v := nI f) 24
    rw [hC.2.2.1.2 f (by omega)] at e1
    have e2 : bs_cnt fo (nI f) 24 = 1 := (nI_eq (b := 1) (by omega) (by omega)).mp e1
    exact bs_cnt_1 (bs_m1 (by omega)) hp e e2
end
end
section
/-! ===== reads: sealed against the words ===== -/
/-- pages p and q have the same words -/
def bs_E (W : Nat → Int32) (p q : Nat) : Prop := ∀ w, w < 4 → W (p * 4 + w) = W (q * 4 + w)
noncomputable def bs_al (W : Nat → Int32) (p q : Nat) : Int32 := @ite _ (bs_E W p q) (Classical.propDecidable _) 1 0
theorem bs_al_1 {W : Nat → Int32} {p q : Nat} (e : bs_E W p q) : bs_al W p q = 1 := @if_pos _ (Classical.propDecidable _) e _ _ _
theorem bs_al_0 {W : Nat → Int32} {p q : Nat} (e : ¬ bs_E W p q) : bs_al W p q = 0 := @if_neg _ (Classical.propDecidable _) e _ _ _
section
variable {F h : Nat} {W fo so iF ho la iS sh sr bu ib : Nat → Int32}
theorem bs_hash5 {post : Int32 → Prop} {p : Nat} (hC : bs_C F fo so ho sh) (hD : bs_D W fo so iF iS) (hp : p < 24) (hJ : ∀ r : Int32, post r) : ∀ (d w n : Nat) (x2 : Int32), w + d = 4 → d < n → wX_hashOf_5 post (nI p) (nI F) (nI h) fo so iF ho la iS sh sr bu ib n x2 (nI w) := by
  intro d
  induction d with
  | zero =>
    intro w n x2 hw hn
    obtain ⟨m, rfl⟩ := bs_fuel hn
    exact br_t (nI_le (a := 4) (by omega) (by omega)) (hJ x2)
  | succ d ih =>
    intro w n x2 hw hn
    obtain ⟨m, rfl⟩ := bs_fuel hn
    exact br_f (nI_ge (b := 4) (by omega) (by omega)) (bs_wordOf hC hD hp (by omega) (nm_e (nm_r (nI_1 w) (ih (w + 1) m _ (by omega) (by omega)))))
theorem bs_hashOf {post : Int32 → Prop} {p : Nat} (hC : bs_C F fo so ho sh) (hD : bs_D W fo so iF iS) (hp : p < 24) (hJ : ∀ r : Int32, post r) : wpX_hashOf post (nI F, nI h, fo, so, iF, ho, la, iS, sh, sr, bu, ib) (nI p) := ⟨5, bs_hash5 hC hD hp hJ 4 0 5 7 rfl (by omega)⟩
theorem bs_alike28 {post : Int32 → Prop} {p q : Nat} (hC : bs_C F fo so ho sh) (hD : bs_D W fo so iF iS) (hp : p < 24) (hq : q < 24) (hJ : post (bs_al W p q)) : ∀ d w n : Nat, w + d = 4 → d < n → (∀ v, v < w → W (p * 4 + v) = W (q * 4 + v)) → wX_alike_28 post (nI p) (nI q) (nI F) (nI h) fo so iF ho la iS sh sr bu ib n (nI w) := by
  intro d
  induction d with
  | zero =>
    intro w n hw hn hE
    obtain ⟨m, rfl⟩ := bs_fuel hn
    rw [bs_al_1 (fun v hv => hE v (by omega))] at hJ
    exact br_t (nI_le (a := 4) (by omega) (by omega)) hJ
  | succ d ih =>
    intro w n hw hn hE
    obtain ⟨m, rfl⟩ := bs_fuel hn
    refine br_f (nI_ge (b := 4) (by omega) (by omega)) (bs_wordOf hC hD hp (by omega) (bs_wordOf hC hD hq (by omega) (br_c (fun e => nm_r (nI_1 w) (ih (w + 1) m (by omega) (by omega) (fun v hv => ?_))) (fun e => ?_))))
    · by_cases y : v = w
      · subst y; exact e
      · exact hE v (by omega)
    · rw [bs_al_0 (fun y => e (y w (by omega)))] at hJ
      exact hJ
theorem bs_alike {post : Int32 → Prop} {p q : Nat} (hC : bs_C F fo so ho sh) (hD : bs_D W fo so iF iS) (hp : p < 24) (hq : q < 24) (hJ : post (bs_al W p q)) : wpX_alike post (nI F, nI h, fo, so, iF, ho, la, iS, sh, sr, bu, ib) (nI p) (nI q) := by
  have h16 := hC.2.1
  have ep : (nI p).toNatClampNeg = p := nI_clamp (by omega)
  have eq : (nI q).toNatClampNeg = q := nI_clamp (by omega)
  have ip : vp_in (nI p) 24 := vp_in_nI hp (by omega)
  have iq : vp_in (nI q) 24 := vp_in_nI hq (by omega)
  have k : ∃ n28 : Nat, wX_alike_28 post (nI p) (nI q) (nI F) (nI h) fo so iF ho la iS sh sr bu ib n28 0 := ⟨5, bs_alike28 hC hD hp hq hJ 4 0 5 rfl (by omega) (fun v hv => absurd hv (by omega))⟩
  unfold wpX_alike
  dsimp only
  rw [ep, eq]
  refine ⟨ip, ?_⟩
  rcases hC.2.2.1.1 p hp with e | ⟨f, hf, e⟩
  · refine br_t ?_ k
    rw [e]
    decide
  · refine br_f ?_ ⟨ip, iq, br_c (fun e2 => ?_) (fun _ => k)⟩
    · rw [e]
      exact nI_pos (by omega)
    · have e3 : bs_E W p q := fun w hw => ((hD p hp w hw).1 f (by omega) e).trans ((hD q hq w hw).1 f (by omega) (e2.symm.trans e)).symm
      rw [bs_al_1 e3] at hJ
      exact hJ
theorem bs_yal2 {post : Int32 → Prop} {p q : Nat} (hp : p < 24) (hq : q < 24) (hJ : post (bs_al W p q)) : ∀ d w n : Nat, w + d = 4 → d < n → (∀ v, v < w → W (p * 4 + v) = W (q * 4 + v)) → wY_alike_2 post (nI p) (nI q) W sr n (nI w) := by
  intro d
  induction d with
  | zero =>
    intro w n hw hn hE
    obtain ⟨m, rfl⟩ := bs_fuel hn
    rw [bs_al_1 (fun v hv => hE v (by omega))] at hJ
    exact br_t (nI_le (a := 4) (by omega) (by omega)) hJ
  | succ d ih =>
    intro w n hw hn hE
    obtain ⟨m, rfl⟩ := bs_fuel hn
    refine br_f (nI_ge (b := 4) (by omega) (by omega)) ?_
    rw [bs_i4, bs_i4, nI_clamp (n := p * 4 + w) (by omega), nI_clamp (n := q * 4 + w) (by omega)]
    refine ⟨vp_in_nI (by omega) (by omega), vp_in_nI (by omega) (by omega), br_c (fun e => nm_r (nI_1 w) (ih (w + 1) m (by omega) (by omega) (fun v hv => ?_))) (fun e => ?_)⟩
    · by_cases y : v = w
      · subst y; exact e
      · exact hE v (by omega)
    · rw [bs_al_0 (fun y => e (y w (by omega)))] at hJ
      exact hJ
theorem bs_yalike {post : Int32 → Prop} {p q : Nat} (hp : p < 24) (hq : q < 24) (hJ : post (bs_al W p q)) : wpY_alike post (W, sr) (nI p) (nI q) := ⟨5, bs_yal2 hp hq hJ 4 0 5 rfl (by omega) (fun v hv => absurd hv (by omega))⟩
theorem bs_zero2 {post : Int32 → Prop} {p : Nat} (hC : bs_C F fo so ho sh) (hD : bs_D W fo so iF iS) (hp : p < 24) (hJ : (∀ w, w < 4 → W (p * 4 + w) = 0) → post 1) (hJ0 : post 0) : ∀ d w n : Nat, w + d = 4 → d < n → (∀ v, v < w → W (p * 4 + v) = 0) → wX_isZero_2 post (nI p) (nI F) (nI h) fo so iF ho la iS sh sr bu ib n (nI w) := by
  intro d
  induction d with
  | zero =>
    intro w n hw hn hE
    obtain ⟨m, rfl⟩ := bs_fuel hn
    exact br_t (nI_le (a := 4) (by omega) (by omega)) (hJ (fun v hv => hE v (by omega)))
  | succ d ih =>
    intro w n hw hn hE
    obtain ⟨m, rfl⟩ := bs_fuel hn
    refine br_f (nI_ge (b := 4) (by omega) (by omega)) (bs_wordOf hC hD hp (by omega) (br_c (fun e => nm_r (nI_1 w) (ih (w + 1) m (by omega) (by omega) (fun v hv => ?_))) (fun e => hJ0)))
    by_cases y : v = w
    · subst y; exact e
    · exact hE v (by omega)
theorem bs_isZero {post : Int32 → Prop} {p : Nat} (hC : bs_C F fo so ho sh) (hD : bs_D W fo so iF iS) (hp : p < 24) (hJ : (∀ w, w < 4 → W (p * 4 + w) = 0) → post 1) (hJ0 : post 0) : wpX_isZero post (nI F, nI h, fo, so, iF, ho, la, iS, sh, sr, bu, ib) (nI p) := ⟨5, bs_zero2 hC hD hp hJ hJ0 4 0 5 rfl (by omega) (fun v hv => absurd hv (by omega))⟩
theorem bs_mod24 {a b : Nat} (ha : a < 8) (hb : b < 24) : nI a + nI b - (nI a + nI b) / 24 * 24 = nI ((a + b) % 24) := by
  rw [nI_add]
  exact pk_rem (d := 24) (by omega) (by omega) (by omega)
theorem bs_twin17 {post : Int32 → Prop} {p st i : Nat} {x4 : Int32} (hC : bs_C F fo so ho sh) (hD : bs_D W fo so iF iS) (hp : p < 24) (hst : st < 8) (hi : i < 24) (hJ : post (-1)) (hJq : ∀ q, q < 24 → bs_E W p q → post (nI q)) : ∀ d k n : Nat, k + d = i → d < n → wX_twinBefore_17 post (nI st) (nI i) (nI p) x4 (nI F) (nI h) fo so iF ho la iS sh sr bu ib n (nI k) := by
  intro d
  induction d with
  | zero =>
    intro k n hk hn
    obtain ⟨m, rfl⟩ := bs_fuel hn
    exact br_t (nI_le (a := i) (by omega) (by omega)) hJ
  | succ d ih =>
    intro k n hk hn
    obtain ⟨m, rfl⟩ := bs_fuel hn
    have hq : (st + k) % 24 < 24 := Nat.mod_lt _ (by omega)
    refine br_f (nI_ge (b := i) (by omega) (by omega)) ⟨by decide, nm_r (bs_mod24 hst (by omega)) (bs_hashOf hC hD hq (fun r => br_c (fun _ => bs_alike hC hD hp hq ?_) (fun _ => nm_r (nI_1 k) (ih (k + 1) m (by omega) (by omega)))))⟩
    by_cases e : bs_E W p ((st + k) % 24)
    · rw [bs_al_1 e]
      exact br_f (by decide) (hJq _ hq e)
    · rw [bs_al_0 e]
      exact br_t rfl (nm_r (nI_1 k) (ih (k + 1) m (by omega) (by omega)))
theorem bs_twinBefore {post : Int32 → Prop} {st i : Nat} (hC : bs_C F fo so ho sh) (hD : bs_D W fo so iF iS) (hst : st < 8) (hi : i < 24) (hJ : post (-1)) (hJq : ∀ q, q < 24 → bs_E W ((st + i) % 24) q → post (nI q)) : wpX_twinBefore post (nI F, nI h, fo, so, iF, ho, la, iS, sh, sr, bu, ib) (nI st) (nI i) := by
  have hp : (st + i) % 24 < 24 := Nat.mod_lt _ (by omega)
  unfold wpX_twinBefore
  dsimp only
  exact ⟨by decide, nm_r (bs_mod24 hst hi) (bs_hashOf hC hD hp (fun r => ⟨i + 1, bs_twin17 hC hD hp hst hi hJ hJq i 0 (i + 1) (by omega) (by omega)⟩))⟩
/-! ===== tidy ===== -/
theorem bs_D_det {W' : Nat → Int32} {p : Nat} (hD : bs_D W fo so iF iS) (hW : ∀ j, j < 24 → ∀ w, w < 4 → W' (j * 4 + w) = if j = p then 0 else W (j * 4 + w)) : bs_D W' (upd fo p (-1)) (upd so p (-1)) iF iS := by
  intro j hj w hw
  rw [hW j hj w hw]
  by_cases y : j = p
  · subst y
    rw [pk_us, pk_us, if_pos rfl]
    exact ⟨fun g hg e => absurd e (bs_m1 (by omega)), fun g hg e => absurd e (bs_m1 (by omega)), fun _ _ => rfl⟩
  · rw [pk_un y, pk_un y, if_neg y]
    exact hD j hj w hw
theorem bs_tidy68 {post : SX → Prop} (hF : F ≤ 16) (hJ : ∀ la : Nat → Int32, post (nI F, nI h, fo, so, iF, ho, la, iS, sh, sr, bu, ib)) : ∀ (d i n : Nat) (la : Nat → Int32), i + d = F → d < n → wX_tidy_68 post (nI F) (nI h) n (nI i) fo so iF ho la iS sh sr bu ib := by
  intro d
  induction d with
  | zero =>
    intro i n la hi hn
    obtain ⟨m, rfl⟩ := bs_fuel hn
    exact br_t (nI_le (a := F) (by omega) (by omega)) (hJ la)
  | succ d ih =>
    intro i n la hi hn
    obtain ⟨m, rfl⟩ := bs_fuel hn
    exact br_f (nI_ge (b := F) (by omega) (by omega)) ⟨vp_in_nI (by omega) (by omega), nm_e (nm_r (nI_1 i) (ih (i + 1) m _ (by omega) (by omega)))⟩
theorem bs_tidy7 {post : SX → Prop} {st : Nat} (hst : st < 8) (hJ : ∀ fo so ho la sh : Nat → Int32, bs_C F fo so ho sh → bs_D W fo so iF iS → post (nI F, nI h, fo, so, iF, ho, la, iS, sh, sr, bu, ib)) : ∀ (d i n : Nat) (fo so ho sh : Nat → Int32), i + d = 24 → d < n → bs_C F fo so ho sh → bs_D W fo so iF iS → wX_tidy_7 post (nI st) n (nI i) (nI F) (nI h) fo so iF ho la iS sh sr bu ib := by
  intro d
  induction d with
  | zero =>
    intro i n fo so ho sh hi hn hC hD
    obtain ⟨m, rfl⟩ := bs_fuel hn
    exact br_t (nI_le (a := 24) (by omega) (by omega)) ⟨F + 1, bs_tidy68 hC.2.1 (fun la => hJ fo so ho la sh hC hD) F 0 (F + 1) la (by omega) (by omega)⟩
  | succ d ih =>
    intro i n fo so ho sh hi hn hC hD
    obtain ⟨m, rfl⟩ := bs_fuel hn
    have hp : (st + i) % 24 < 24 := Nat.mod_lt _ (by omega)
    refine br_f (nI_ge (b := 24) (by omega) (by omega)) ⟨by decide, nm_r (bs_mod24 hst (by omega)) (bs_twinBefore hC hD hst (by omega) ?_ (fun q hq e => ?_))⟩
    · refine br_t (by decide) (bs_isZero hC hD hp (fun z => br_f (by decide) (bs_detach hC hp (fun ho1 sh1 hC1 => nm_r (nI_1 i) (ih (i + 1) m _ _ _ _ (by omega) (by omega) hC1 (bs_D_det hD (fun j hj w hw => ?_)))))) (br_t rfl (nm_r (nI_1 i) (ih (i + 1) m _ _ _ _ (by omega) (by omega) hC hD))))
      by_cases y : j = (st + i) % 24
      · rw [if_pos y, y]; exact z w hw
      · rw [if_neg y]
    · refine br_f (nI_pos (by omega)) (bs_attach hC hD hp hq (W' := W) (fun j hj w hw => ?_) (fun fo1 so1 ho1 sh1 hC1 hD1 => nm_r (nI_1 i) (ih (i + 1) m _ _ _ _ (by omega) (by omega) hC1 hD1)))
      by_cases y : j = (st + i) % 24
      · rw [if_pos y, y]; exact e w hw
      · rw [if_neg y]
theorem bs_tidy {post : SX → Prop} {x : Int32} (hC : bs_C F fo so ho sh) (hD : bs_D W fo so iF iS) (hJ : ∀ fo so ho la sh : Nat → Int32, bs_C F fo so ho sh → bs_D W fo so iF iS → post (nI F, nI h, fo, so, iF, ho, la, iS, sh, sr, bu, ib)) : wpX_tidy post (nI F, nI h, fo, so, iF, ho, la, iS, sh, sr, bu, ib) x := by
  obtain ⟨st, hst, e⟩ := pk_andE x (m := 7) 3 (by decide)
  unfold wpX_tidy
  dsimp only
  exact nm_r e ⟨25, bs_tidy7 hst hJ 24 0 25 fo so ho sh rfl (by omega) hC hD⟩
end
end
section
/-! ===== loops of the calls, in lockstep ===== -/
section
variable {F h : Nat} {W fo so iF ho la iS sh sr bu ib : Nat → Int32}
theorem bs_O_wr {p f w : Nat} {x : Int32} (o : bs_O F W p f fo so iF ho iS sh) (hp : p < 24) (hw : w < 4) : bs_O F (upd W (p * 4 + w) x) p f fo so (upd iF (f * 4 + w) x) ho iS sh := by
  obtain ⟨hC, hD, hf, e, hn⟩ := o
  have h16 := hC.2.1
  refine ⟨hC, fun j hj v hv => ?_, hf, e, hn⟩
  by_cases y : j = p
  · subst y
    have e1 : so j = -1 := by
      rcases hC.2.2.2.2 j hj with c | c
      · exact absurd (c.symm.trans e) (bs_m1 (by omega))
      · exact c
    refine ⟨fun g hg e2 => ?_, fun s hs e2 => absurd (e1.symm.trans e2) (bs_m1 (by omega)), fun e2 => absurd (e2.symm.trans e) (bs_m1 (by omega))⟩
    have e3 : f = g := (nI_eq (by omega) (by omega)).mp (e.symm.trans e2)
    subst e3
    by_cases u : v = w
    · subst u; rw [pk_us, pk_us]
    · rw [pk_un (by omega), pk_un (by omega)]
      exact (hD j hj v hv).1 f hg e
  · rw [pk_un (by omega)]
    refine ⟨fun g hg e2 => ?_, (hD j hj v hv).2⟩
    have z : ¬ g = f := fun u => hn j hj y (u ▸ e2)
    rw [pk_un (by omega)]
    exact (hD j hj v hv).1 g hg e2
theorem bs_fill {f g q : Nat} {x s : Int32} (hf : f < 16) (hg : g < 3) (hq : q < 8) : ∀ (d w : Nat) (W iF : Nat → Int32), w + d = 4 → bs_O F W (g * 8 + q) f fo so iF ho iS sh → ∃ W' iF' : Nat → Int32, bs_O F W' (g * 8 + q) f fo so iF' ho iS sh ∧ (∀ post : Int32 → SX → Prop, post 0 (nI F, nI h, fo, so, iF', ho, la, iS, sh, sr, bu, ib) → wX_fill_34 post x s (nI f) (nI F) (nI h) (d + 1) (nI w) fo so iF ho la iS sh sr bu ib) ∧ (∀ post : Int32 → SY → Prop, post 0 (W', sr) → wY_fill_24 post (nI g) (nI q) x s (d + 1) (nI w) W sr) := by
  intro d
  induction d with
  | zero =>
    intro w W iF hw o
    have c : (4 : Int32) ≤ nI w := nI_le (a := 4) (by omega) (by omega)
    exact ⟨W, iF, o, fun post hp => br_t c hp, fun post hp => br_t c hp⟩
  | succ d ih =>
    intro w W iF hw o
    have c : ¬ (4 : Int32) ≤ nI w := nI_ge (b := 4) (by omega) (by omega)
    obtain ⟨W', iF', o', kX, kY⟩ := ih (w + 1) _ _ (by omega) (bs_O_wr (x := x + nI w * s) o (by omega) (w := w) (by omega))
    refine ⟨W', iF', o', fun post hp => br_f c ?_, fun post hp => br_f c ?_⟩
    · rw [bs_i4, nI_clamp (n := f * 4 + w) (by omega)]
      exact ⟨vp_in_nI (by omega) (by omega), nm_e (nm_r (nI_1 w) (kX post hp))⟩
    · rw [bs_i324, nI_clamp (n := (g * 8 + q) * 4 + w) (by omega)]
      exact ⟨vp_in_nI (by omega) (by omega), nm_e (nm_r (nI_1 w) (kY post hp))⟩
theorem bs_zx (w : Nat) : (0 : Int32) + nI w * 0 = 0 := by
  rw [Int32.mul_zero, Int32.zero_add]
theorem bs_yfill0 {g q : Nat} (hg : g < 3) (hq : q < 8) : ∀ (d w : Nat) (W : Nat → Int32), w + d = 4 → ∃ W' : Nat → Int32, (∀ j, j < 24 → ∀ v, v < 4 → (j = g * 8 + q → w ≤ v → W' (j * 4 + v) = 0) ∧ ((¬ j = g * 8 + q ∨ v < w) → W' (j * 4 + v) = W (j * 4 + v))) ∧ (∀ post : Int32 → SY → Prop, post 0 (W', sr) → wY_fill_24 post (nI g) (nI q) 0 0 (d + 1) (nI w) W sr) := by
  intro d
  induction d with
  | zero =>
    intro w W hw
    have c : (4 : Int32) ≤ nI w := nI_le (a := 4) (by omega) (by omega)
    exact ⟨W, fun j hj v hv => ⟨fun _ z => absurd z (by omega), fun _ => rfl⟩, fun post hp => br_t c hp⟩
  | succ d ih =>
    intro w W hw
    have c : ¬ (4 : Int32) ≤ nI w := nI_ge (b := 4) (by omega) (by omega)
    obtain ⟨W', hW, kY⟩ := ih (w + 1) (upd W ((g * 8 + q) * 4 + w) 0) (by omega)
    refine ⟨W', fun j hj v hv => ⟨fun e z => ?_, fun z => ?_⟩, fun post hp => br_f c ?_⟩
    · by_cases u : v = w
      · rw [(hW j hj v hv).2 (Or.inr (by omega)), e, u, pk_us]
      · exact (hW j hj v hv).1 e (by omega)
    · rw [(hW j hj v hv).2 (by omega), pk_un (by omega)]
    · rw [bs_i324, nI_clamp (n := (g * 8 + q) * 4 + w) (by omega), bs_zx]
      exact ⟨vp_in_nI (by omega) (by omega), nm_e (nm_r (nI_1 w) (kY post hp))⟩
/-! === copies === -/
/-- i words from place s have been written at place d -/
def bs_cw (W : Nat → Int32) (s d i : Nat) : Nat → Int32 := fun j => if d ≤ j ∧ j < d + i then W (s + (j - d)) else W j
theorem bs_cw_in {s d i j : Nat} (a : d ≤ j) (b : j < d + i) : bs_cw W s d i j = W (s + (j - d)) := if_pos ⟨a, b⟩
theorem bs_cw_out {s d i j : Nat} (a : j < d ∨ d + i ≤ j) : bs_cw W s d i j = W j := if_neg (by omega)
theorem bs_cw_0 {s d : Nat} : bs_cw W s d 0 = W := by
  funext j
  exact bs_cw_out (by omega)
theorem bs_cw_s {s d i : Nat} (a : d ≤ s ∨ s + i < d) : upd (bs_cw W s d i) (d + i) (bs_cw W s d i (s + i)) = bs_cw W s d (i + 1) := by
  funext j
  by_cases y : j = d + i
  · subst y
    rw [pk_us, bs_cw_out (by omega), bs_cw_in (by omega) (by omega)]
    exact congrArg W (by omega)
  · rw [pk_un y]
    by_cases z : d ≤ j ∧ j < d + i
    · rw [bs_cw_in z.1 z.2, bs_cw_in z.1 (by omega)]
    · rw [bs_cw_out (by omega), bs_cw_out (by omega)]
theorem bs_ycopy {post : Int32 → SY → Prop} {f a t b : Nat} (hf : f < 3) (ha : a < 8) (ht : t < 3) (hb : b < 8) (hJ : post 0 (bs_cw W ((f * 8 + a) * 4) ((t * 8 + b) * 4) 4, sr)) : ∀ e i n : Nat, i + e = 4 → e < n → wY_copy_41 post (nI f) (nI a) (nI t) (nI b) n (nI i) (bs_cw W ((f * 8 + a) * 4) ((t * 8 + b) * 4) i) sr := by
  intro e
  induction e with
  | zero =>
    intro i n hi hn
    obtain ⟨m, rfl⟩ := bs_fuel hn
    obtain rfl : i = 4 := by omega
    exact br_t (nI_le (a := 4) (by omega) (by omega)) hJ
  | succ e ih =>
    intro i n hi hn
    obtain ⟨m, rfl⟩ := bs_fuel hn
    refine br_f (nI_ge (b := 4) (by omega) (by omega)) ?_
    rw [bs_i324, bs_i324, nI_clamp (n := (f * 8 + a) * 4 + i) (by omega), nI_clamp (n := (t * 8 + b) * 4 + i) (by omega)]
    exact ⟨vp_in_nI (by omega) (by omega), vp_in_nI (by omega) (by omega), nm_r (bs_cw_s (by omega)) (nm_r (nI_1 i) (ih (i + 1) m (by omega) (by omega)))⟩
theorem bs_yclone {post : Int32 → SY → Prop} {f t : Nat} (hf : f < 3) (ht : t < 3) (hJ : post 0 (bs_cw W (f * 32) (t * 32) 32, sr)) : ∀ e i n : Nat, i + e = 32 → e < n → wY_cloneGuest_20 post (nI f) (nI t) n (nI i) (bs_cw W (f * 32) (t * 32) i) sr := by
  intro e
  induction e with
  | zero =>
    intro i n hi hn
    obtain ⟨m, rfl⟩ := bs_fuel hn
    obtain rfl : i = 32 := by omega
    exact br_t (nI_le (a := 32) (by omega) (by omega)) hJ
  | succ e ih =>
    intro i n hi hn
    obtain ⟨m, rfl⟩ := bs_fuel hn
    refine br_f (nI_ge (b := 32) (by omega) (by omega)) ?_
    rw [bs_i32, bs_i32, nI_clamp (n := f * 32 + i) (by omega), nI_clamp (n := t * 32 + i) (by omega)]
    exact ⟨vp_in_nI (by omega) (by omega), vp_in_nI (by omega) (by omega), nm_r (bs_cw_s (by omega)) (nm_r (nI_1 i) (ih (i + 1) m (by omega) (by omega)))⟩
theorem bs_cwp {p q j w : Nat} (hw : w < 4) : bs_cw W (q * 4) (p * 4) 4 (j * 4 + w) = if j = p then W (q * 4 + w) else W (j * 4 + w) := by
  by_cases y : j = p
  · subst y
    rw [if_pos rfl, bs_cw_in (by omega) (by omega)]
    exact congrArg W (by omega)
  · rw [if_neg y, bs_cw_out (by omega)]
theorem bs_cwg {f t i j w : Nat} (hf : f < 3) (ht : t < 3) (hi : i < 8) (hw : w < 4) : bs_cw W (f * 32) (t * 32) ((i + 1) * 4) (j * 4 + w) = if j = t * 8 + i then bs_cw W (f * 32) (t * 32) (i * 4) ((f * 8 + i) * 4 + w) else bs_cw W (f * 32) (t * 32) (i * 4) (j * 4 + w) := by
  by_cases y : j = t * 8 + i
  · subst y
    rw [if_pos rfl, bs_cw_in (by omega) (by omega), bs_cw_out (by omega)]
    exact congrArg W (by omega)
  · rw [if_neg y]
    by_cases z : t * 32 ≤ j * 4 + w ∧ j * 4 + w < t * 32 + i * 4
    · rw [bs_cw_in z.1 (by omega), bs_cw_in z.1 z.2]
    · rw [bs_cw_out (by omega), bs_cw_out (by omega)]
theorem bs_xclone {post : Int32 → SX → Prop} {f t : Nat} (hf : f < 3) (ht : t < 3) (hJ : ∀ fo so ho sh : Nat → Int32, bs_C F fo so ho sh → bs_D (bs_cw W (f * 32) (t * 32) 32) fo so iF iS → post 0 (nI F, nI h, fo, so, iF, ho, la, iS, sh, sr, bu, ib)) : ∀ (d i n : Nat) (fo so ho sh : Nat → Int32), i + d = 8 → d < n → bs_C F fo so ho sh → bs_D (bs_cw W (f * 32) (t * 32) (i * 4)) fo so iF iS → wX_cloneGuest_18 post (nI f) (nI t) n (nI i) (nI F) (nI h) fo so iF ho la iS sh sr bu ib := by
  intro d
  induction d with
  | zero =>
    intro i n fo so ho sh hi hn hC hD
    obtain ⟨m, rfl⟩ := bs_fuel hn
    obtain rfl : i = 8 := by omega
    exact br_t (nI_le (a := 8) (by omega) (by omega)) (hJ fo so ho sh hC hD)
  | succ d ih =>
    intro i n fo so ho sh hi hn hC hD
    obtain ⟨m, rfl⟩ := bs_fuel hn
    refine br_f (nI_ge (b := 8) (by omega) (by omega)) ?_
    rw [bs_i8, bs_i8]
    exact bs_attach hC hD (by omega) (by omega) (fun j hj w hw => bs_cwg hf ht (by omega) hw) (fun fo1 so1 ho1 sh1 hC1 hD1 => nm_r (nI_1 i) (ih (i + 1) m _ _ _ _ (by omega) (by omega) hC1 hD1))
/-! === sums, contents, twins === -/
theorem bs_sum {g q : Nat} (hg : g < 3) (hq : q < 8) (hC : bs_C F fo so ho sh) (hD : bs_D W fo so iF iS) : ∀ (d w : Nat) (x3 : Int32), w + d = 4 → ∃ r : Int32, (∀ post : Int32 → Prop, post r → wX_sum_21 post (nI g) (nI q) (nI F) (nI h) fo so iF ho la iS sh sr bu ib (d + 1) x3 (nI w)) ∧ (∀ post : Int32 → Prop, post r → wY_sum_23 post (nI g) (nI q) W sr (d + 1) x3 (nI w)) := by
  intro d
  induction d with
  | zero =>
    intro w x3 hw
    have c : (4 : Int32) ≤ nI w := nI_le (a := 4) (by omega) (by omega)
    exact ⟨x3, fun post hp => br_t c hp, fun post hp => br_t c hp⟩
  | succ d ih =>
    intro w x3 hw
    have c : ¬ (4 : Int32) ≤ nI w := nI_ge (b := 4) (by omega) (by omega)
    obtain ⟨r, kX, kY⟩ := ih (w + 1) (x3 + (nI w + 1) * W ((g * 8 + q) * 4 + w)) (by omega)
    refine ⟨r, fun post hp => br_f c ?_, fun post hp => br_f c ?_⟩
    · rw [bs_i8]
      exact bs_wordOf hC hD (by omega) (by omega) (nm_e (nm_r (nI_1 w) (kX post hp)))
    · rw [bs_i324, nI_clamp (n := (g * 8 + q) * 4 + w) (by omega)]
      exact ⟨vp_in_nI (by omega) (by omega), nm_e (nm_r (nI_1 w) (kY post hp))⟩
theorem bs_cont25 {g p : Nat} (hg : g < 3) (hp : p < 8) (hC : bs_C F fo so ho sh) (hD : bs_D W fo so iF iS) : ∀ (d e : Nat) (x2 x4 : Int32), e + d = p → ∃ y : Int32, (∀ (post : Int32 → Prop) (J : Int32 → Int32 → Prop), J y (nI (p + 1)) → wX_contents_25 post J (nI g) x2 (nI p) (nI F) (nI h) fo so iF ho la iS sh sr bu ib (d + 1) x4 (nI e)) ∧ (∀ (post : Int32 → Prop) (J : Int32 → Int32 → Prop), J y (nI (p + 1)) → wY_contents_26 post J (nI g) x2 (nI p) W sr (d + 1) x4 (nI e)) := by
  intro d
  induction d with
  | zero =>
    intro e x2 x4 he
    have c : nI p ≤ nI e := nI_le (by omega) (by omega)
    by_cases z : x4 = 0
    · exact ⟨x2, fun post J hJ => br_t c (br_t z (nm_r (nI_1 p) hJ)), fun post J hJ => br_t c (br_t z (nm_r (nI_1 p) hJ))⟩
    · exact ⟨x2 + 1, fun post J hJ => br_t c (br_f z (nm_e (nm_r (nI_1 p) hJ))), fun post J hJ => br_t c (br_f z (nm_e (nm_r (nI_1 p) hJ)))⟩
  | succ d ih =>
    intro e x2 x4 he
    have c : ¬ nI p ≤ nI e := nI_ge (by omega) (by omega)
    by_cases z : bs_E W (g * 8 + p) (g * 8 + e)
    · obtain ⟨y, kX, kY⟩ := ih (e + 1) x2 0 (by omega)
      refine ⟨y, fun post J hJ => br_f c ?_, fun post J hJ => br_f c ?_⟩
      · rw [bs_i8, bs_i8]
        refine bs_alike hC hD (by omega) (by omega) ?_
        rw [bs_al_1 z]
        exact br_f (by decide) (nm_r (nI_1 e) (kX post J hJ))
      · rw [bs_i8, bs_i8]
        refine bs_yalike (by omega) (by omega) ?_
        rw [bs_al_1 z]
        exact br_f (by decide) (nm_r (nI_1 e) (kY post J hJ))
    · obtain ⟨y, kX, kY⟩ := ih (e + 1) x2 x4 (by omega)
      refine ⟨y, fun post J hJ => br_f c ?_, fun post J hJ => br_f c ?_⟩
      · rw [bs_i8, bs_i8]
        refine bs_alike hC hD (by omega) (by omega) ?_
        rw [bs_al_0 z]
        exact br_t rfl (nm_r (nI_1 e) (kX post J hJ))
      · rw [bs_i8, bs_i8]
        refine bs_yalike (by omega) (by omega) ?_
        rw [bs_al_0 z]
        exact br_t rfl (nm_r (nI_1 e) (kY post J hJ))
theorem bs_cont13 {g : Nat} (hg : g < 3) (hC : bs_C F fo so ho sh) (hD : bs_D W fo so iF iS) : ∀ (d p : Nat) (x2 : Int32), p + d = 8 → ∃ r : Int32, (∀ post : Int32 → Prop, post r → wX_contents_13 post (nI g) (nI F) (nI h) fo so iF ho la iS sh sr bu ib (d + 1) x2 (nI p)) ∧ (∀ post : Int32 → Prop, post r → wY_contents_14 post (nI g) W sr (d + 1) x2 (nI p)) := by
  intro d
  induction d with
  | zero =>
    intro p x2 hp
    have c : (8 : Int32) ≤ nI p := nI_le (a := 8) (by omega) (by omega)
    exact ⟨x2, fun post hp => br_t c hp, fun post hp => br_t c hp⟩
  | succ d ih =>
    intro p x2 hp
    have c : ¬ (8 : Int32) ≤ nI p := nI_ge (b := 8) (by omega) (by omega)
    obtain ⟨y, jX, jY⟩ := bs_cont25 (la := la) (sr := sr) (bu := bu) (ib := ib) (h := h) hg (p := p) (by omega) hC hD p 0 x2 1 (by omega)
    obtain ⟨r, kX, kY⟩ := ih (p + 1) y (by omega)
    exact ⟨r, fun post hr => br_f c ⟨p + 1, jX post _ (kX post hr)⟩, fun post hr => br_f c ⟨p + 1, jY post _ (kY post hr)⟩⟩
theorem bs_twins {g q : Nat} (hg : g < 3) (hq : q < 8) (hC : bs_C F fo so ho sh) (hD : bs_D W fo so iF iS) : ∀ (d i : Nat) (x3 : Int32), i + d = 24 → ∃ r : Int32, (∀ post : Int32 → Prop, post r → wX_twins_24 post (nI g) (nI q) (nI F) (nI h) fo so iF ho la iS sh sr bu ib (d + 1) x3 (nI i)) ∧ (∀ post : Int32 → Prop, post r → wY_twins_26 post (nI g) (nI q) W sr (d + 1) x3 (nI i)) := by
  intro d
  induction d with
  | zero =>
    intro i x3 hi
    have c : (24 : Int32) ≤ nI i := nI_le (a := 24) (by omega) (by omega)
    exact ⟨x3, fun post hp => br_t c hp, fun post hp => br_t c hp⟩
  | succ d ih =>
    intro i x3 hi
    have c : ¬ (24 : Int32) ≤ nI i := nI_ge (b := 24) (by omega) (by omega)
    by_cases z : bs_E W (g * 8 + q) i
    · obtain ⟨r, kX, kY⟩ := ih (i + 1) (x3 + 1) (by omega)
      refine ⟨r, fun post hr => br_f c ?_, fun post hr => br_f c ?_⟩
      · rw [bs_i8]
        refine bs_alike hC hD (by omega) (by omega) ?_
        rw [bs_al_1 z]
        exact br_f (by decide) (nm_e (nm_r (nI_1 i) (kX post hr)))
      · rw [bs_i8]
        refine bs_yalike (by omega) (by omega) ?_
        rw [bs_al_1 z]
        exact br_f (by decide) (nm_e (nm_r (nI_1 i) (kY post hr)))
    · obtain ⟨r, kX, kY⟩ := ih (i + 1) x3 (by omega)
      refine ⟨r, fun post hr => br_f c ?_, fun post hr => br_f c ?_⟩
      · rw [bs_i8]
        refine bs_alike hC hD (by omega) (by omega) ?_
        rw [bs_al_0 z]
        exact br_t rfl (nm_r (nI_1 i) (kX post hr))
      · rw [bs_i8]
        refine bs_yalike (by omega) (by omega) ?_
        rw [bs_al_0 z]
        exact br_t rfl (nm_r (nI_1 i) (kY post hr))
/-! === the constructors === -/
theorem bs_ini3 : ∀ (d i : Nat) (sr : Nat → Int32), i + d = 3 → ∃ sr' : Nat → Int32, (∀ post : SX → Prop, post (nI F, nI h, fo, so, iF, ho, la, iS, sh, sr', bu, ib) → wX_init_134 post (nI F) (nI h) (d + 1) (nI i) fo so iF ho la iS sh sr bu ib) ∧ (∀ post : SY → Prop, post (W, sr') → wY_init_21 post (d + 1) (nI i) W sr) := by
  intro d
  induction d with
  | zero =>
    intro i sr hi
    have c : (3 : Int32) ≤ nI i := nI_le (a := 3) (by omega) (by omega)
    exact ⟨sr, fun post hp => br_t c hp, fun post hp => br_t c hp⟩
  | succ d ih =>
    intro i sr hi
    have c : ¬ (3 : Int32) ≤ nI i := nI_ge (b := 3) (by omega) (by omega)
    have ii : vp_in (nI i) 3 := vp_in_nI (by omega) (by omega)
    obtain ⟨sr', kX, kY⟩ := ih (i + 1) (upd sr (nI i).toNatClampNeg 1) (by omega)
    exact ⟨sr', fun post hp => br_f c ⟨ii, nm_e (nm_r (nI_1 i) (kX post hp))⟩, fun post hp => br_f c ⟨ii, nm_e (nm_r (nI_1 i) (kY post hp))⟩⟩
theorem bs_ini106 {post : SX → Prop} (hJ : ∀ fo so : Nat → Int32, (∀ j, j < 24 → fo j = -1 ∧ so j = -1) → ∃ n134 : Nat, wX_init_134 post (nI F) (nI h) n134 0 fo so iF ho la iS sh sr bu ib) : ∀ (d i n : Nat) (fo so : Nat → Int32), i + d = 24 → d < n → (∀ j, j < i → fo j = -1 ∧ so j = -1) → wX_init_106 post (nI F) (nI h) n (nI i) fo so iF ho la iS sh sr bu ib := by
  intro d
  induction d with
  | zero =>
    intro i n fo so hi hn hE
    obtain ⟨m, rfl⟩ := bs_fuel hn
    exact br_t (nI_le (a := 24) (by omega) (by omega)) (hJ fo so (fun j hj => hE j (by omega)))
  | succ d ih =>
    intro i n fo so hi hn hE
    obtain ⟨m, rfl⟩ := bs_fuel hn
    have ii : vp_in (nI i) 24 := vp_in_nI (by omega) (by omega)
    refine br_f (nI_ge (b := 24) (by omega) (by omega)) ?_
    rw [nI_clamp (n := i) (by omega)]
    refine ⟨ii, nm_e ⟨ii, nm_e (nm_r (nI_1 i) (ih (i + 1) m _ _ (by omega) (by omega) (fun j hj => ?_)))⟩⟩
    by_cases y : j = i
    · subst y; exact ⟨pk_us, pk_us⟩
    · rw [pk_un y, pk_un y]; exact hE j (by omega)
end
end
section
/-! ===== the relation, and what is owed ===== -/
/-- the component's pages have the reference's words, wherever they are; the shares are the same -/
def i_Rel (_ : Nat) (u : SX) (v : SY) : Prop := ∃ (F h : Nat) (fo so iF ho la iS sh bu ib : Nat → Int32), u = (nI F, nI h, fo, so, iF, ho, la, iS, sh, v.2, bu, ib) ∧ h < F ∧ bs_C F fo so ho sh ∧ bs_D v.1 fo so iF iS
theorem bs_rel {k F h : Nat} {W fo so iF ho la iS sh sr bu ib : Nat → Int32} (hh : h < F) (hC : bs_C F fo so ho sh) (hD : bs_D W fo so iF iS) : i_Rel k (nI F, nI h, fo, so, iF, ho, la, iS, sh, sr, bu, ib) (W, sr) := ⟨F, h, fo, so, iF, ho, la, iS, sh, bu, ib, rfl, hh, hC, hD⟩
theorem bs_el {k : Nat} {P : SX → SY → Prop} {u : SX} {v : SY} (I : i_Rel k u v) (g : ∀ (F h : Nat) (W fo so iF ho la iS sh sr bu ib : Nat → Int32), h < F → bs_C F fo so ho sh → bs_D W fo so iF iS → P (nI F, nI h, fo, so, iF, ho, la, iS, sh, sr, bu, ib) (W, sr)) : P u v := by
  obtain ⟨W, sr⟩ := v
  obtain ⟨F, h, fo, so, iF, ho, la, iS, sh, bu, ib, rfl, hh, hC, hD⟩ := I
  exact g F h W fo so iF ho la iS sh sr bu ib hh hC hD
theorem i_up {k : Nat} {u : SX} {v : SY} (h : i_Rel k u v) : i_Rel (k + 5) u v := h
/-! === guests and pages === -/
theorem bs_not {x : Int32} {a b : Nat} (h : nI b ≤ x) (hab : a < b) (hb : b < 2 ^ 31) : ¬ x ≤ nI a ∧ ¬ x < 0 := by
  rw [Int32.le_iff_toInt_le, nI_toInt hb] at h
  rw [Int32.le_iff_toInt_le, Int32.lt_iff_toInt_lt, nI_toInt (by omega), show (0 : Int32).toInt = 0 from by decide]
  omega
theorem bs_gx (x : Int32) : (x < 0 ∨ nI 3 ≤ x) ∨ ∃ g : Nat, g < 3 ∧ x = nI g := by
  rcases pk_ix x (n := 3) (by omega) with a | a | a
  · exact Or.inl (Or.inl a)
  · exact Or.inl (Or.inr a)
  · exact Or.inr a
theorem bs_px (x : Int32) : (x < 0 ∨ nI 8 ≤ x) ∨ ∃ g : Nat, g < 8 ∧ x = nI g := by
  rcases pk_ix x (n := 8) (by omega) with a | a | a
  · exact Or.inl (Or.inl a)
  · exact Or.inl (Or.inr a)
  · exact Or.inr a
theorem bs_xg {post : Int32 → Prop} {g : Nat} (hg : g < 3) (hJ : post 0) : wpX_badGuest post (nI g) := br_f (nI_pos (by omega)) (br_t (nI_le (b := 2) (by omega) (by omega)) hJ)
theorem bs_xgb {post : Int32 → Prop} {x : Int32} (hx : x < 0 ∨ nI 3 ≤ x) (hJ : post 1) : wpX_badGuest post x := by
  rcases hx with c | c
  · exact br_t c hJ
  · have ⟨c1, c2⟩ := bs_not (a := 2) c (by omega) (by omega)
    exact br_f c2 (br_f c1 hJ)
theorem bs_xp {post : Int32 → Prop} {g : Nat} (hg : g < 8) (hJ : post 0) : wpX_badPage post (nI g) := br_f (nI_pos (by omega)) (br_t (nI_le (b := 7) (by omega) (by omega)) hJ)
theorem bs_xpb {post : Int32 → Prop} {x : Int32} (hx : x < 0 ∨ nI 8 ≤ x) (hJ : post 1) : wpX_badPage post x := by
  rcases hx with c | c
  · exact br_t c hJ
  · have ⟨c1, c2⟩ := bs_not (a := 7) c (by omega) (by omega)
    exact br_f c2 (br_f c1 hJ)
section
variable {F h : Nat} {W fo so iF ho la iS sh sr bu ib : Nat → Int32}
theorem bs_yg {post : Int32 → Prop} {g : Nat} (hg : g < 3) (hJ : post 0) : wpY_badGuest post (W, sr) (nI g) := br_f (nI_pos (by omega)) (br_t (nI_le (b := 2) (by omega) (by omega)) hJ)
theorem bs_ygb {post : Int32 → Prop} {x : Int32} (hx : x < 0 ∨ nI 3 ≤ x) (hJ : post 1) : wpY_badGuest post (W, sr) x := by
  rcases hx with c | c
  · exact br_t c hJ
  · have ⟨c1, c2⟩ := bs_not (a := 2) c (by omega) (by omega)
    exact br_f c2 (br_f c1 hJ)
theorem bs_yp {post : Int32 → Prop} {g : Nat} (hg : g < 8) (hJ : post 0) : wpY_badPage post (W, sr) (nI g) := br_f (nI_pos (by omega)) (br_t (nI_le (b := 7) (by omega) (by omega)) hJ)
theorem bs_ypb {post : Int32 → Prop} {x : Int32} (hx : x < 0 ∨ nI 8 ≤ x) (hJ : post 1) : wpY_badPage post (W, sr) x := by
  rcases hx with c | c
  · exact br_t c hJ
  · have ⟨c1, c2⟩ := bs_not (a := 7) c (by omega) (by omega)
    exact br_f c2 (br_f c1 hJ)
theorem bs_read49 {post : Int32 → SX → Prop} {a p : Nat} (hC : bs_C F fo so ho sh) (hD : bs_D W fo so iF iS) (hp : p < 24) (ha : a < 32) (hJ : post (W (p * 4 + a % 4)) (nI F, nI h, fo, so, iF, ho, la, iS, sh, sr, bu, ib)) : wX_read_49 post (nI a) (nI p) (nI F) (nI h) fo so iF ho la iS sh sr bu ib := by
  have er : nI a - nI a / 4 * 4 = nI (a % 4) := pk_rem (d := 4) (by omega) (by omega) (by omega)
  unfold wX_read_49
  rw [er]
  exact ⟨by decide, bs_wordOf hC hD hp (Nat.mod_lt _ (by omega)) hJ⟩
end
theorem bs_pg {g a : Nat} (ha : a < 32) : nI g * 8 + nI a / 4 = nI (g * 8 + a / 4) := by
  have e : nI a / 4 = nI (a / 4) := pk_div (d := 4) (by omega) (by omega) (by omega)
  rw [e, bs_i8]
theorem i_vc0 (k0 : Int32) : wpX_init (fun u => wpY_init (fun v => i_Rel 1 u v) k0) k0 := by
  have fin : ∀ F : Nat, 3 ≤ F → F ≤ 16 → ∃ n106 : Nat, wX_init_106 (fun u => wpY_init (fun v => i_Rel 1 u v) k0) (nI F) 0 n106 0 (fun _ => 0) (fun _ => 0) (fun _ => 0) (fun _ => 0) (fun _ => 0) (fun _ => 0) (fun _ => 0) (fun _ => 0) (fun _ => 0) (fun _ => 0) := by
    intro F h3 h16
    refine ⟨25, bs_ini106 (h := 0) (fun fo so hE => ?_) 24 0 25 _ _ rfl (by omega) (fun j hj => absurd hj (by omega))⟩
    obtain ⟨sr', kX, kY⟩ := bs_ini3 (F := F) (h := 0) (W := fun _ => 0) (fo := fo) (so := so) (iF := fun _ => 0) (ho := fun _ => 0) (la := fun _ => 0) (iS := fun _ => 0) (sh := fun _ => 0) (bu := fun _ => 0) (ib := fun _ => 0) 3 0 (fun _ => 0) rfl
    refine ⟨4, kX _ ⟨4, kY _ (bs_rel (by omega) ⟨h3, h16, ⟨fun p hp => Or.inl (hE p hp).1, fun f hf => ?_⟩, ⟨fun p hp => Or.inl (hE p hp).2, fun f hf => ?_⟩, fun p hp => Or.inl (hE p hp).1⟩ (fun p hp w hw => ⟨fun _ _ _ => rfl, fun _ _ _ => rfl, fun _ _ => rfl⟩))⟩⟩
    · rw [bs_cnt_z 24 (fun j hj => by rw [(hE j hj).1]; exact bs_m1 (by omega))]
      exact nI_0.symm
    · rw [bs_cnt_z 24 (fun j hj => by rw [(hE j hj).2]; exact bs_m1 (by omega))]
      exact nI_0.symm
  unfold wpX_init wX_init_90
  rcases pk_ix k0 (n := 3) (by omega) with c | c | ⟨j, hj, rfl⟩
  · have c1 : ¬ (3 : Int32) ≤ k0 := by
      intro z
      have z1 := Int32.lt_of_le_of_lt z c
      exact absurd z1 (by decide)
    exact br_f c1 (br_t (by decide) (fin 3 (by omega) (by omega)))
  · refine br_t c (br_c (fun c2 => ?_) (fun _ => fin 16 (by omega) (by omega)))
    have c3 := (bs_not (a := 2) c (by omega) (by omega)).2
    obtain ⟨j, hj, rfl⟩ := nI_of c3
    have j3 : 3 ≤ j := (nI_leI (by omega) hj).mp c
    have j16 : j ≤ 16 := (nI_leI (b := 16) hj (by omega)).mp c2
    exact fin j j3 j16
  · exact br_f (nI_ge (b := 3) hj (by omega)) (br_t (by decide) (fin 3 (by omega) (by omega)))
theorem i_vc_write {k : Nat} {u : SX} {v : SY} (I : i_Rel k u v) (hk : k + 5 ≤ 2561) (v1 : Int32) (v2 : Int32) (v3 : Int32) : wpX_write (fun r u' => wpY_write (fun r' v' => r' = r ∧ i_Rel (k + 5) u' v') v v1 v2 v3) u v1 v2 v3 := by
  refine bs_el (P := fun u v => wpX_write (fun r u' => wpY_write (fun r' v' => r' = r ∧ i_Rel (k + 5) u' v') v v1 v2 v3) u v1 v2 v3) I ?_
  intro F h W fo so iF ho la iS sh sr bu ib hh hC hD
  have R := bs_rel (k := k + 5) (la := la) (sr := sr) (bu := bu) (ib := ib) hh hC hD
  unfold wpX_write wpY_write
  dsimp only
  rcases bs_gx v1 with b | ⟨g, hg, rfl⟩
  · exact bs_xgb b (br_f (by decide) (bs_ygb b (br_f (by decide) ⟨rfl, R⟩)))
  · rcases pk_ix v2 (n := 32) (by omega) with c | c | ⟨a, ha, rfl⟩
    · exact bs_xg hg (br_t rfl (br_t c (bs_yg hg (br_t rfl (br_t c ⟨rfl, R⟩)))))
    · have ⟨c1, c2⟩ := bs_not (a := 31) c (by omega) (by omega)
      exact bs_xg hg (br_t rfl (br_f c2 (br_f c1 (bs_yg hg (br_t rfl (br_f c2 (br_f c1 ⟨rfl, R⟩)))))))
    · have c2 : ¬ nI a < 0 := nI_pos (by omega)
      have c1 : nI a ≤ 31 := nI_le (b := 31) (by omega) (by omega)
      have er : nI a - nI a / 4 * 4 = nI (a % 4) := pk_rem (d := 4) (by omega) (by omega) (by omega)
      refine bs_xg hg (br_t rfl (br_f c2 (br_t c1 ⟨by decide, nm_r (bs_pg ha) (bs_ownFrame (p := g * 8 + a / 4) (by omega) hh hC hD (fun f h' fo so iF ho la iS sh bu ib hh' o => ?_))⟩)))
      have hf := o.2.2.1
      have h16 := o.1.2.1
      have o' := bs_O_wr (x := v3) o (by omega) (w := a % 4) (Nat.mod_lt _ (by omega))
      rw [show (g * 8 + a / 4) * 4 + a % 4 = g * 32 + a from by omega] at o'
      dsimp only
      rw [er, bs_i4, nI_clamp (n := f * 4 + a % 4) (by omega), bs_i32, nI_clamp (n := g * 32 + a) (by omega)]
      exact ⟨by decide, vp_in_nI (by omega) (by omega), nm_e (bs_yg hg (br_t rfl (br_f c2 (br_t c1 ⟨vp_in_nI (by omega) (by omega), nm_e ⟨rfl, bs_rel hh' o'.1 o'.2.1⟩⟩))))⟩
theorem i_vc_fill {k : Nat} {u : SX} {v : SY} (I : i_Rel k u v) (hk : k + 5 ≤ 2561) (v1 : Int32) (v2 : Int32) (v3 : Int32) (v4 : Int32) : wpX_fill (fun r u' => wpY_fill (fun r' v' => r' = r ∧ i_Rel (k + 5) u' v') v v1 v2 v3 v4) u v1 v2 v3 v4 := by
  refine bs_el (P := fun u v => wpX_fill (fun r u' => wpY_fill (fun r' v' => r' = r ∧ i_Rel (k + 5) u' v') v v1 v2 v3 v4) u v1 v2 v3 v4) I ?_
  intro F h W fo so iF ho la iS sh sr bu ib hh hC hD
  have R := bs_rel (k := k + 5) (la := la) (sr := sr) (bu := bu) (ib := ib) hh hC hD
  unfold wpX_fill wpY_fill
  dsimp only
  rcases bs_gx v1 with b | ⟨g, hg, rfl⟩
  · exact bs_xgb b (br_f (by decide) (bs_ygb b (br_f (by decide) ⟨rfl, R⟩)))
  · rcases bs_px v2 with b | ⟨q, hq, rfl⟩
    · exact bs_xg hg (br_t rfl (bs_xpb b (br_f (by decide) (bs_yg hg (br_t rfl (bs_ypb b (br_f (by decide) ⟨rfl, R⟩)))))))
    · refine bs_xg hg (br_t rfl (bs_xp hq (br_t rfl ?_)))
      rw [bs_i8]
      refine bs_ownFrame (by omega) hh hC hD (fun f h' fo so iF ho la iS sh bu ib hh' o => ?_)
      have hf := o.2.2.1
      have h16 := o.1.2.1
      obtain ⟨W', iF', o', kX, kY⟩ := bs_fill (h := h') (la := la) (sr := sr) (bu := bu) (ib := ib) (x := v3) (s := v4) (by omega) hg hq 4 0 W iF rfl o
      exact ⟨5, kX _ (bs_yg hg (br_t rfl (bs_yp hq (br_t rfl ⟨5, kY _ ⟨rfl, bs_rel hh' o'.1 o'.2.1⟩⟩))))⟩
theorem i_vc_copy {k : Nat} {u : SX} {v : SY} (I : i_Rel k u v) (hk : k + 5 ≤ 2561) (v1 : Int32) (v2 : Int32) (v3 : Int32) (v4 : Int32) : wpX_copy (fun r u' => wpY_copy (fun r' v' => r' = r ∧ i_Rel (k + 5) u' v') v v1 v2 v3 v4) u v1 v2 v3 v4 := by
  refine bs_el (P := fun u v => wpX_copy (fun r u' => wpY_copy (fun r' v' => r' = r ∧ i_Rel (k + 5) u' v') v v1 v2 v3 v4) u v1 v2 v3 v4) I ?_
  intro F h W fo so iF ho la iS sh sr bu ib hh hC hD
  have R := bs_rel (k := k + 5) (la := la) (sr := sr) (bu := bu) (ib := ib) hh hC hD
  unfold wpX_copy wpY_copy
  dsimp only
  rcases bs_gx v1 with b | ⟨f, hf, rfl⟩
  · exact bs_xgb b (br_f (by decide) (bs_ygb b (br_f (by decide) ⟨rfl, R⟩)))
  · rcases bs_gx v3 with b | ⟨t, ht, rfl⟩
    · exact bs_xg hf (br_t rfl (bs_xgb b (br_f (by decide) (bs_yg hf (br_t rfl (bs_ygb b (br_f (by decide) ⟨rfl, R⟩)))))))
    · rcases bs_px v2 with b | ⟨a, ha, rfl⟩
      · exact bs_xg hf (br_t rfl (bs_xg ht (br_t rfl (bs_xpb b (br_f (by decide) (bs_yg hf (br_t rfl (bs_yg ht (br_t rfl (bs_ypb b (br_f (by decide) ⟨rfl, R⟩)))))))))))
      · rcases bs_px v4 with b | ⟨b, hb, rfl⟩
        · exact bs_xg hf (br_t rfl (bs_xg ht (br_t rfl (bs_xp ha (br_t rfl (bs_xpb b (br_f (by decide) (bs_yg hf (br_t rfl (bs_yg ht (br_t rfl (bs_yp ha (br_t rfl (bs_ypb b (br_f (by decide) ⟨rfl, R⟩)))))))))))))))
        · refine bs_xg hf (br_t rfl (bs_xg ht (br_t rfl (bs_xp ha (br_t rfl (bs_xp hb (br_t rfl ?_)))))))
          rw [bs_i8, bs_i8]
          refine bs_attach (W' := bs_cw W ((f * 8 + a) * 4) ((t * 8 + b) * 4) 4) hC hD (by omega) (by omega) (fun j hj w hw => bs_cwp hw) (fun fo1 so1 ho1 sh1 hC1 hD1 => ?_)
          have y := bs_ycopy (W := W) (sr := sr) (post := fun r' v' => r' = 0 ∧ i_Rel (k + 5) (nI F, nI h, fo1, so1, iF, ho1, la, iS, sh1, sr, bu, ib) v') hf ha ht hb ⟨rfl, bs_rel hh hC1 hD1⟩ 4 0 5 rfl (by omega)
          rw [bs_cw_0] at y
          exact bs_yg hf (br_t rfl (bs_yg ht (br_t rfl (bs_yp ha (br_t rfl (bs_yp hb (br_t rfl ⟨5, y⟩)))))))
theorem i_vc_release {k : Nat} {u : SX} {v : SY} (I : i_Rel k u v) (hk : k + 5 ≤ 2561) (v1 : Int32) (v2 : Int32) : wpX_release (fun r u' => wpY_release (fun r' v' => r' = r ∧ i_Rel (k + 5) u' v') v v1 v2) u v1 v2 := by
  refine bs_el (P := fun u v => wpX_release (fun r u' => wpY_release (fun r' v' => r' = r ∧ i_Rel (k + 5) u' v') v v1 v2) u v1 v2) I ?_
  intro F h W fo so iF ho la iS sh sr bu ib hh hC hD
  have R := bs_rel (k := k + 5) (la := la) (sr := sr) (bu := bu) (ib := ib) hh hC hD
  unfold wpX_release wpY_release wpY_fill
  dsimp only
  rcases bs_gx v1 with b | ⟨g, hg, rfl⟩
  · exact bs_xgb b (br_f (by decide) (bs_ygb b (br_f (by decide) ⟨rfl, R⟩)))
  · rcases bs_px v2 with b | ⟨q, hq, rfl⟩
    · exact bs_xg hg (br_t rfl (bs_xpb b (br_f (by decide) (bs_yg hg (br_t rfl (bs_ypb b (br_f (by decide) ⟨rfl, R⟩)))))))
    · refine bs_xg hg (br_t rfl (bs_xp hq (br_t rfl ?_)))
      rw [bs_i8]
      refine bs_detach hC (by omega) (fun ho1 sh1 hC1 => ?_)
      obtain ⟨W', hW, kY⟩ := bs_yfill0 (sr := sr) hg hq 4 0 W rfl
      refine bs_yg hg (br_t rfl (bs_yp hq (br_t rfl ⟨5, kY _ ⟨rfl, bs_rel hh hC1 (bs_D_det hD (fun j hj w hw => ?_))⟩⟩)))
      by_cases y : j = g * 8 + q
      · rw [if_pos y]; exact (hW j hj w hw).1 y (by omega)
      · rw [if_neg y]; exact (hW j hj w hw).2 (Or.inl y)
theorem i_vc_cloneGuest {k : Nat} {u : SX} {v : SY} (I : i_Rel k u v) (hk : k + 5 ≤ 2561) (v1 : Int32) (v2 : Int32) : wpX_cloneGuest (fun r u' => wpY_cloneGuest (fun r' v' => r' = r ∧ i_Rel (k + 5) u' v') v v1 v2) u v1 v2 := by
  refine bs_el (P := fun u v => wpX_cloneGuest (fun r u' => wpY_cloneGuest (fun r' v' => r' = r ∧ i_Rel (k + 5) u' v') v v1 v2) u v1 v2) I ?_
  intro F h W fo so iF ho la iS sh sr bu ib hh hC hD
  have R := bs_rel (k := k + 5) (la := la) (sr := sr) (bu := bu) (ib := ib) hh hC hD
  unfold wpX_cloneGuest wpY_cloneGuest
  dsimp only
  rcases bs_gx v1 with b | ⟨f, hf, rfl⟩
  · exact bs_xgb b (br_f (by decide) (bs_ygb b (br_f (by decide) ⟨rfl, R⟩)))
  · rcases bs_gx v2 with b | ⟨t, ht, rfl⟩
    · exact bs_xg hf (br_t rfl (bs_xgb b (br_f (by decide) (bs_yg hf (br_t rfl (bs_ygb b (br_f (by decide) ⟨rfl, R⟩)))))))
    · refine bs_xg hf (br_t rfl (bs_xg ht (br_t rfl ⟨9, bs_xclone (W := W) hf ht (fun fo1 so1 ho1 sh1 hC1 hD1 => ?_) 8 0 9 fo so ho sh rfl (by omega) hC ?_⟩)))
      · have y := bs_yclone (W := W) (sr := sr) (post := fun r' v' => r' = 0 ∧ i_Rel (k + 5) (nI F, nI h, fo1, so1, iF, ho1, la, iS, sh1, sr, bu, ib) v') hf ht ⟨rfl, bs_rel hh hC1 hD1⟩ 32 0 33 rfl (by omega)
        rw [bs_cw_0] at y
        exact bs_yg hf (br_t rfl (bs_yg ht (br_t rfl ⟨33, y⟩)))
      · rw [show 0 * 4 = 0 from rfl, bs_cw_0]
        exact hD
theorem i_vc_shares {k : Nat} {u : SX} {v : SY} (I : i_Rel k u v) (hk : k + 5 ≤ 2561) (v1 : Int32) (v2 : Int32) : wpX_shares (fun r u' => wpY_shares (fun r' v' => r' = r ∧ i_Rel (k + 5) u' v') v v1 v2) u v1 v2 := by
  refine bs_el (P := fun u v => wpX_shares (fun r u' => wpY_shares (fun r' v' => r' = r ∧ i_Rel (k + 5) u' v') v v1 v2) u v1 v2) I ?_
  intro F h W fo so iF ho la iS sh sr bu ib hh hC hD
  have R := bs_rel (k := k + 5) (la := la) (sr := sr) (bu := bu) (ib := ib) hh hC hD
  unfold wpX_shares wpY_shares
  dsimp only
  rcases bs_gx v1 with b | ⟨g, hg, rfl⟩
  · exact bs_xgb b (br_f (by decide) (bs_ygb b (br_f (by decide) ⟨rfl, R⟩)))
  · have ig : vp_in (nI g) 3 := vp_in_nI hg (by omega)
    refine bs_xg hg (br_t rfl (br_c (fun c => bs_yg hg (br_t rfl (br_t c ⟨rfl, R⟩))) (fun c => br_c (fun c2 => ⟨ig, nm_e ⟨ig, nm_e (bs_yg hg (br_t rfl (br_f c (br_t c2 ⟨ig, nm_e ⟨ig, nm_e ⟨rfl, bs_rel hh hC hD⟩⟩⟩))))⟩⟩) (fun c2 => bs_yg hg (br_t rfl (br_f c (br_f c2 ⟨rfl, R⟩)))))))
theorem i_vc_tidy {k : Nat} {u : SX} {v : SY} (I : i_Rel k u v) (hk : k + 5 ≤ 2561) (v1 : Int32) : wpX_tidy (fun u' => wpY_tidy (fun v' => i_Rel (k + 5) u' v') v v1) u v1 := by
  refine bs_el (P := fun u v => wpX_tidy (fun u' => wpY_tidy (fun v' => i_Rel (k + 5) u' v') v v1) u v1) I ?_
  intro F h W fo so iF ho la iS sh sr bu ib hh hC hD
  exact bs_tidy hC hD (fun fo so ho la sh hC' hD' => bs_rel (k := k + 5) hh hC' hD')
theorem i_vc_read {k : Nat} {u : SX} {v : SY} (I : i_Rel k u v) (hk : k + 5 ≤ 2561) (v1 : Int32) (v2 : Int32) : wpX_read (fun r u' => wpY_read (fun r' => r' = r ∧ i_Rel (k + 5) u' v) v v1 v2) u v1 v2 := by
  refine bs_el (P := fun u v => wpX_read (fun r u' => wpY_read (fun r' => r' = r ∧ i_Rel (k + 5) u' v) v v1 v2) u v1 v2) I ?_
  intro F h W fo so iF ho la iS sh sr bu ib hh hC hD
  have R := bs_rel (k := k + 5) (la := la) (sr := sr) (bu := bu) (ib := ib) hh hC hD
  unfold wpX_read wpY_read
  dsimp only
  rcases bs_gx v1 with b | ⟨g, hg, rfl⟩
  · exact bs_xgb b (br_f (by decide) (bs_ygb b (br_f (by decide) ⟨rfl, R⟩)))
  · rcases pk_ix v2 (n := 32) (by omega) with c | c | ⟨a, ha, rfl⟩
    · exact bs_xg hg (br_t rfl (br_t c (bs_yg hg (br_t rfl (br_t c ⟨rfl, R⟩)))))
    · have ⟨c1, c2⟩ := bs_not (a := 31) c (by omega) (by omega)
      exact bs_xg hg (br_t rfl (br_f c2 (br_f c1 (bs_yg hg (br_t rfl (br_f c2 (br_f c1 ⟨rfl, R⟩)))))))
    · have c2 : ¬ nI a < 0 := nI_pos (by omega)
      have c1 : nI a ≤ 31 := nI_le (b := 31) (by omega) (by omega)
      have h16 := hC.2.1
      have hp : g * 8 + a / 4 < 24 := by omega
      have ip : vp_in (nI (g * 8 + a / 4)) 24 := vp_in_nI hp (by omega)
      rw [bs_i32, nI_clamp (n := g * 32 + a) (by omega)]
      have fin : ∀ la : Nat → Int32, wpY_badGuest (fun r_1 => (((r_1 = 0 → (((nI a < 0 → (0 = W ((g * 8 + a / 4) * 4 + a % 4) ∧ i_Rel (k + 5) (nI F, nI h, fo, so, iF, ho, la, iS, sh, sr, bu, ib) (W, sr))) ∧ (¬ nI a < 0 → (((nI a ≤ 31 → (vp_in (nI (g * 32 + a)) 96 ∧ (W (g * 32 + a) = W ((g * 8 + a / 4) * 4 + a % 4) ∧ i_Rel (k + 5) (nI F, nI h, fo, so, iF, ho, la, iS, sh, sr, bu, ib) (W, sr)))) ∧ (¬ nI a ≤ 31 → (0 = W ((g * 8 + a / 4) * 4 + a % 4) ∧ i_Rel (k + 5) (nI F, nI h, fo, so, iF, ho, la, iS, sh, sr, bu, ib) (W, sr))))))))) ∧ (¬ r_1 = 0 → (0 = W ((g * 8 + a / 4) * 4 + a % 4) ∧ i_Rel (k + 5) (nI F, nI h, fo, so, iF, ho, la, iS, sh, sr, bu, ib) (W, sr)))))) (W, sr) (nI g) := by
        intro la
        exact bs_yg hg (br_t rfl (br_f c2 (br_t c1 ⟨vp_in_nI (by omega) (by omega), congrArg W (by omega), bs_rel hh hC hD⟩)))
      refine bs_xg hg (br_t rfl (br_f c2 (br_t c1 ⟨by decide, nm_r (bs_pg ha) ⟨ip, ?_⟩⟩)))
      rw [nI_clamp (n := g * 8 + a / 4) (by omega)]
      rcases hC.2.2.1.1 _ hp with e | ⟨f, hf, e⟩
      · rw [e]
        exact br_t (by decide) (bs_read49 hC hD hp ha (fin la))
      · rw [e]
        exact br_f (nI_pos (by omega)) ⟨ip, vp_in_nI (by omega) (by omega), nm_e (bs_read49 hC hD hp ha (fin _))⟩
theorem i_vc_sum {k : Nat} {u : SX} {v : SY} (I : i_Rel k u v) (hk : k + 5 ≤ 2561) (v1 : Int32) (v2 : Int32) : wpX_sum (fun r => wpY_sum (fun r' => r' = r ∧ i_Rel (k + 5) u v) v v1 v2) u v1 v2 := by
  refine bs_el (P := fun u v => wpX_sum (fun r => wpY_sum (fun r' => r' = r ∧ i_Rel (k + 5) u v) v v1 v2) u v1 v2) I ?_
  intro F h W fo so iF ho la iS sh sr bu ib hh hC hD
  have R := bs_rel (k := k + 5) (la := la) (sr := sr) (bu := bu) (ib := ib) hh hC hD
  unfold wpX_sum wpY_sum
  dsimp only
  rcases bs_gx v1 with b | ⟨g, hg, rfl⟩
  · exact bs_xgb b (br_f (by decide) (bs_ygb b (br_f (by decide) ⟨rfl, R⟩)))
  · rcases bs_px v2 with b | ⟨q, hq, rfl⟩
    · exact bs_xg hg (br_t rfl (bs_xpb b (br_f (by decide) (bs_yg hg (br_t rfl (bs_ypb b (br_f (by decide) ⟨rfl, R⟩)))))))
    · obtain ⟨r, kX, kY⟩ := bs_sum (h := h) (la := la) (sr := sr) (bu := bu) (ib := ib) hg hq hC hD 4 0 0 rfl
      exact bs_xg hg (br_t rfl (bs_xp hq (br_t rfl ⟨5, kX _ (bs_yg hg (br_t rfl (bs_yp hq (br_t rfl ⟨5, kY _ ⟨rfl, R⟩⟩))))⟩)))
theorem bs_al_n (W : Nat → Int32) (p q : Nat) : narrow .boolean (.int (bs_al W p q)) = .int (bs_al W p q) := by
  by_cases e : bs_E W p q
  · rw [bs_al_1 e]; rfl
  · rw [bs_al_0 e]; rfl
theorem i_vc_same {k : Nat} {u : SX} {v : SY} (I : i_Rel k u v) (hk : k + 5 ≤ 2561) (v1 : Int32) (v2 : Int32) (v3 : Int32) (v4 : Int32) : wpX_same (fun r => wpY_same (fun r' => r' = r ∧ i_Rel (k + 5) u v) v v1 v2 v3 v4) u v1 v2 v3 v4 := by
  refine bs_el (P := fun u v => wpX_same (fun r => wpY_same (fun r' => r' = r ∧ i_Rel (k + 5) u v) v v1 v2 v3 v4) u v1 v2 v3 v4) I ?_
  intro F h W fo so iF ho la iS sh sr bu ib hh hC hD
  have R := bs_rel (k := k + 5) (la := la) (sr := sr) (bu := bu) (ib := ib) hh hC hD
  unfold wpX_same wpY_same
  dsimp only
  rcases bs_gx v1 with b | ⟨f, hf, rfl⟩
  · exact bs_xgb b (br_f (by decide) (bs_ygb b (br_f (by decide) ⟨rfl, R⟩)))
  · rcases bs_gx v3 with b | ⟨t, ht, rfl⟩
    · exact bs_xg hf (br_t rfl (bs_xgb b (br_f (by decide) (bs_yg hf (br_t rfl (bs_ygb b (br_f (by decide) ⟨rfl, R⟩)))))))
    · rcases bs_px v2 with b | ⟨a, ha, rfl⟩
      · exact bs_xg hf (br_t rfl (bs_xg ht (br_t rfl (bs_xpb b (br_f (by decide) (bs_yg hf (br_t rfl (bs_yg ht (br_t rfl (bs_ypb b (br_f (by decide) ⟨rfl, R⟩)))))))))))
      · rcases bs_px v4 with b | ⟨b, hb, rfl⟩
        · exact bs_xg hf (br_t rfl (bs_xg ht (br_t rfl (bs_xp ha (br_t rfl (bs_xpb b (br_f (by decide) (bs_yg hf (br_t rfl (bs_yg ht (br_t rfl (bs_yp ha (br_t rfl (bs_ypb b (br_f (by decide) ⟨rfl, R⟩)))))))))))))))
        · refine bs_xg hf (br_t rfl (bs_xg ht (br_t rfl (bs_xp ha (br_t rfl (bs_xp hb (br_t rfl ?_)))))))
          rw [bs_i8, bs_i8]
          exact bs_alike hC hD (by omega) (by omega) ⟨bs_al_n _ _ _, bs_yg hf (br_t rfl (bs_yg ht (br_t rfl (bs_yp ha (br_t rfl (bs_yp hb (br_t rfl (bs_yalike (by omega) (by omega) ⟨bs_al_n _ _ _, rfl, R⟩))))))))⟩
theorem i_vc_contents {k : Nat} {u : SX} {v : SY} (I : i_Rel k u v) (hk : k + 5 ≤ 2561) (v1 : Int32) : wpX_contents (fun r => wpY_contents (fun r' => r' = r ∧ i_Rel (k + 5) u v) v v1) u v1 := by
  refine bs_el (P := fun u v => wpX_contents (fun r => wpY_contents (fun r' => r' = r ∧ i_Rel (k + 5) u v) v v1) u v1) I ?_
  intro F h W fo so iF ho la iS sh sr bu ib hh hC hD
  have R := bs_rel (k := k + 5) (la := la) (sr := sr) (bu := bu) (ib := ib) hh hC hD
  unfold wpX_contents wpY_contents
  dsimp only
  rcases bs_gx v1 with b | ⟨g, hg, rfl⟩
  · exact bs_xgb b (br_f (by decide) (bs_ygb b (br_f (by decide) ⟨rfl, R⟩)))
  · obtain ⟨r, kX, kY⟩ := bs_cont13 (h := h) (la := la) (sr := sr) (bu := bu) (ib := ib) hg hC hD 8 0 0 rfl
    exact bs_xg hg (br_t rfl ⟨9, kX _ (bs_yg hg (br_t rfl ⟨9, kY _ ⟨rfl, R⟩⟩))⟩)
theorem i_vc_twins {k : Nat} {u : SX} {v : SY} (I : i_Rel k u v) (hk : k + 5 ≤ 2561) (v1 : Int32) (v2 : Int32) : wpX_twins (fun r => wpY_twins (fun r' => r' = r ∧ i_Rel (k + 5) u v) v v1 v2) u v1 v2 := by
  refine bs_el (P := fun u v => wpX_twins (fun r => wpY_twins (fun r' => r' = r ∧ i_Rel (k + 5) u v) v v1 v2) u v1 v2) I ?_
  intro F h W fo so iF ho la iS sh sr bu ib hh hC hD
  have R := bs_rel (k := k + 5) (la := la) (sr := sr) (bu := bu) (ib := ib) hh hC hD
  unfold wpX_twins wpY_twins
  dsimp only
  rcases bs_gx v1 with b | ⟨g, hg, rfl⟩
  · exact bs_xgb b (br_f (by decide) (bs_ygb b (br_f (by decide) ⟨rfl, R⟩)))
  · rcases bs_px v2 with b | ⟨q, hq, rfl⟩
    · exact bs_xg hg (br_t rfl (bs_xpb b (br_f (by decide) (bs_yg hg (br_t rfl (bs_ypb b (br_f (by decide) ⟨rfl, R⟩)))))))
    · obtain ⟨r, kX, kY⟩ := bs_twins (h := h) (la := la) (sr := sr) (bu := bu) (ib := ib) hg hq hC hD 24 0 0 rfl
      exact bs_xg hg (br_t rfl (bs_xp hq (br_t rfl ⟨25, kX _ (bs_yg hg (br_t rfl (bs_yp hq (br_t rfl ⟨25, kY _ ⟨rfl, R⟩⟩))))⟩)))
end
