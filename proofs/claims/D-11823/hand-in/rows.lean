section
theorem wb_tb (n : Nat) : (lN n).toBitVec = BitVec.ofNat 64 n := rfl
theorem wb_inj {a b : Int64} (h : a.toBitVec = b.toBitVec) : a = b := Int64.toBitVec_inj.mp h
theorem wb_tn {n : Nat} (h : n < 2 ^ 64) : (lN n).toBitVec.toNat = n := by rw [wb_tb, BitVec.toNat_ofNat, Nat.mod_eq_of_lt h]
theorem wb_of (x : Int64) : ∃ n, n < 2 ^ 64 ∧ x = lN n := ⟨x.toBitVec.toNat, x.toBitVec.isLt, wb_inj (by rw [wb_tb]; simp)⟩
theorem wb_of32 (x : Int32) : ∃ n, n < 2 ^ 32 ∧ x = nI n := ⟨x.toBitVec.toNat, x.toBitVec.isLt, Int32.toBitVec_inj.mp (by show _ = BitVec.ofNat 32 _; simp)⟩
theorem wb_c : ∀ k, k < 64 → ((nI k).toInt64 &&& 63) = lN k := by decide +kernel
theorem wb_cu : ∀ k, k < 64 → ((nI k).toInt64.toUInt64 &&& Int64.toUInt64 63) = UInt64.ofNat k := by decide +kernel
theorem wb_sm : ∀ k, k < 64 → (BitVec.ofNat 64 k).smod 64 = BitVec.ofNat 64 k := by decide +kernel
theorem wb_pw {a b : Nat} (h : a ≤ b) : 2 ^ b = 2 ^ a * 2 ^ (b - a) := by rw [← Nat.pow_add]; congr 1; omega
theorem wb_lt2 {a b : Nat} (h : a < b) : 2 ^ a < 2 ^ b := Nat.pow_lt_pow_right (by decide) h
theorem wb_mod (n : Nat) : lN n = lN (n % 2 ^ 64) := wb_inj (by rw [wb_tb, wb_tb]; apply BitVec.eq_of_toNat_eq; rw [BitVec.toNat_ofNat, BitVec.toNat_ofNat, Nat.mod_mod])
theorem wb_shr {n k : Nat} (hn : n < 2 ^ 64) (hk : k < 64) : ((lN n).toUInt64 >>> ((nI k).toInt64.toUInt64 &&& Int64.toUInt64 63)).toInt64 = lN (n / 2 ^ k) := by
  rw [wb_cu k hk]
  apply wb_inj
  apply BitVec.eq_of_toNat_eq
  show ((lN n).toUInt64 >>> UInt64.ofNat k).toNat = (BitVec.ofNat 64 _).toNat
  have h1 : (UInt64.ofNat k).toNat = k := by
    show (BitVec.ofNat 64 k).toNat = k
    rw [BitVec.toNat_ofNat, Nat.mod_eq_of_lt (by omega)]
  have h2 : (lN n).toUInt64.toNat = n := wb_tn hn
  rw [UInt64.toNat_shiftRight, h1, h2, Nat.mod_eq_of_lt hk, Nat.shiftRight_eq_div_pow, BitVec.toNat_ofNat, Nat.mod_eq_of_lt (Nat.lt_of_le_of_lt (Nat.div_le_self _ _) hn)]
theorem wb_shl (n : Nat) {k : Nat} (hk : k < 64) : lN n <<< ((nI k).toInt64 &&& 63) = lN (n * 2 ^ k) := by
  rw [wb_c k hk]
  apply wb_inj
  rw [Int64.toBitVec_shiftLeft, wb_tb, wb_tb, wb_tb, wb_sm k hk]
  apply BitVec.eq_of_toNat_eq
  rw [BitVec.shiftLeft_eq', BitVec.toNat_shiftLeft, BitVec.toNat_ofNat, BitVec.toNat_ofNat, BitVec.toNat_ofNat, Nat.mod_eq_of_lt (show k < 2 ^ 64 by omega), Nat.shiftLeft_eq, Nat.mul_mod, Nat.mod_mod, ← Nat.mul_mod]
theorem wb_and {a b : Nat} (ha : a < 2 ^ 64) (hb : b < 2 ^ 64) : lN a &&& lN b = lN (a &&& b) := by
  apply wb_inj
  rw [Int64.toBitVec_and, wb_tb, wb_tb, wb_tb]
  apply BitVec.eq_of_toNat_eq
  rw [BitVec.toNat_and, BitVec.toNat_ofNat, BitVec.toNat_ofNat, BitVec.toNat_ofNat, Nat.mod_eq_of_lt ha, Nat.mod_eq_of_lt hb, Nat.mod_eq_of_lt (Nat.and_lt_two_pow _ hb)]
theorem wb_or {a b : Nat} (ha : a < 2 ^ 64) (hb : b < 2 ^ 64) : lN a ||| lN b = lN (a ||| b) := by
  apply wb_inj
  rw [Int64.toBitVec_or, wb_tb, wb_tb, wb_tb]
  apply BitVec.eq_of_toNat_eq
  rw [BitVec.toNat_or, BitVec.toNat_ofNat, BitVec.toNat_ofNat, BitVec.toNat_ofNat, Nat.mod_eq_of_lt ha, Nat.mod_eq_of_lt hb, Nat.mod_eq_of_lt (Nat.or_lt_two_pow ha hb)]
theorem wb_mask {n k : Nat} (hn : n < 2 ^ 64) (hk : k < 64) : lN n &&& lN (2 ^ k - 1) = lN (n % 2 ^ k) := by
  rw [wb_and hn (by have := wb_lt2 hk; omega), Nat.and_two_pow_sub_one_eq_mod]
theorem wb_a1 {n : Nat} (hn : n < 2 ^ 64) : lN n &&& 1 = lN (n % 2) := wb_mask (k := 1) hn (by decide)
theorem wb_bit {n k : Nat} (hn : n < 2 ^ 64) (hk : k < 64) : ((lN n).toUInt64 >>> ((nI k).toInt64.toUInt64 &&& Int64.toUInt64 63)).toInt64 &&& 1 = lN (n / 2 ^ k % 2) := by
  rw [wb_shr hn hk, wb_a1 (Nat.lt_of_le_of_lt (Nat.div_le_self _ _) hn)]
/-! the pure pictures of the arrays: words, the two orders, the values -/
def fd_L (w : Nat → Nat) : Nat → Int64 := fun j => lN (w j)
def fd_O (p q : Nat → Nat) : Nat → Int32 := fun j => nI (if j < 48 then p j else q (j - 48))
def fd_V (v : Nat → Nat → Int32) : Nat → Int32 := fun j => v (j / 6) (j % 6)
def fd_up (w : Nat → Nat) (k x : Nat) : Nat → Nat := fun j => if j = k then x else w j
def fd_uV (v : Nat → Nat → Int32) (d f : Nat) (x : Int32) : Nat → Nat → Int32 := fun e g => if e = d ∧ g = f then x else v e g
theorem fd_Vat (v : Nat → Nat → Int32) {d f : Nat} (hf : f < 6) : fd_V v (6 * d + f) = v d f := by
  show v ((6 * d + f) / 6) ((6 * d + f) % 6) = v d f
  rw [show (6 * d + f) / 6 = d by omega, show (6 * d + f) % 6 = f by omega]
theorem fd_Lup (w : Nat → Nat) (k x : Nat) : vp_updL (fd_L w) k (lN x) = fd_L (fd_up w k x) := by
  funext j
  show (if j = k then lN x else lN (w j)) = lN (if j = k then x else w j)
  split <;> rfl
theorem fd_Vup (v : Nat → Nat → Int32) {d f : Nat} (hf : f < 6) (x : Int32) : upd (fd_V v) (6 * d + f) x = fd_V (fd_uV v d f x) := by
  funext j
  show (if j = 6 * d + f then x else v (j / 6) (j % 6)) = (if j / 6 = d ∧ j % 6 = f then x else v (j / 6) (j % 6))
  by_cases h : j = 6 * d + f
  · rw [if_pos h, if_pos (by omega)]
  · rw [if_neg h, if_neg (by omega)]
theorem fd_O4 (p q : Nat → Nat) {j : Nat} (h : j < 48) : fd_O p q j = nI (p j) := by
  show nI (if j < 48 then p j else q (j - 48)) = nI (p j)
  rw [if_pos h]
theorem fd_O5 (p q : Nat → Nat) (j : Nat) : fd_O p q (48 + j) = nI (q j) := by
  show nI (if 48 + j < 48 then p (48 + j) else q (48 + j - 48)) = nI (q j)
  rw [if_neg (by omega), show 48 + j - 48 = j by omega]
theorem fd_six {d f : Nat} : (6 : Int32) * nI d + nI f = nI (6 * d + f) := by
  rw [show (6 : Int32) = nI 6 from rfl, pk_mul, nI_add]
theorem fd_ten {d f : Nat} : (10 : Int32) * nI d + nI f = nI (10 * d + f) := by
  rw [show (10 : Int32) = nI 10 from rfl, pk_mul, nI_add]
theorem fd_base {f : Nat} (h : 4 ≤ f) : (48 : Int32) * (nI f - 4) = nI (48 * (f - 4)) := by
  rw [show (4 : Int32) = nI 4 from rfl, show (48 : Int32) = nI 48 from rfl, pk_sub h, pk_mul]
theorem fd_1sh {d : Nat} (h : d < 64) : (1 : Int64) <<< ((nI d).toInt64 &&& 63) = lN (2 ^ d) := by
  rw [show (1 : Int64) = lN 1 from rfl, wb_shl 1 h, Nat.one_mul]
/-! the small tests -/
theorem fd_in {post : Int32 → Prop} {u : St0} {X d : Nat} (hX : X < 2 ^ 64) (hd : d < 64) (H1 : X.testBit d = true → post 1) (H0 : X.testBit d = false → post 0) : wpX_in post u (lN X) (nI d) := by
  unfold wpX_in
  rw [wb_bit hX hd]
  rcases Nat.mod_two_eq_zero_or_one (X / 2 ^ d) with h | h
  · rw [h]
    exact br_f (by decide) (H0 (by rw [Nat.testBit_eq_decide_div_mod_eq, h]; rfl))
  · rw [h]
    exact br_t rfl (H1 (by rw [Nat.testBit_eq_decide_div_mod_eq, h]; rfl))
theorem fd_isGroup {post : Int32 → Prop} {u : St0} {f : Nat} (hf : f ≤ 3) (H : post 1) : wpX_isGroup post u (nI f) :=
  br_f (nI_pos (by omega)) (pk_lt 3 f (fun z => absurd z (by omega)) (fun _ => H))
theorem fd_isTermOf {post : Int32 → Prop} {u : St0} {f t : Nat} (hf : f ≤ 3) (ht : t < (if f = 3 then 8 else 10)) (H : post 1) : wpX_isTermOf post u (nI f) (nI t) := by
  have h10 : t < 10 := by split at ht <;> omega
  refine br_f (nI_pos (by omega)) (pk_eq f 3 (fun z => ?_) (fun z => ?_))
  · rw [if_pos z] at ht
    exact pk_le 8 t (fun z => absurd z (by omega)) (fun _ => H)
  · exact pk_le 10 t (fun z => absurd z (by omega)) (fun _ => H)
theorem fd_isNum {post : Int32 → Prop} {u : St0} {f : Nat} (hf : f = 4 ∨ f = 5) (H : post 1) : wpX_isNumberField post u (nI f) := by
  rcases hf with rfl | rfl
  · exact br_t rfl H
  · exact br_f (by decide) (br_t rfl H)
theorem fd_isNumN {post : Int32 → Prop} {u : St0} {f : Nat} (hf : f < 4) (H : post 0) : wpX_isNumberField post u (nI f) :=
  pk_eq f 4 (fun z => absurd z (by omega)) (fun _ => pk_eq f 5 (fun z => absurd z (by omega)) (fun _ => H))
theorem fd_isField {post : Int32 → Prop} {u : St0} {f : Nat} (hf : f < 6) (H : post 1) : wpX_isField post u (nI f) :=
  br_f (nI_pos (by omega)) (pk_le 6 f (fun z => absurd z (by omega)) (fun _ => H))
theorem fd_isTF {post : Int32 → Prop} {u : St0} {f : Nat} (hf : f < 3) (H : post 1) : wpX_isTermField post u (nI f) :=
  br_f (nI_pos (by omega)) (pk_le 3 f (fun z => absurd z (by omega)) (fun _ => H))
theorem fd_isTFN {post : Int32 → Prop} {u : St0} {f : Nat} (hf : 3 ≤ f) (h2 : f < 2 ^ 31) (H : post 0) : wpX_isTermField post u (nI f) :=
  br_f (nI_pos h2) (pk_le 3 f (fun _ => H) (fun z => absurd z (by omega)))
theorem fd_isTerm {post : Int32 → Prop} {u : St0} {t : Nat} (ht : t < 10) (H : post 1) : wpX_isTerm post u (nI t) :=
  br_f (nI_pos (by omega)) (pk_le 10 t (fun z => absurd z (by omega)) (fun _ => H))
theorem fd_isDoc {post : Int32 → Prop} {T d : Nat} {n : Int32} {a1 a2 : Nat → Int64} {a3 a4 a5 a6 a7 : Nat → Int32} {a8 : Nat → Int64} (hT : T < 2 ^ 64) (hd : d < 48) (hb : T.testBit d = true) (H : post 1) :
    wpX_isDocument post (lN T, n, a1, a2, a3, a4, a5, a6, a7, a8) (nI d) := by
  unfold wpX_isDocument
  dsimp only
  refine br_f (nI_pos (by omega)) (pk_le 48 d (fun z => absurd z (by omega)) (fun _ => ?_))
  rw [wb_bit hT (by omega)]
  refine br_t ?_ H
  rw [Nat.testBit_eq_decide_div_mod_eq] at hb
  rw [of_decide_eq_true hb]
  rfl
/-! the number of bits of a word -/
def fd_pr : Nat → Nat → Nat
  | 0, _ => 0
  | n + 1, x => if x = 0 then 0 else fd_pr n (x &&& (x - 1)) + 1
def fd_pz : Nat → Nat → Bool
  | 0, x => x == 0
  | n + 1, x => x == 0 || fd_pz n (x &&& (x - 1))
def fd_pc (x : Nat) : Nat := fd_pr 10 x
theorem fd_pz10 : ∀ x, x < 1024 → fd_pz 10 x = true := by decide +kernel
theorem fd_ones_l {post : Int32 → Prop} : ∀ (n x c i : Nat), fd_pz n x = true → x < 2 ^ 63 → i + n ≤ 47 → post (nI (c + fd_pr n x)) → wX_ones_7 post (n + 1) (nI c) (lN x) (nI i) := by
  intro n
  induction n with
  | zero =>
    intro x c i hz hx hi H
    have e : x = 0 := by simpa [fd_pz] using hz
    subst e
    exact pk_le 48 i (fun z => absurd z (by omega)) (fun _ => br_t rfl H)
  | succ n ih =>
    intro x c i hz hx hi H
    by_cases e : x = 0
    · subst e
      exact pk_le 48 i (fun z => absurd z (by omega)) (fun _ => br_t rfl H)
    · have hz' : fd_pz n (x &&& (x - 1)) = true := by simpa [fd_pz, e] using hz
      have H' : post (nI (c + 1 + fd_pr n (x &&& (x - 1)))) := by
        rw [show c + 1 + fd_pr n (x &&& (x - 1)) = c + fd_pr (n + 1) x by simp only [fd_pr, if_neg e]; omega]
        exact H
      have hne : ¬ lN x = 0 := fun z => e ((pk_lEQ (b := 0) hx (by decide)).mp z)
      have hle : x &&& (x - 1) ≤ x := Nat.and_le_left
      have he : lN x &&& (lN x - 1) = lN (x &&& (x - 1)) := by
        rw [show (1 : Int64) = lN 1 from rfl, lN_sub (by omega), wb_and (by omega) (by omega)]
      exact pk_le 48 i (fun z => absurd z (by omega)) (fun _ => br_f hne (nm_r he (nm_r (nI_1 c) (nm_r (nI_1 i) (ih _ _ _ hz' (by omega) (by omega) H')))))
theorem fd_ones {post : Int32 → Prop} {u : St0} {x : Nat} (hx : x < 1024) (H : post (nI (fd_pc x))) : wpX_ones post u (lN x) :=
  ⟨11, fd_ones_l 10 x 0 0 (fd_pz10 x hx) (by omega) (by omega) (by rw [Nat.zero_add]; exact H)⟩
end
section
/-! placeOf: a search; enter and leave: a place made in, and taken from, an order -/
section
variable {T : Int64} {a1 a2 : Nat → Int64} {a3 a4 a5 a6 a7 : Nat → Int32} {a8 : Nat → Int64}
theorem fd_place {post : Int32 → Prop} (f n p : Nat) {N D : Int32} (o : Nat → Nat) (hf : f = 4 ∨ f = 5) (hn : n ≤ 48) (hp : p ≤ n)
    (ho : ∀ j, j < n → o j < 48 ∧ a4 (48 * (f - 4) + j) = nI (o j))
    (hl : ∀ j, j < n → ((a3 (6 * o j + f) < N ∨ (a3 (6 * o j + f) = N ∧ nI (o j) < D)) ↔ j < p)) (H : post (nI p)) :
    wpX_placeOf post (T, nI n, a1, a2, a3, a4, a5, a6, a7, a8) (nI f) N D := by
  unfold wpX_placeOf
  dsimp only
  refine nm_r (fd_base (by omega)) ?_
  refine pk_loop (fun g i (s : Nat × Nat) => wX_placeOf_20 post (nI f) N D (nI (48 * (f - 4))) T (nI n) a1 a2 a3 a4 a5 a6 a7 a8 g (nI s.1) (nI s.2) (nI i)) (fun i s => s.1 ≤ p ∧ p ≤ s.2 ∧ s.2 ≤ n ∧ s.2 - s.1 < 2 ^ (7 - i)) 7 0 (0, n) (by omega) ⟨Nat.zero_le _, hp, Nat.le_refl _, ?_⟩ ?_ ?_
  · show n - 0 < 2 ^ (7 - 0)
    omega
  · rintro g ⟨lo, hi⟩ ⟨h1, h2, h3, h4⟩
    dsimp only at h1 h2 h3 h4
    have e : lo = p := by
      have h5 : hi - lo < 1 := h4
      omega
    subst e
    exact pk_le 7 7 (fun _ => H) (fun z => absurd z (by omega))
  · rintro g i ⟨lo, hi⟩ hi7 ⟨h1, h2, h3, h4⟩ hw
    dsimp only at h1 h2 h3 h4
    refine pk_le 7 i (fun z => absurd z (by omega)) (fun _ => pk_le hi lo (fun z => ?_) (fun z => ?_))
    · have e : lo = p := by omega
      subst e
      exact H
    · obtain ⟨ho1, ho2⟩ := ho ((lo + hi) / 2) (by omega)
      have hl' := hl ((lo + hi) / 2) (by omega)
      have hpw : 2 ^ (7 - i) = 2 * 2 ^ (7 - (i + 1)) := by
        rw [show 7 - i = (7 - (i + 1)) + 1 by omega, Nat.pow_succ]
        omega
      have hA := fun z : (lo + hi) / 2 < p => hw ((lo + hi) / 2 + 1, hi) ⟨by dsimp only; omega, by dsimp only; omega, by dsimp only; omega, by dsimp only; omega⟩
      have hB := fun z : p ≤ (lo + hi) / 2 => hw (lo, (lo + hi) / 2) ⟨by dsimp only; omega, by dsimp only; omega, by dsimp only; omega, by dsimp only; omega⟩
      refine ⟨by decide, nm_r (e' := nI ((lo + hi) / 2)) ?_ ⟨pk_in (48 * (f - 4) + (lo + hi) / 2) 96 (by omega) (nI_add _ _), nm_r (e' := nI (o ((lo + hi) / 2))) ?_ ⟨pk_in (6 * o ((lo + hi) / 2) + f) 288 (by omega) fd_six, nm_r (e' := a3 (6 * o ((lo + hi) / 2) + f)) ?_ ?_⟩⟩⟩
      · rw [nI_add, show (2 : Int32) = nI 2 from rfl, pk_div (by omega) (by omega) (by omega)]
      · rw [nI_add, nI_clamp (by omega), ho2]
      · rw [fd_six, nI_clamp (by omega)]
      · refine br_c (fun c => nm_r (nI_1 _) (nm_r (nI_1 i) (hA (hl'.mp (Or.inl c))))) (fun c => br_c (fun c2 => br_c (fun c3 => nm_r (nI_1 i) (hB ?_)) (fun c3 => nm_r (nI_1 _) (nm_r (nI_1 i) (hA (hl'.mp (Or.inr ⟨c2, Int32.not_le.mp c3⟩)))))) (fun c2 => nm_r (nI_1 i) (hB ?_)))
        · rcases Nat.lt_or_ge ((lo + hi) / 2) p with y | y
          · rcases hl'.mpr y with t | t
            · exact absurd t c
            · exact absurd c3 (Int32.not_le.mpr t.2)
          · exact y
        · rcases Nat.lt_or_ge ((lo + hi) / 2) p with y | y
          · rcases hl'.mpr y with t | t
            · exact absurd t c
            · exact absurd t.1 c2
          · exact y
/-- every place of the order holds a document's number -/
def fd_E (a : Nat → Int32) : Prop := ∀ j, ∃ o : Nat, o < 48 ∧ a j = nI o
theorem fd_placeW {post : Int32 → Prop} (f n : Nat) {N D : Int32} (hf : f = 4 ∨ f = 5) (hn : n ≤ 48) (hE : fd_E a4) (H : ∀ p, p ≤ n → post (nI p)) :
    wpX_placeOf post (T, nI n, a1, a2, a3, a4, a5, a6, a7, a8) (nI f) N D := by
  unfold wpX_placeOf
  dsimp only
  refine nm_r (fd_base (by omega)) ?_
  refine pk_loop (fun g i (s : Nat × Nat) => wX_placeOf_20 post (nI f) N D (nI (48 * (f - 4))) T (nI n) a1 a2 a3 a4 a5 a6 a7 a8 g (nI s.1) (nI s.2) (nI i)) (fun i s => s.1 ≤ n ∧ s.2 ≤ n) 7 0 (0, n) (by omega) ⟨Nat.zero_le _, Nat.le_refl _⟩ ?_ ?_
  · rintro g ⟨lo, hi⟩ ⟨h1, h2⟩
    exact pk_le 7 7 (fun _ => H _ h1) (fun z => absurd z (by omega))
  · rintro g i ⟨lo, hi⟩ hi7 ⟨h1, h2⟩ hw
    dsimp only at h1 h2
    refine pk_le 7 i (fun z => absurd z (by omega)) (fun _ => pk_le hi lo (fun z => H _ h1) (fun z => ?_))
    obtain ⟨o, ho1, ho2⟩ := hE (48 * (f - 4) + (lo + hi) / 2)
    have hA := hw ((lo + hi) / 2 + 1, hi) ⟨by dsimp only; omega, by dsimp only; omega⟩
    have hB := hw (lo, (lo + hi) / 2) ⟨by dsimp only; omega, by dsimp only; omega⟩
    refine ⟨by decide, nm_r (e' := nI ((lo + hi) / 2)) ?_ ⟨pk_in (48 * (f - 4) + (lo + hi) / 2) 96 (by omega) (nI_add _ _), nm_r (e' := nI o) ?_ ⟨pk_in (6 * o + f) 288 (by omega) fd_six, nm_e ?_⟩⟩⟩
    · rw [nI_add, show (2 : Int32) = nI 2 from rfl, pk_div (by omega) (by omega) (by omega)]
    · rw [nI_add, nI_clamp (by omega), ho2]
    · exact br_c (fun c => nm_r (nI_1 _) (nm_r (nI_1 i) hA)) (fun c => br_c (fun c2 => br_c (fun c3 => nm_r (nI_1 i) hB) (fun c3 => nm_r (nI_1 _) (nm_r (nI_1 i) hA))) (fun c2 => nm_r (nI_1 i) hB))
def fd_ins (a : Nat → Int32) (B p n : Nat) (x : Int32) : Nat → Int32 := fun j => if j = B + p then x else if B + p < j ∧ j ≤ B + n then a (j - 1) else a j
def fd_del (a : Nat → Int32) (B p n : Nat) : Nat → Int32 := fun j => if B + p ≤ j ∧ j + 1 < B + n then a (j + 1) else a j
theorem fd_Eins {a : Nat → Int32} {B p n d : Nat} (h : fd_E a) (hd : d < 48) : fd_E (fd_ins a B p n (nI d)) := by
  intro j
  show ∃ o : Nat, o < 48 ∧ (if j = B + p then nI d else if B + p < j ∧ j ≤ B + n then a (j - 1) else a j) = nI o
  split
  · exact ⟨d, hd, rfl⟩
  · split
    · exact h _
    · exact h _
theorem fd_Edel {a : Nat → Int32} {B p n : Nat} (h : fd_E a) : fd_E (fd_del a B p n) := by
  intro j
  show ∃ o : Nat, o < 48 ∧ (if B + p ≤ j ∧ j + 1 < B + n then a (j + 1) else a j) = nI o
  split
  · exact h _
  · exact h _
theorem fd_enter_l {post : St2 → Prop} {mn : Int32} (B p n : Nat) (d : Int32) (hB : B ≤ 48) (hn : n ≤ 47) (hp : p ≤ n) (H : post (T, mn, a1, a2, a3, fd_ins a4 B p n d, a5, a6, a7, a8)) :
    ∃ g, wX_enter_32 post d (nI B) (nI p) T mn g (nI n) a1 a2 a3 a4 a5 a6 a7 a8 := by
  have key : ∀ (e : Nat) (s : Nat → Int32), p + e ≤ n → s = (fun j => if B + (p + e) < j ∧ j ≤ B + n then a4 (j - 1) else a4 j) → wX_enter_32 post d (nI B) (nI p) T mn (e + 1) (nI (p + e)) a1 a2 a3 s a5 a6 a7 a8 := by
    intro e
    induction e with
    | zero =>
      intro s he hs
      refine pk_le (p + 0) p (fun _ => ⟨pk_in (B + p) 96 (by omega) (nI_add _ _), nm_r ?_ H⟩) (fun z => absurd z (by omega))
      rw [nI_add, nI_clamp (by omega), hs]
      rfl
    | succ e ih =>
      intro s he hs
      refine pk_le (p + (e + 1)) p (fun z => absurd z (by omega)) (fun _ => ⟨pk_in (B + (p + e)) 96 (by omega) ?_, pk_in (B + (p + (e + 1))) 96 (by omega) (nI_add _ _), nm_e (nm_r (pk_m1 (p + e)) (ih _ (by omega) ?_))⟩)
      · rw [nI_add]
        exact nI_pred (B + (p + e))
      · rw [nI_add, show nI (B + (p + (e + 1))) - 1 = nI (B + (p + e)) from nI_pred (B + (p + e)), nI_clamp (by omega), nI_clamp (by omega), hs]
        funext j
        show (if j = B + (p + (e + 1)) then (if B + (p + (e + 1)) < B + (p + e) ∧ B + (p + e) ≤ B + n then a4 (B + (p + e) - 1) else a4 (B + (p + e))) else (if B + (p + (e + 1)) < j ∧ j ≤ B + n then a4 (j - 1) else a4 j)) = (if B + (p + e) < j ∧ j ≤ B + n then a4 (j - 1) else a4 j)
        by_cases h : j = B + (p + (e + 1))
        · rw [if_pos h, if_neg (by omega), if_pos (by omega), h]
          rfl
        · rw [if_neg h]
          by_cases h2 : B + (p + (e + 1)) < j ∧ j ≤ B + n
          · rw [if_pos h2, if_pos (by omega)]
          · rw [if_neg h2, if_neg (by omega)]
  have k := key (n - p) a4 (by omega) (by funext j; rw [if_neg (by omega)])
  rw [show p + (n - p) = n by omega] at k
  exact ⟨_, k⟩
theorem fd_leave_l {post : St2 → Prop} (B p n : Nat) (hB : B ≤ 48) (hn : n ≤ 48) (h1 : 1 ≤ n) (hp : p ≤ n) (H : post (T, nI n, a1, a2, a3, fd_del a4 B p n, a5, a6, a7, a8)) :
    ∃ g, wX_leave_30 post (nI B) T (nI n) g (nI p) a1 a2 a3 a4 a5 a6 a7 a8 := by
  have hn1 : nI n - 1 = nI (n - 1) := by rw [show (1 : Int32) = nI 1 from rfl, pk_sub h1]
  by_cases hpn : p = n
  · have e : fd_del a4 B p n = a4 := by
      funext j
      show (if B + p ≤ j ∧ j + 1 < B + n then a4 (j + 1) else a4 j) = a4 j
      rw [if_neg (by omega)]
    rw [e] at H
    exact ⟨1, pk_le (n - 1) p (fun _ => H) (fun z => absurd z (by omega)) hn1⟩
  · refine pk_loop (fun g i s => wX_leave_30 post (nI B) T (nI n) g (nI i) a1 a2 a3 s a5 a6 a7 a8) (fun i s => p ≤ i ∧ s = fun j => if B + p ≤ j ∧ j < B + i then a4 (j + 1) else a4 j) (n - 1) p a4 (by omega) ⟨Nat.le_refl _, ?_⟩ ?_ ?_
    · funext j
      rw [if_neg (by omega)]
    · rintro g s ⟨_, hs⟩
      have e : s = fd_del a4 B p n := by
        rw [hs]
        funext j
        show (if B + p ≤ j ∧ j < B + (n - 1) then a4 (j + 1) else a4 j) = (if B + p ≤ j ∧ j + 1 < B + n then a4 (j + 1) else a4 j)
        by_cases h : B + p ≤ j ∧ j < B + (n - 1)
        · rw [if_pos h, if_pos (by omega)]
        · rw [if_neg h, if_neg (by omega)]
      subst e
      exact pk_le (n - 1) (n - 1) (fun _ => H) (fun z => absurd z (by omega)) hn1
    · rintro g i s hi ⟨hpi, hs⟩ hw
      refine pk_le (n - 1) i (fun z => absurd z (by omega)) (fun _ => ⟨pk_in (B + i + 1) 96 (by omega) ?_, pk_in (B + i) 96 (by omega) (nI_add _ _), nm_e (nm_r (nI_1 i) (hw _ ⟨by omega, ?_⟩))⟩) hn1
      · rw [nI_add, nI_1]
      · rw [nI_add, nI_1, nI_clamp (by omega), nI_clamp (by omega), hs]
        funext j
        show (if j = B + i then (if B + p ≤ B + i + 1 ∧ B + i + 1 < B + i then a4 (B + i + 1 + 1) else a4 (B + i + 1)) else (if B + p ≤ j ∧ j < B + i then a4 (j + 1) else a4 j)) = (if B + p ≤ j ∧ j < B + (i + 1) then a4 (j + 1) else a4 j)
        by_cases h : j = B + i
        · rw [if_pos h, if_neg (by omega), if_pos (by omega), h]
        · rw [if_neg h]
          by_cases h2 : B + p ≤ j ∧ j < B + i
          · rw [if_pos h2, if_pos (by omega)]
          · rw [if_neg h2, if_neg (by omega)]
theorem fd_enterE {post : St2 → Prop} (f n p d : Nat) (o : Nat → Nat) (hf : f = 4 ∨ f = 5) (hn : n ≤ 47) (hp : p ≤ n) (hd : d < 48)
    (ho : ∀ j, j < n → o j < 48 ∧ a4 (48 * (f - 4) + j) = nI (o j))
    (hl : ∀ j, j < n → ((a3 (6 * o j + f) < a3 (6 * d + f) ∨ (a3 (6 * o j + f) = a3 (6 * d + f) ∧ nI (o j) < nI d)) ↔ j < p))
    (H : post (T, nI n, a1, a2, a3, fd_ins a4 (48 * (f - 4)) p n (nI d), a5, a6, a7, a8)) :
    wpX_enter post (T, nI n, a1, a2, a3, a4, a5, a6, a7, a8) (nI f) (nI d) := by
  unfold wpX_enter
  dsimp only
  refine nm_r (fd_base (by omega)) ⟨pk_in (6 * d + f) 288 (by omega) fd_six, ?_⟩
  rw [fd_six, nI_clamp (by omega)]
  exact fd_place f n p o hf (by omega) hp ho hl (fd_enter_l _ p n _ (by omega) hn hp H)
theorem fd_enterW {post : St2 → Prop} (f n d : Nat) (hf : f = 4 ∨ f = 5) (hn : n ≤ 47) (hd : d < 48) (hE : fd_E a4)
    (H : ∀ p, post (T, nI n, a1, a2, a3, fd_ins a4 (48 * (f - 4)) p n (nI d), a5, a6, a7, a8)) :
    wpX_enter post (T, nI n, a1, a2, a3, a4, a5, a6, a7, a8) (nI f) (nI d) := by
  unfold wpX_enter
  dsimp only
  refine nm_r (fd_base (by omega)) ⟨pk_in (6 * d + f) 288 (by omega) fd_six, ?_⟩
  exact fd_placeW f n hf (by omega) hE (fun p hp => fd_enter_l _ p n _ (by omega) hn hp (H p))
theorem fd_leaveE {post : St2 → Prop} (f n p d : Nat) (o : Nat → Nat) (hf : f = 4 ∨ f = 5) (hn : n ≤ 48) (h1 : 1 ≤ n) (hp : p ≤ n) (hd : d < 48)
    (ho : ∀ j, j < n → o j < 48 ∧ a4 (48 * (f - 4) + j) = nI (o j))
    (hl : ∀ j, j < n → ((a3 (6 * o j + f) < a3 (6 * d + f) ∨ (a3 (6 * o j + f) = a3 (6 * d + f) ∧ nI (o j) < nI d)) ↔ j < p))
    (H : post (T, nI n, a1, a2, a3, fd_del a4 (48 * (f - 4)) p n, a5, a6, a7, a8)) :
    wpX_leave post (T, nI n, a1, a2, a3, a4, a5, a6, a7, a8) (nI f) (nI d) := by
  unfold wpX_leave
  dsimp only
  refine nm_r (fd_base (by omega)) ⟨pk_in (6 * d + f) 288 (by omega) fd_six, ?_⟩
  rw [fd_six, nI_clamp (by omega)]
  exact fd_place f n p o hf (by omega) hp ho hl (fd_leave_l _ p n (by omega) hn h1 hp H)
theorem fd_leaveW {post : St2 → Prop} (f n d : Nat) (hf : f = 4 ∨ f = 5) (hn : n ≤ 48) (h1 : 1 ≤ n) (hd : d < 48) (hE : fd_E a4)
    (H : ∀ p, post (T, nI n, a1, a2, a3, fd_del a4 (48 * (f - 4)) p n, a5, a6, a7, a8)) :
    wpX_leave post (T, nI n, a1, a2, a3, a4, a5, a6, a7, a8) (nI f) (nI d) := by
  unfold wpX_leave
  dsimp only
  refine nm_r (fd_base (by omega)) ⟨pk_in (6 * d + f) 288 (by omega) fd_six, ?_⟩
  exact fd_placeW f n hf (by omega) hE (fun p hp => fd_leave_l _ p n (by omega) hn h1 hp (H p))
end
end
section
/-! mark, refresh, make, set: what is stored, with no filter on -/
section
variable {T : Int64} {mn : Int32} {a1 a2 : Nat → Int64} {a3 a4 a5 a6 a7 : Nat → Int32} {a8 : Nat → Int64}
def fd_mk (a : Nat → Int64) (k : Nat) (x : Int64) : Nat → Int64 := vp_updL a k (a k ||| x)
theorem fd_markT {post : St2 → Prop} {d f t : Nat} (hd : d < 64) (hf : f < 3) (ht : t < 10) (H : post (T, mn, fd_mk a1 (10 * f + t) (lN (2 ^ d)), a2, a3, a4, a5, a6, a7, a8)) :
    wpX_mark post (T, mn, a1, a2, a3, a4, a5, a6, a7, a8) (nI d) (nI f) (nI t) 1 := by
  unfold wpX_mark
  dsimp only
  refine nm_r (fd_1sh hd) (fd_isTF hf (br_f (by decide) (nm_r fd_ten (br_f (by decide) ⟨pk_in (10 * f + t) 30 (by omega), pk_in (10 * f + t) 30 (by omega), nm_r ?_ H⟩))))
  rw [nI_clamp (by omega)]
  rfl
theorem fd_markTW {post : St2 → Prop} {d f t : Nat} (hd : d < 64) (hf : f < 3) (ht : t < 10) (H : ∀ b1, post (T, mn, b1, a2, a3, a4, a5, a6, a7, a8)) :
    wpX_mark post (T, mn, a1, a2, a3, a4, a5, a6, a7, a8) (nI d) (nI f) (nI t) 0 := by
  unfold wpX_mark
  dsimp only
  exact nm_r (fd_1sh hd) (fd_isTF hf (br_f (by decide) (nm_r fd_ten (br_t rfl ⟨pk_in (10 * f + t) 30 (by omega), pk_in (10 * f + t) 30 (by omega), nm_e (H _)⟩))))
theorem fd_z8 : ∀ i, i < 8 → ¬ (((0 : Int32) >>> (nI i &&& 31)) &&& 1) = 1 := by decide +kernel
theorem fd_b8 : ∀ g, g < 8 → ∀ i, i < 8 → (((nI (2 ^ g) >>> (nI i &&& 31)) &&& 1) = 1 ↔ i = g) := by decide +kernel
theorem fd_mark0 {post : St2 → Prop} {d : Nat} {on : Int32} (hd : d < 64) (H : post (T, mn, a1, a2, a3, a4, a5, a6, a7, a8)) :
    wpX_mark post (T, mn, a1, a2, a3, a4, a5, a6, a7, a8) (nI d) 3 0 on := by
  unfold wpX_mark
  dsimp only
  refine nm_r (fd_1sh hd) (fd_isTFN (f := 3) (by omega) (by omega) (br_t rfl ?_))
  exact pk_loop (σ := Unit) (fun g i _ => wX_mark_63 post 0 on (lN (2 ^ d)) T mn g (nI i) a1 a2 a3 a4 a5 a6 a7 a8) (fun _ _ => True) 8 0 () (by omega) trivial
    (fun g _ _ => pk_le 8 8 (fun _ => H) (fun z => absurd z (by omega)))
    (fun g i _ hi _ hw => pk_le 8 i (fun z => absurd z (by omega)) (fun _ => br_f (fd_z8 i hi) (nm_r (nI_1 i) (hw () trivial))))
theorem fd_markG {post : St2 → Prop} {d g : Nat} (hd : d < 64) (hg : g < 8) (H : post (T, mn, a1, fd_mk a2 g (lN (2 ^ d)), a3, a4, a5, a6, a7, a8)) :
    wpX_mark post (T, mn, a1, a2, a3, a4, a5, a6, a7, a8) (nI d) 3 (nI (2 ^ g)) 1 := by
  unfold wpX_mark
  dsimp only
  refine nm_r (fd_1sh hd) (fd_isTFN (f := 3) (by omega) (by omega) (br_t rfl ?_))
  refine pk_loop (fun n i s => wX_mark_63 post (nI (2 ^ g)) 1 (lN (2 ^ d)) T mn n (nI i) a1 s a3 a4 a5 a6 a7 a8) (fun i s => s = if g < i then fd_mk a2 g (lN (2 ^ d)) else a2) 8 0 a2 (by omega) ?_ ?_ ?_
  · rw [if_neg (by omega)]
  · intro n s hs
    rw [if_pos hg] at hs
    subst hs
    exact pk_le 8 8 (fun _ => H) (fun z => absurd z (by omega))
  · intro n i s hi hs hw
    refine pk_le 8 i (fun z => absurd z (by omega)) (fun _ => ek_if (fd_b8 g hg i hi) (fun e => ?_) (fun e => ?_))
    · subst e
      rw [if_neg (by omega)] at hs
      subst hs
      refine br_f (by decide) ⟨pk_in i 8 hi, pk_in i 8 hi, nm_e (nm_r (nI_1 i) (hw _ ?_))⟩
      rw [if_pos (by omega), nI_clamp (by omega)]
      rfl
    · refine nm_r (nI_1 i) (hw _ ?_)
      rw [hs]
      by_cases h : g < i
      · rw [if_pos h, if_pos (by omega)]
      · rw [if_neg h, if_neg (by omega)]
theorem fd_markGW {post : St2 → Prop} {d : Nat} {x : Int32} (hd : d < 64) (H : ∀ b2, post (T, mn, a1, b2, a3, a4, a5, a6, a7, a8)) :
    wpX_mark post (T, mn, a1, a2, a3, a4, a5, a6, a7, a8) (nI d) 3 x 0 := by
  unfold wpX_mark
  dsimp only
  refine nm_r (fd_1sh hd) (fd_isTFN (f := 3) (by omega) (by omega) (br_t rfl ?_))
  refine pk_loop (fun n i s => wX_mark_63 post x 0 (lN (2 ^ d)) T mn n (nI i) a1 s a3 a4 a5 a6 a7 a8) (fun i s => True) 8 0 a2 (by omega) trivial ?_ ?_
  · intro n s _
    exact pk_le 8 8 (fun _ => H s) (fun z => absurd z (by omega))
  · intro n i s hi _ hw
    exact pk_le 8 i (fun z => absurd z (by omega)) (fun _ => br_c (fun _ => br_t rfl ⟨pk_in i 8 hi, pk_in i 8 hi, nm_e (nm_r (nI_1 i) (hw _ trivial))⟩) (fun _ => nm_r (nI_1 i) (hw _ trivial)))
theorem fd_ref0 {post : St2 → Prop} {f : Nat} (hf : f < 6) (h5 : a5 f = 0) (H : post (T, mn, a1, a2, a3, a4, a5, a6, a7, vp_updL a8 f T)) :
    wpX_refresh post (T, mn, a1, a2, a3, a4, a5, a6, a7, a8) (nI f) := by
  unfold wpX_refresh
  dsimp only
  rw [nI_clamp (by omega)]
  exact ⟨pk_in f 6 hf, br_t h5 ⟨pk_in f 6 hf, nm_e H⟩⟩
def fd_all (a : Nat → Int64) (x : Int64) : Nat → Int64 := fun j => if j < 6 then x else a j
theorem fd_refAll {post : St2 → Prop} (h5 : ∀ j, j < 6 → a5 j = 0) (H : post (T, mn, a1, a2, a3, a4, a5, a6, a7, fd_all a8 T)) :
    wpX_refreshAll post (T, mn, a1, a2, a3, a4, a5, a6, a7, a8) := by
  unfold wpX_refreshAll
  dsimp only
  refine pk_loop (fun n i s => wX_refreshAll_2 post n (nI i) T mn a1 a2 a3 a4 a5 a6 a7 s) (fun i s => s = fun j => if j < i then T else a8 j) 6 0 a8 (by omega) ?_ ?_ ?_
  · funext j
    rw [if_neg (by omega)]
  · intro n s hs
    subst hs
    exact pk_le 6 6 (fun _ => H) (fun z => absurd z (by omega))
  · intro n i s hi hs hw
    refine pk_le 6 i (fun z => absurd z (by omega)) (fun _ => fd_ref0 hi (h5 i hi) (nm_r (nI_1 i) (hw _ ?_)))
    rw [hs]
    funext j
    show (if j = i then T else if j < i then T else a8 j) = (if j < i + 1 then T else a8 j)
    by_cases h : j = i
    · rw [if_pos h, if_pos (by omega)]
    · rw [if_neg h]
      by_cases h2 : j < i
      · rw [if_pos h2, if_pos (by omega)]
      · rw [if_neg h2, if_neg (by omega)]
def fd_row (v : Nat → Nat → Int32) (d : Nat) (x y z : Int32) : Nat → Nat → Int32 := fun e g => if e = d then (if g = 0 then x else if g = 1 then y else if g = 2 then z else 0) else v e g
theorem fd_or64 (a b : Nat) : lN a ||| lN b = lN (a ||| b) := by
  apply wb_inj
  rw [Int64.toBitVec_or, wb_tb, wb_tb, wb_tb]
  apply BitVec.eq_of_toNat_eq
  rw [BitVec.toNat_or, BitVec.toNat_ofNat, BitVec.toNat_ofNat, BitVec.toNat_ofNat, Nat.or_mod_two_pow]
theorem fd_makeA {post : Int32 → St2 → Prop} {X n d a b c : Nat} {v : Nat → Nat → Int32} (hX : X < 2 ^ 64) (hb1 : ∀ j, j < d → X.testBit j = true) (hb0 : X.testBit d = false) (hd : d < 48) (hn : n < 48) (ha : a < 10) (hb : b < 10) (hc : c < 10)
    (H : wpX_enter (fun u => match u with
      | (t, mn, b1, b2, b3, b4, b5, b6, b7, b8) => wpX_enter (fun u => match u with
        | (t, mn, b1, b2, b3, b4, b5, b6, b7, b8) => ∀ f : Int32, f = mn + 1 → wpX_refreshAll (fun u => match u with
          | (t, mn, b1, b2, b3, b4, b5, b6, b7, b8) => post (nI d) (t, mn, b1, b2, b3, b4, b5, b6, b7, b8)) (t, f, b1, b2, b3, b4, b5, b6, b7, b8)) (t, mn, b1, b2, b3, b4, b5, b6, b7, b8) 5 (nI d))
      (lN (X ||| 2 ^ d), nI n, fd_mk (fd_mk (fd_mk a1 a (lN (2 ^ d))) (10 + b) (lN (2 ^ d))) (20 + c) (lN (2 ^ d)), a2, fd_V (fd_row v d (nI a) (nI b) (nI c)), a4, a5, a6, a7, a8) 4 (nI d)) :
    wpX_make post (lN X, nI n, a1, a2, fd_V v, a4, a5, a6, a7, a8) (nI a) (nI b) (nI c) := by
  unfold wpX_make
  dsimp only
  refine fd_isTerm ha (br_f (by decide) (fd_isTerm hb (br_f (by decide) (fd_isTerm hc (br_f (by decide) (pk_lt n 48 (fun _ => ?_) (fun z => absurd z (by omega))))))))
  have h73 : ∃ g, wX_make_73 post (nI a) (nI b) (nI c) (nI d) (lN (X ||| 2 ^ d)) (nI n) g 0 a1 a2 (fd_V v) a4 a5 a6 a7 a8 := by
    refine pk_loop (fun g i s => wX_make_73 post (nI a) (nI b) (nI c) (nI d) (lN (X ||| 2 ^ d)) (nI n) g (nI i) a1 a2 s a4 a5 a6 a7 a8) (fun i s => s = fd_V (fun e g => if e = d ∧ g < i then (if g = 0 then nI a else if g = 1 then nI b else if g = 2 then nI c else 0) else v e g)) 6 0 (fd_V v) (by omega) ?_ ?_ ?_
    · congr 1
      funext e g
      rw [if_neg (by omega)]
    · intro g s hs
      have e : s = fd_V (fd_row v d (nI a) (nI b) (nI c)) := by
        rw [hs]
        funext j
        show (if j / 6 = d ∧ j % 6 < 6 then _ else _) = (if j / 6 = d then _ else _)
        by_cases h : j / 6 = d
        · rw [if_pos h, if_pos ⟨h, by omega⟩]
        · rw [if_neg h, if_neg (fun z => h z.1)]
      subst e
      refine pk_le 6 6 (fun _ => ?_) (fun z => absurd z (by omega))
      refine fd_markT (f := 0) (by omega) (by omega) ha (fd_markT (f := 1) (by omega) (by omega) hb (fd_markT (f := 2) (by omega) (by omega) hc ?_))
      rw [show 10 * 0 + a = a by omega, show 10 * 1 + b = 10 + b by omega, show 10 * 2 + c = 20 + c by omega]
      exact H
    · intro g i s hi hs hw
      have st : ∀ x : Int32, x = (if i = 0 then nI a else if i = 1 then nI b else if i = 2 then nI c else 0) → upd s ((6 : Int32) * nI d + nI i).toNatClampNeg x = fd_V (fun e g => if e = d ∧ g < i + 1 then (if g = 0 then nI a else if g = 1 then nI b else if g = 2 then nI c else 0) else v e g) := by
        intro x hx
        rw [fd_six, nI_clamp (by omega), hs, fd_Vup _ hi, hx]
        congr 1
        funext e g
        show (if e = d ∧ g = i then _ else (if e = d ∧ g < i then _ else _)) = (if e = d ∧ g < i + 1 then _ else _)
        by_cases h : e = d ∧ g = i
        · rw [if_pos h, if_pos (show e = d ∧ g < i + 1 by omega), h.2]
        · rw [if_neg h]
          by_cases h2 : e = d ∧ g < i
          · rw [if_pos h2, if_pos (show e = d ∧ g < i + 1 by omega)]
          · rw [if_neg h2, if_neg (show ¬ (e = d ∧ g < i + 1) by omega)]
      refine pk_le 6 i (fun z => absurd z (by omega)) (fun _ => pk_eq i 0 (fun e => ⟨pk_in (6 * d + i) 288 (by omega) fd_six, nm_e (nm_r (nI_1 i) (hw _ (st _ ?_)))⟩) (fun e => pk_eq i 1 (fun e1 => ⟨pk_in (6 * d + i) 288 (by omega) fd_six, nm_e (nm_r (nI_1 i) (hw _ (st _ ?_)))⟩) (fun e1 => pk_eq i 2 (fun e2 => ⟨pk_in (6 * d + i) 288 (by omega) fd_six, nm_e (nm_r (nI_1 i) (hw _ (st _ ?_)))⟩) (fun e2 => ⟨pk_in (6 * d + i) 288 (by omega) fd_six, nm_e (nm_r (nI_1 i) (hw _ (st _ ?_)))⟩))))
      · rw [if_pos e]
      · rw [if_neg e, if_pos e1]
      · rw [if_neg e, if_neg e1, if_pos e2]
      · rw [if_neg e, if_neg e1, if_neg e2]
  refine pk_loop (σ := Unit) (fun g i _ => wX_make_39 post (nI a) (nI b) (nI c) (lN X) (nI n) a1 a2 (fd_V v) a4 a5 a6 a7 a8 g (nI i)) (fun _ _ => True) d 0 () (by omega) trivial ?_ ?_
  · intro g _ _
    show wX_make_39 post (nI a) (nI b) (nI c) (lN X) (nI n) a1 a2 (fd_V v) a4 a5 a6 a7 a8 (g + 1) (nI d)
    unfold wX_make_39
    refine fd_in hX (by omega) (fun z => absurd z (by rw [hb0]; decide)) (fun _ => br_t rfl (nm_r ?_ h73))
    rw [fd_1sh (by omega), fd_or64]
  · intro g i _ hi _ hw
    show wX_make_39 post (nI a) (nI b) (nI c) (lN X) (nI n) a1 a2 (fd_V v) a4 a5 a6 a7 a8 (g + 1) (nI i)
    unfold wX_make_39
    exact fd_in hX (by omega) (fun _ => br_f (by decide) (nm_r (nI_1 i) (hw () trivial))) (fun z => absurd z (by rw [hb1 i hi]; decide))
/-! set -/
theorem fd_fits3 {post : Int32 → Prop} {u : St0} {x : Nat} (hx : x ≤ 255) (H : post 1) : wpX_fits post u 3 (nI x) := by
  unfold wpX_fits
  exact fd_isTFN (f := 3) (by omega) (by omega) (br_t rfl (br_t rfl (br_f (nI_pos (by omega)) (pk_lt 255 x (fun z => absurd z (by omega)) (fun _ => H)))))
theorem fd_fitsN {post : Int32 → Prop} {u : St0} {f : Nat} {x : Int32} (hf : f = 4 ∨ f = 5) (h1 : ¬ x < -999) (h2 : ¬ 999 < x) (H : post 1) : wpX_fits post u (nI f) x := by
  unfold wpX_fits
  exact fd_isTFN (by omega) (by omega) (br_t rfl (pk_eq f 3 (fun z => absurd z (by omega)) (fun _ => br_f h1 (br_f h2 H))))
theorem fd_set0 {post : Int32 → St2 → Prop} {X d f : Nat} {x : Int32} (hX : X < 2 ^ 64) (hd : d < 48) (hb : X.testBit d = true) (hf : f = 4 ∨ f = 5) (h1 : ¬ x < -999) (h2 : ¬ 999 < x) (he : a3 (6 * d + f) = x)
    (H : post 0 (lN X, mn, a1, a2, a3, a4, a5, a6, a7, a8)) : wpX_set post (lN X, mn, a1, a2, a3, a4, a5, a6, a7, a8) (nI d) (nI f) x := by
  unfold wpX_set
  dsimp only
  refine fd_isDoc hX hd hb (br_f (by decide) (fd_isField (by omega) (br_f (by decide) (fd_fitsN hf h1 h2 (br_f (by decide) (nm_r fd_six ⟨pk_in (6 * d + f) 288 (by omega), nm_r (e' := x) ?_ (br_t rfl H)⟩))))))
  rw [nI_clamp (by omega), he]
theorem fd_set3 {post : Int32 → St2 → Prop} {X d g : Nat} (hX : X < 2 ^ 64) (hd : d < 48) (hb : X.testBit d = true) (hg : g < 8) (he : a3 (6 * d + 3) = 0) (h5 : a5 3 = 0)
    (H : post 1 (lN X, mn, a1, fd_mk a2 g (lN (2 ^ d)), upd a3 (6 * d + 3) (nI (2 ^ g)), a4, a5, a6, a7, vp_updL a8 3 (lN X))) : wpX_set post (lN X, mn, a1, a2, a3, a4, a5, a6, a7, a8) (nI d) 3 (nI (2 ^ g)) := by
  unfold wpX_set
  dsimp only
  have hp : 2 ^ g ≤ 2 ^ 7 := Nat.pow_le_pow_right (by decide) (by omega)
  have hp0 : 0 < 2 ^ g := Nat.pow_pos (by decide)
  have hne : ¬ (0 : Int32) = nI (2 ^ g) := fun z => absurd ((nI_eq (a := 0) (by omega) (by omega)).mp z) (by omega)
  refine fd_isDoc hX hd hb (br_f (by decide) (fd_isField (f := 3) (by omega) (br_f (by decide) (fd_fits3 (by omega) (br_f (by decide) (nm_r (fd_six (f := 3)) ⟨pk_in (6 * d + 3) 288 (by omega), nm_r (e' := 0) ?_ (br_f hne (fd_isNumN (f := 3) (by omega) (br_t rfl (fd_mark0 (by omega) (fd_markG (by omega) hg ⟨pk_in (6 * d + 3) 288 (by omega), nm_e ?_⟩)))))⟩))))))
  · rw [nI_clamp (by omega), he]
  · rw [nI_clamp (by omega)]
    unfold wX_set_131
    exact fd_ref0 (f := 3) (by omega) h5 H
theorem fd_setN {post : Int32 → St2 → Prop} {X n d f p q : Nat} {x : Int32} {o o' : Nat → Nat} (hX : X < 2 ^ 64) (hd : d < 48) (hb : X.testBit d = true) (hf : f = 4 ∨ f = 5) (h1 : ¬ x < -999) (h2 : ¬ 999 < x) (he : ¬ a3 (6 * d + f) = x) (h5 : a5 f = 0)
    (hn : n ≤ 47) (hp : p ≤ n + 1) (hq : q ≤ n)
    (ho : ∀ j, j < n + 1 → o j < 48 ∧ a4 (48 * (f - 4) + j) = nI (o j))
    (hl : ∀ j, j < n + 1 → ((a3 (6 * o j + f) < a3 (6 * d + f) ∨ (a3 (6 * o j + f) = a3 (6 * d + f) ∧ nI (o j) < nI d)) ↔ j < p))
    (ho' : ∀ j, j < n → o' j < 48 ∧ fd_del a4 (48 * (f - 4)) p (n + 1) (48 * (f - 4) + j) = nI (o' j))
    (hl' : ∀ j, j < n → ((upd a3 (6 * d + f) x (6 * o' j + f) < x ∨ (upd a3 (6 * d + f) x (6 * o' j + f) = x ∧ nI (o' j) < nI d)) ↔ j < q))
    (H : post 1 (lN X, nI (n + 1), a1, a2, upd a3 (6 * d + f) x, fd_ins (fd_del a4 (48 * (f - 4)) p (n + 1)) (48 * (f - 4)) q n (nI d), a5, a6, a7, vp_updL a8 f (lN X))) :
    wpX_set post (lN X, nI (n + 1), a1, a2, a3, a4, a5, a6, a7, a8) (nI d) (nI f) x := by
  unfold wpX_set
  dsimp only
  refine fd_isDoc hX hd hb (br_f (by decide) (fd_isField (by omega) (br_f (by decide) (fd_fitsN hf h1 h2 (br_f (by decide) (nm_r fd_six ⟨pk_in (6 * d + f) 288 (by omega), nm_r (e' := a3 (6 * d + f)) ?_ (br_f he (fd_isNum hf (br_f (by decide) (fd_leaveE f (n + 1) p d o hf (by omega) (by omega) hp hd ho hl (nm_r (nI_pred n) ⟨pk_in (6 * d + f) 288 (by omega), nm_e ?_⟩)))))⟩))))))
  · rw [nI_clamp (by omega)]
  · rw [nI_clamp (by omega)]
    refine fd_enterE f n q d o' hf hn hq hd ho' ?_ (nm_r (nI_1 n) ?_)
    · rw [pk_us]
      exact hl'
    · unfold wX_set_131
      exact fd_ref0 (by omega) h5 H
end
end
section
/-! the state after i documents, and one turn of the law's first loop -/
def fd_insN (o : Nat → Nat) (p n x : Nat) : Nat → Nat := fun j => if j = p then x else if p < j ∧ j ≤ n then o (j - 1) else o j
def fd_delN (o : Nat → Nat) (p n : Nat) : Nat → Nat := fun j => if p ≤ j ∧ j + 1 < n then o (j + 1) else o j
theorem fd_ins4 (o q : Nat → Nat) {p n d : Nat} (hp : p ≤ n) (hn : n ≤ 47) : fd_ins (fd_O o q) 0 p n (nI d) = fd_O (fd_insN o p n d) q := by
  funext j
  show (if j = 0 + p then nI d else if 0 + p < j ∧ j ≤ 0 + n then nI (if j - 1 < 48 then o (j - 1) else q (j - 1 - 48)) else nI (if j < 48 then o j else q (j - 48))) = nI (if j < 48 then (if j = p then d else if p < j ∧ j ≤ n then o (j - 1) else o j) else q (j - 48))
  by_cases h : j = p
  · rw [if_pos (show j = 0 + p by omega), if_pos (show j < 48 by omega), if_pos h]
  · rw [if_neg (show ¬ j = 0 + p by omega)]
    by_cases h2 : p < j ∧ j ≤ n
    · rw [if_pos (show 0 + p < j ∧ j ≤ 0 + n by omega), if_pos (show j - 1 < 48 by omega), if_pos (show j < 48 by omega), if_neg h, if_pos h2]
    · rw [if_neg (show ¬ (0 + p < j ∧ j ≤ 0 + n) by omega)]
      by_cases h3 : j < 48
      · rw [if_pos h3, if_pos h3, if_neg h, if_neg h2]
      · rw [if_neg h3, if_neg h3]
theorem fd_ins5 (o q : Nat → Nat) {p n d : Nat} : fd_ins (fd_O o q) 48 p n (nI d) = fd_O o (fd_insN q p n d) := by
  funext j
  show (if j = 48 + p then nI d else if 48 + p < j ∧ j ≤ 48 + n then nI (if j - 1 < 48 then o (j - 1) else q (j - 1 - 48)) else nI (if j < 48 then o j else q (j - 48))) = nI (if j < 48 then o j else (if j - 48 = p then d else if p < j - 48 ∧ j - 48 ≤ n then q (j - 48 - 1) else q (j - 48)))
  by_cases h0 : j < 48
  · rw [if_neg (show ¬ j = 48 + p by omega), if_neg (show ¬ (48 + p < j ∧ j ≤ 48 + n) by omega), if_pos h0, if_pos h0]
  · rw [if_neg h0]
    by_cases h : j = 48 + p
    · rw [if_pos h, if_neg h0, if_pos (show j - 48 = p by omega)]
    · rw [if_neg h, if_neg (show ¬ j - 48 = p by omega)]
      by_cases h2 : 48 + p < j ∧ j ≤ 48 + n
      · rw [if_pos h2, if_pos (show p < j - 48 ∧ j - 48 ≤ n by omega), if_neg (show ¬ j - 1 < 48 by omega), if_neg h0, show j - 1 - 48 = j - 48 - 1 by omega]
      · rw [if_neg h2, if_neg (show ¬ (p < j - 48 ∧ j - 48 ≤ n) by omega), if_neg h0]
theorem fd_del4 (o q : Nat → Nat) {p n : Nat} (hn : n ≤ 48) : fd_del (fd_O o q) 0 p n = fd_O (fd_delN o p n) q := by
  funext j
  show (if 0 + p ≤ j ∧ j + 1 < 0 + n then nI (if j + 1 < 48 then o (j + 1) else q (j + 1 - 48)) else nI (if j < 48 then o j else q (j - 48))) = nI (if j < 48 then (if p ≤ j ∧ j + 1 < n then o (j + 1) else o j) else q (j - 48))
  by_cases h : p ≤ j ∧ j + 1 < n
  · rw [if_pos (show 0 + p ≤ j ∧ j + 1 < 0 + n by omega), if_pos (show j + 1 < 48 by omega), if_pos (show j < 48 by omega), if_pos h]
  · rw [if_neg (show ¬ (0 + p ≤ j ∧ j + 1 < 0 + n) by omega), if_neg h]
theorem fd_del5 (o q : Nat → Nat) {p n : Nat} : fd_del (fd_O o q) 48 p n = fd_O o (fd_delN q p n) := by
  funext j
  show (if 48 + p ≤ j ∧ j + 1 < 48 + n then nI (if j + 1 < 48 then o (j + 1) else q (j + 1 - 48)) else nI (if j < 48 then o j else q (j - 48))) = nI (if j < 48 then o j else (if p ≤ j - 48 ∧ j - 48 + 1 < n then q (j - 48 + 1) else q (j - 48)))
  by_cases h0 : j < 48
  · rw [if_neg (show ¬ (48 + p ≤ j ∧ j + 1 < 48 + n) by omega), if_pos h0, if_pos h0]
  · by_cases h : 48 + p ≤ j ∧ j + 1 < 48 + n
    · rw [if_pos h, if_neg h0, if_neg (show ¬ j + 1 < 48 by omega), if_pos (show p ≤ j - 48 ∧ j - 48 + 1 < n by omega), show j + 1 - 48 = j - 48 + 1 by omega]
    · rw [if_neg h, if_neg h0, if_neg h0, if_neg (show ¬ (p ≤ j - 48 ∧ j - 48 + 1 < n) by omega)]
def fd_or (w : Nat → Nat) (k x : Nat) : Nat → Nat := fd_up w k (w k ||| x)
theorem fd_mkL (w : Nat → Nat) (k x : Nat) : fd_mk (fd_L w) k (lN x) = fd_L (fd_or w k x) := by
  show vp_updL (fd_L w) k (lN (w k) ||| lN x) = fd_L (fd_up w k (w k ||| x))
  rw [fd_or64, fd_Lup]
def fd_W1 (m : Nat) : Nat → Nat → Nat
  | 0 => fun _ => 0
  | i + 1 => fd_or (fd_or (fd_or (fd_W1 m i) (i % m) (2 ^ i)) (10 + (9 - i)) (2 ^ i)) (20 + i % 2) (2 ^ i)
def fd_W2 : Nat → Nat → Nat
  | 0 => fun _ => 0
  | i + 1 => fd_or (fd_W2 i) (i % 8) (2 ^ i)
def fd_key (s m d f : Nat) : Int32 := if f = 0 then nI (d % m) else if f = 1 then nI (9 - d) else if f = 2 then nI (d % 2) else if f = 3 then nI (2 ^ (d % 8)) else if f = 4 then nI s * nI d - 40 else nI (d % m)
def fd_v (s m i d f : Nat) : Int32 := if d < i then fd_key s m d f else 0
def fd_o4 (i : Nat) : Nat → Nat := fun j => if j < i then j else 0
def fd_ct (m r : Nat) : Nat → Nat
  | 0 => 0
  | j + 1 => fd_ct m r j + (if j % m ≤ r then 1 else 0)
def fd_oa (m i : Nat) (o : Nat → Nat) : Nat → Nat := fd_insN o (fd_ct m 0 i) i i
def fd_ob (m i : Nat) (o : Nat → Nat) : Nat → Nat := fd_delN (fd_oa m i o) (fd_ct m 0 i) (i + 1)
def fd_oc (m i : Nat) (o : Nat → Nat) : Nat → Nat := if i % m = 0 then fd_oa m i o else fd_insN (fd_ob m i o) (fd_ct m (i % m) i) i i
def fd_o5 (m : Nat) : Nat → Nat → Nat
  | 0 => fun _ => 0
  | i + 1 => fd_oc m i (fd_o5 m i)
def fd_ps (X : Nat) : Nat → Nat := fun j => if j < 6 then X else 0
def fd_z32 : Nat → Int32 := fun _ => 0
def fd_S (s m i : Nat) : St2 := (lN (2 ^ i - 1), nI i, fd_L (fd_W1 m i), fd_L (fd_W2 i), fd_V (fd_v s m i), fd_O (fd_o4 i) (fd_o5 m i), fd_z32, fd_z32, fd_z32, fd_L (fd_ps (2 ^ i - 1)))
/-! numbers of field 4 -/
theorem fd_num {s d : Nat} (hs : s ≤ 32) (hd : d < 48) : (nI s * nI d - 40).toInt = (s * d : Nat) - 40 := by
  have h : s * d ≤ 32 * 48 := Nat.mul_le_mul hs (by omega)
  rw [pk_mul, show (40 : Int32) = nI 40 from rfl, pk_sub_toInt (by omega) (by omega)]
  rfl
theorem fd_lt {x y : Int32} : x < y ↔ x.toInt < y.toInt := Int32.lt_iff_toInt_lt
theorem fd_le {x y : Int32} : x ≤ y ↔ x.toInt ≤ y.toInt := Int32.le_iff_toInt_le
theorem fd_eq {x y : Int32} : x = y ↔ x.toInt = y.toInt := Int32.toInt_inj.symm
/-! facts about the order of field 5, all by looking -/
theorem fd_f1 : ∀ m, m < 4 → 2 ≤ m → ∀ i, i < 11 → ∀ j, j < i → fd_o5 m i j < i := by decide +kernel
theorem fd_f2 : ∀ m, m < 4 → 2 ≤ m → ∀ i, i < 10 → ∀ j, j < i → (fd_o5 m i j % m = 0 ↔ j < fd_ct m 0 i) := by decide +kernel
theorem fd_f2' : ∀ m, m < 4 → 2 ≤ m → ∀ i, i < 10 → fd_ct m 0 i ≤ i ∧ fd_ct m (i % m) i ≤ i := by decide +kernel
theorem fd_f3a : ∀ m, m < 4 → 2 ≤ m → ∀ i, i < 10 → ∀ j, j < i + 1 → fd_oa m i (fd_o5 m i) j < i + 1 := by decide +kernel
theorem fd_f3 : ∀ m, m < 4 → 2 ≤ m → ∀ i, i < 10 → ∀ j, j < i + 1 → ((fd_oa m i (fd_o5 m i) j < i ∧ fd_oa m i (fd_o5 m i) j % m = 0) ↔ j < fd_ct m 0 i) := by decide +kernel
theorem fd_f4 : ∀ m, m < 4 → 2 ≤ m → ∀ i, i < 10 → ∀ j, j < i → fd_ob m i (fd_o5 m i) j < i ∧ (fd_ob m i (fd_o5 m i) j % m ≤ i % m ↔ j < fd_ct m (i % m) i) := by decide +kernel
end
section
/-! enter and set over the pictures -/
section
variable {T : Int64} {mn : Int32} {a1 a2 : Nat → Int64} {a5 a6 a7 : Nat → Int32} {a8 : Nat → Int64}
theorem fd_nlt {a b : Nat} (ha : a < 48) (hb : b < 48) : nI a < nI b ↔ a < b := nI_ltI (by omega) (by omega)
theorem fd_enter4 {post : St2 → Prop} {o q : Nat → Nat} {v : Nat → Nat → Int32} (n p d : Nat) (hn : n ≤ 47) (hp : p ≤ n) (hd : d < 48) (ho : ∀ j, j < n → o j < 48)
    (hl : ∀ j, j < n → ((v (o j) 4 < v d 4 ∨ (v (o j) 4 = v d 4 ∧ o j < d)) ↔ j < p)) (H : post (T, nI n, a1, a2, fd_V v, fd_O (fd_insN o p n d) q, a5, a6, a7, a8)) :
    wpX_enter post (T, nI n, a1, a2, fd_V v, fd_O o q, a5, a6, a7, a8) 4 (nI d) := by
  refine fd_enterE 4 n p d o (Or.inl rfl) hn hp hd (fun j hj => ⟨ho j hj, ?_⟩) (fun j hj => ?_) ?_
  · rw [show 48 * (4 - 4) + j = j by omega, fd_O4 _ _ (by omega)]
  · rw [fd_Vat _ (by omega), fd_Vat _ (by omega), fd_nlt (ho j hj) hd]
    exact hl j hj
  · rw [show 48 * (4 - 4) = 0 by omega, fd_ins4 _ _ hp hn]
    exact H
theorem fd_enter5 {post : St2 → Prop} {o q : Nat → Nat} {v : Nat → Nat → Int32} (n p d : Nat) (hn : n ≤ 47) (hp : p ≤ n) (hd : d < 48) (ho : ∀ j, j < n → q j < 48)
    (hl : ∀ j, j < n → ((v (q j) 5 < v d 5 ∨ (v (q j) 5 = v d 5 ∧ q j < d)) ↔ j < p)) (H : post (T, nI n, a1, a2, fd_V v, fd_O o (fd_insN q p n d), a5, a6, a7, a8)) :
    wpX_enter post (T, nI n, a1, a2, fd_V v, fd_O o q, a5, a6, a7, a8) 5 (nI d) := by
  refine fd_enterE 5 n p d q (Or.inr rfl) hn hp hd (fun j hj => ⟨ho j hj, ?_⟩) (fun j hj => ?_) ?_
  · rw [show 48 * (5 - 4) + j = 48 + j by omega, fd_O5]
  · rw [fd_Vat _ (by omega), fd_Vat _ (by omega), fd_nlt (ho j hj) hd]
    exact hl j hj
  · rw [show 48 * (5 - 4) = 48 by omega, fd_ins5]
    exact H
theorem fd_setN4 {post : Int32 → St2 → Prop} {X n d p r : Nat} {x : Int32} {o q : Nat → Nat} {v : Nat → Nat → Int32} (hX : X < 2 ^ 64) (hd : d < 48) (hb : X.testBit d = true) (h1 : ¬ x < -999) (h2 : ¬ 999 < x) (he : ¬ v d 4 = x) (h5 : a5 4 = 0)
    (hn : n ≤ 47) (hp : p ≤ n + 1) (hr : r ≤ n)
    (ho : ∀ j, j < n + 1 → o j < 48)
    (hl : ∀ j, j < n + 1 → ((v (o j) 4 < v d 4 ∨ (v (o j) 4 = v d 4 ∧ o j < d)) ↔ j < p))
    (ho' : ∀ j, j < n → fd_delN o p (n + 1) j < 48)
    (hl' : ∀ j, j < n → ((fd_uV v d 4 x (fd_delN o p (n + 1) j) 4 < x ∨ (fd_uV v d 4 x (fd_delN o p (n + 1) j) 4 = x ∧ fd_delN o p (n + 1) j < d)) ↔ j < r))
    (H : post 1 (lN X, nI (n + 1), a1, a2, fd_V (fd_uV v d 4 x), fd_O (fd_insN (fd_delN o p (n + 1)) r n d) q, a5, a6, a7, vp_updL a8 4 (lN X))) :
    wpX_set post (lN X, nI (n + 1), a1, a2, fd_V v, fd_O o q, a5, a6, a7, a8) (nI d) 4 x := by
  refine fd_setN (f := 4) (o := o) (o' := fd_delN o p (n + 1)) (p := p) (q := r) hX hd hb (Or.inl rfl) h1 h2 ?_ h5 hn hp hr (fun j hj => ⟨ho j hj, ?_⟩) (fun j hj => ?_) (fun j hj => ⟨ho' j hj, ?_⟩) (fun j hj => ?_) ?_
  · rw [fd_Vat _ (by omega)]
    exact he
  · rw [show 48 * (4 - 4) + j = j by omega, fd_O4 _ _ (by omega)]
  · rw [fd_Vat _ (by omega), fd_Vat _ (by omega), fd_nlt (ho j hj) hd]
    exact hl j hj
  · rw [show 48 * (4 - 4) = 0 by omega, fd_del4 _ _ (by omega), Nat.zero_add, fd_O4 _ _ (by omega)]
  · rw [fd_Vup _ (by omega), fd_Vat _ (by omega), fd_nlt (ho' j hj) hd]
    exact hl' j hj
  · rw [show 48 * (4 - 4) = 0 by omega, fd_del4 _ _ (by omega), fd_ins4 _ _ hr hn, fd_Vup _ (by omega)]
    exact H
theorem fd_setN5 {post : Int32 → St2 → Prop} {X n d p r : Nat} {x : Int32} {o q : Nat → Nat} {v : Nat → Nat → Int32} (hX : X < 2 ^ 64) (hd : d < 48) (hb : X.testBit d = true) (h1 : ¬ x < -999) (h2 : ¬ 999 < x) (he : ¬ v d 5 = x) (h5 : a5 5 = 0)
    (hn : n ≤ 47) (hp : p ≤ n + 1) (hr : r ≤ n)
    (ho : ∀ j, j < n + 1 → q j < 48)
    (hl : ∀ j, j < n + 1 → ((v (q j) 5 < v d 5 ∨ (v (q j) 5 = v d 5 ∧ q j < d)) ↔ j < p))
    (ho' : ∀ j, j < n → fd_delN q p (n + 1) j < 48)
    (hl' : ∀ j, j < n → ((fd_uV v d 5 x (fd_delN q p (n + 1) j) 5 < x ∨ (fd_uV v d 5 x (fd_delN q p (n + 1) j) 5 = x ∧ fd_delN q p (n + 1) j < d)) ↔ j < r))
    (H : post 1 (lN X, nI (n + 1), a1, a2, fd_V (fd_uV v d 5 x), fd_O o (fd_insN (fd_delN q p (n + 1)) r n d), a5, a6, a7, vp_updL a8 5 (lN X))) :
    wpX_set post (lN X, nI (n + 1), a1, a2, fd_V v, fd_O o q, a5, a6, a7, a8) (nI d) 5 x := by
  refine fd_setN (f := 5) (o := q) (o' := fd_delN q p (n + 1)) (p := p) (q := r) hX hd hb (Or.inr rfl) h1 h2 ?_ h5 hn hp hr (fun j hj => ⟨ho j hj, ?_⟩) (fun j hj => ?_) (fun j hj => ⟨ho' j hj, ?_⟩) (fun j hj => ?_) ?_
  · rw [fd_Vat _ (by omega)]
    exact he
  · rw [show 48 * (5 - 4) + j = 48 + j by omega, fd_O5]
  · rw [fd_Vat _ (by omega), fd_Vat _ (by omega), fd_nlt (ho j hj) hd]
    exact hl j hj
  · rw [show 48 * (5 - 4) = 48 by omega, fd_del5, fd_O5]
  · rw [fd_Vup _ (by omega), fd_Vat _ (by omega), fd_nlt (ho' j hj) hd]
    exact hl' j hj
  · rw [show 48 * (5 - 4) = 48 by omega, fd_del5, fd_ins5, fd_Vup _ (by omega)]
    exact H
end
/-! one turn: make, set 4, set 3, set 5 -/
def fd_p (s i : Nat) : Nat := min i (40 / s + 1)
def fd_vA (s m i : Nat) : Nat → Nat → Int32 := fd_row (fd_v s m i) i (nI (i % m)) (nI (9 - i)) (nI (i % 2))
def fd_vB (s m i : Nat) : Nat → Nat → Int32 := fd_uV (fd_vA s m i) i 4 (nI s * nI i - 40)
def fd_vC (s m i : Nat) : Nat → Nat → Int32 := fd_uV (fd_vB s m i) i 3 (nI (2 ^ (i % 8)))
def fd_SA (s m i : Nat) : St2 := (lN (2 ^ (i + 1) - 1), nI (i + 1), fd_L (fd_W1 m (i + 1)), fd_L (fd_W2 i), fd_V (fd_vA s m i), fd_O (fd_insN (fd_o4 i) (fd_p s i) i i) (fd_oa m i (fd_o5 m i)), fd_z32, fd_z32, fd_z32, fd_L (fd_ps (2 ^ (i + 1) - 1)))
def fd_SB (s m i : Nat) : St2 := (lN (2 ^ (i + 1) - 1), nI (i + 1), fd_L (fd_W1 m (i + 1)), fd_L (fd_W2 i), fd_V (fd_vB s m i), fd_O (fd_o4 (i + 1)) (fd_oa m i (fd_o5 m i)), fd_z32, fd_z32, fd_z32, fd_L (fd_ps (2 ^ (i + 1) - 1)))
def fd_SC (s m i : Nat) : St2 := (lN (2 ^ (i + 1) - 1), nI (i + 1), fd_L (fd_W1 m (i + 1)), fd_L (fd_W2 (i + 1)), fd_V (fd_vC s m i), fd_O (fd_o4 (i + 1)) (fd_oa m i (fd_o5 m i)), fd_z32, fd_z32, fd_z32, fd_L (fd_ps (2 ^ (i + 1) - 1)))
theorem fd_vAo {s m i e : Nat} (f : Nat) (h : e < i) : fd_vA s m i e f = fd_key s m e f := by
  show (if e = i then _ else (if e < i then fd_key s m e f else 0)) = fd_key s m e f
  rw [if_neg (by omega), if_pos h]
theorem fd_vA4 {s m i : Nat} : fd_vA s m i i 4 = 0 := by
  show (if i = i then (0 : Int32) else _) = 0
  rw [if_pos rfl]
theorem fd_vA3 {s m i : Nat} : fd_vA s m i i 3 = 0 := by
  show (if i = i then (0 : Int32) else _) = 0
  rw [if_pos rfl]
theorem fd_vA5 {s m i : Nat} : fd_vA s m i i 5 = 0 := by
  show (if i = i then (0 : Int32) else _) = 0
  rw [if_pos rfl]
theorem fd_uVn {v : Nat → Nat → Int32} {d f e g : Nat} {x : Int32} (h : ¬ (e = d ∧ g = f)) : fd_uV v d f x e g = v e g := if_neg h
theorem fd_uVs {v : Nat → Nat → Int32} {d f : Nat} {x : Int32} : fd_uV v d f x d f = x := if_pos ⟨rfl, rfl⟩
theorem fd_lt4 {s j : Nat} (h1 : 1 ≤ s) (hs : s ≤ 32) (hj : j < 48) (i : Nat) (hij : j < i) : ((nI s * nI j - 40 < (0 : Int32) ∨ (nI s * nI j - 40 = (0 : Int32) ∧ j < i)) ↔ j < 40 / s + 1) := by
  rw [fd_lt, fd_eq, fd_num hs hj, show (0 : Int32).toInt = 0 from rfl, Nat.lt_succ_iff, Nat.le_div_iff_mul_le (by omega), Nat.mul_comm j s]
  omega
theorem fd_testX {i j : Nat} : (2 ^ i - 1).testBit j = decide (j < i) := Nat.testBit_two_pow_sub_one i j
theorem fd_orX : ∀ i, i < 10 → (2 ^ i - 1 ||| 2 ^ i) = 2 ^ (i + 1) - 1 := by decide +kernel
theorem fd_Xlt : ∀ i, i < 11 → 2 ^ i - 1 < 1024 := by decide +kernel
theorem fd_psS (X f : Nat) (hf : f < 6) : vp_updL (fd_L (fd_ps X)) f (lN X) = fd_L (fd_ps X) := by
  rw [fd_Lup]
  congr 1
  funext j
  show (if j = f then X else if j < 6 then X else 0) = (if j < 6 then X else 0)
  by_cases h : j = f
  · rw [if_pos h, if_pos (by omega)]
  · rw [if_neg h]
theorem fd_psA (X Y : Nat) : fd_all (fd_L (fd_ps X)) (lN Y) = fd_L (fd_ps Y) := by
  funext j
  show (if j < 6 then lN Y else lN (if j < 6 then X else 0)) = lN (if j < 6 then Y else 0)
  by_cases h : j < 6
  · rw [if_pos h, if_pos h]
  · rw [if_neg h, if_neg h, if_neg h]
theorem fd_o4i {i j : Nat} (h : j < i) : fd_o4 i j = j := if_pos h
theorem fd_stepA {post : Int32 → St2 → Prop} {s m i : Nat} (h1 : 1 ≤ s) (hs : s ≤ 32) (hm : 2 ≤ m) (hm' : m < 4) (hi : i < 10) (H : post (nI i) (fd_SA s m i)) :
    wpX_make post (fd_S s m i) (nI (i % m)) (nI (9 - i)) (nI (i % 2)) := by
  have hr : i % m < m := Nat.mod_lt _ (by omega)
  have hX := fd_Xlt i (by omega)
  refine fd_makeA (X := 2 ^ i - 1) (d := i) (by omega) (fun j hj => by rw [fd_testX]; exact decide_eq_true hj) (by rw [fd_testX]; exact decide_eq_false (by omega)) (by omega) (by omega) (by omega) (by omega) (by omega) ?_
  refine fd_enter4 i (fd_p s i) i (by omega) (Nat.min_le_left _ _) (by omega) (fun j hj => by rw [fd_o4i hj]; omega) (fun j hj => ?_) ?_
  · have e := fd_lt4 h1 hs (show j < 48 by omega) i hj
    have k1 : fd_vA s m i j 4 = nI s * nI j - 40 := fd_vAo 4 hj
    have k2 : fd_vA s m i i 4 = 0 := fd_vA4
    show ((fd_vA s m i (fd_o4 i j) 4 < fd_vA s m i i 4 ∨ (fd_vA s m i (fd_o4 i j) 4 = fd_vA s m i i 4 ∧ fd_o4 i j < i)) ↔ j < fd_p s i)
    rw [fd_o4i hj, k1, k2, e]
    unfold fd_p
    omega
  · refine fd_enter5 i (fd_ct m 0 i) i (by omega) (fd_f2' m hm' hm i hi).1 (by omega) (fun j hj => by have := fd_f1 m hm' hm i (by omega) j hj; omega) (fun j hj => ?_) ?_
    · have e := fd_f2 m hm' hm i hi j hj
      have k0 := fd_f1 m hm' hm i (by omega) j hj
      have k1 : fd_vA s m i (fd_o5 m i j) 5 = nI (fd_o5 m i j % m) := fd_vAo 5 k0
      have k2 : fd_vA s m i i 5 = nI 0 := fd_vA5
      have k3 : fd_o5 m i j % m < m := Nat.mod_lt _ (by omega)
      show ((fd_vA s m i (fd_o5 m i j) 5 < fd_vA s m i i 5 ∨ (fd_vA s m i (fd_o5 m i j) 5 = fd_vA s m i i 5 ∧ fd_o5 m i j < i)) ↔ j < fd_ct m 0 i)
      rw [k1, k2, nI_ltI (by omega) (by omega), nI_eq (by omega) (by omega), ← e]
      omega
    · refine nm_r (nI_1 i) (fd_refAll (fun j hj => rfl) ?_)
      rw [fd_orX i hi, fd_psA, fd_mkL, fd_mkL, fd_mkL]
      exact H
theorem fd_insD {i p j : Nat} (hp : p ≤ i) (hj : j < i) : fd_delN (fd_insN (fd_o4 i) p i i) p (i + 1) j = j := by
  show (if p ≤ j ∧ j + 1 < i + 1 then (if j + 1 = p then i else if p < j + 1 ∧ j + 1 ≤ i then (if j + 1 - 1 < i then j + 1 - 1 else 0) else (if j + 1 < i then j + 1 else 0)) else (if j = p then i else if p < j ∧ j ≤ i then (if j - 1 < i then j - 1 else 0) else (if j < i then j else 0))) = j
  by_cases h : p ≤ j
  · rw [if_pos (by omega), if_neg (by omega), if_pos (by omega), if_pos (by omega)]
    rfl
  · rw [if_neg (by omega), if_neg (by omega), if_neg (by omega), if_pos hj]
theorem fd_insO {i p : Nat} (hp : p ≤ i) : fd_insN (fd_delN (fd_insN (fd_o4 i) p i i) p (i + 1)) i i i = fd_o4 (i + 1) := by
  funext j
  show (if j = i then i else if i < j ∧ j ≤ i then _ else fd_delN (fd_insN (fd_o4 i) p i i) p (i + 1) j) = (if j < i + 1 then j else 0)
  by_cases h : j = i
  · rw [if_pos h, if_pos (by omega), h]
  · rw [if_neg h, if_neg (by omega)]
    by_cases h2 : j < i
    · rw [fd_insD hp h2, if_pos (by omega)]
    · rw [if_neg (by omega)]
      show (if p ≤ j ∧ j + 1 < i + 1 then _ else (if j = p then i else if p < j ∧ j ≤ i then _ else (if j < i then j else 0))) = 0
      rw [if_neg (by omega), if_neg (by omega), if_neg (by omega), if_neg (by omega)]
theorem fd_insI {i : Nat} : fd_insN (fd_o4 i) i i i = fd_o4 (i + 1) := by
  funext j
  show (if j = i then i else if i < j ∧ j ≤ i then _ else (if j < i then j else 0)) = (if j < i + 1 then j else 0)
  by_cases h : j = i
  · rw [if_pos h, if_pos (by omega), h]
  · rw [if_neg h, if_neg (by omega)]
    by_cases h2 : j < i
    · rw [if_pos h2, if_pos (by omega)]
    · rw [if_neg h2, if_neg (by omega)]
end
section
theorem fd_ia1 {i p j : Nat} (hp : p ≤ i) (h : j < p) : fd_insN (fd_o4 i) p i i j = j := by
  show (if j = p then i else if p < j ∧ j ≤ i then _ else (if j < i then j else 0)) = j
  rw [if_neg (by omega), if_neg (by omega), if_pos (by omega)]
theorem fd_ia2 {i p : Nat} : fd_insN (fd_o4 i) p i i p = i := if_pos rfl
theorem fd_ia3 {i p j : Nat} (h : p < j) (h2 : j ≤ i) : fd_insN (fd_o4 i) p i i j = j - 1 := by
  show (if j = p then i else if p < j ∧ j ≤ i then (if j - 1 < i then j - 1 else 0) else _) = j - 1
  rw [if_neg (by omega), if_pos ⟨h, h2⟩, if_pos (by omega)]
theorem fd_fit4 {s i : Nat} (hs : s ≤ 32) (hi : i < 10) : ¬ (nI s * nI i - 40 < (-999 : Int32)) ∧ ¬ ((999 : Int32) < nI s * nI i - 40) := by
  have h : s * i ≤ 32 * 10 := Nat.mul_le_mul hs (by omega)
  rw [fd_lt, fd_lt, fd_num hs (by omega), show (-999 : Int32).toInt = -999 from rfl, show (999 : Int32).toInt = 999 from rfl]
  omega
theorem fd_stepB {post : Int32 → St2 → Prop} {s m i : Nat} (h1 : 1 ≤ s) (hs : s ≤ 32) (hi : i < 10) (H0 : s * i = 40 → post 0 (fd_SB s m i)) (H1 : s * i ≠ 40 → post 1 (fd_SB s m i)) :
    wpX_set post (fd_SA s m i) (nI i) 4 (nI s * nI i - 40) := by
  have hX := fd_Xlt (i + 1) (by omega)
  have hb : (2 ^ (i + 1) - 1).testBit i = true := by rw [fd_testX]; exact decide_eq_true (by omega)
  have hf := fd_fit4 hs hi
  have hN := fd_num hs (show i < 48 by omega)
  have hp : fd_p s i ≤ i := Nat.min_le_left _ _
  by_cases c : s * i = 40
  · have e0 : nI s * nI i - 40 = 0 := by
      rw [fd_eq, hN, c]
      rfl
    have e1 : fd_vB s m i = fd_vA s m i := by
      funext e g
      show (if e = i ∧ g = 4 then nI s * nI i - 40 else fd_vA s m i e g) = fd_vA s m i e g
      by_cases h : e = i ∧ g = 4
      · rw [if_pos h, e0, h.1, h.2, fd_vA4]
      · rw [if_neg h]
    have e2 : fd_p s i = i := by
      have e3 : 40 / s = i := by rw [← c]; exact Nat.mul_div_cancel_left i (by omega)
      unfold fd_p
      omega
    have e3 : fd_SB s m i = fd_SA s m i := by
      unfold fd_SB fd_SA
      rw [e1, e2, fd_insI]
    have H := H0 c
    rw [e3] at H
    refine fd_set0 (X := 2 ^ (i + 1) - 1) (f := 4) (by omega) (by omega) hb (Or.inl rfl) hf.1 hf.2 ?_ H
    rw [fd_Vat _ (by omega), fd_vA4, e0]
  · refine fd_setN4 (X := 2 ^ (i + 1) - 1) (n := i) (p := fd_p s i) (r := i) (by omega) (by omega) hb hf.1 hf.2 ?_ rfl (by omega) (by omega) (by omega) (fun j hj => ?_) (fun j hj => ?_) (fun j hj => ?_) (fun j hj => ?_) ?_
    · rw [fd_vA4, fd_eq, hN]
      show ¬ (0 : Int) = _
      omega
    · rcases Nat.lt_trichotomy j (fd_p s i) with h | h | h
      · rw [fd_ia1 hp h]; omega
      · rw [h, fd_ia2]; omega
      · rw [fd_ia3 h (by omega)]; omega
    · rcases Nat.lt_trichotomy j (fd_p s i) with h | h | h
      · have k1 : fd_vA s m i j 4 = nI s * nI j - 40 := fd_vAo 4 (by omega)
        rw [fd_ia1 hp h, k1, fd_vA4, fd_lt4 h1 hs (show j < 48 by omega) i (by omega)]
        unfold fd_p at h ⊢
        omega
      · rw [h, fd_ia2]
        exact ⟨fun z => by rcases z with z | z; exact (Int32.lt_irrefl z).elim; omega, fun z => absurd z (by omega)⟩
      · have k1 : fd_vA s m i (j - 1) 4 = nI s * nI (j - 1) - 40 := fd_vAo 4 (by omega)
        rw [fd_ia3 h (by omega), k1, fd_vA4, fd_lt4 h1 hs (show j - 1 < 48 by omega) i (by omega)]
        unfold fd_p at h ⊢
        omega
    · rw [fd_insD hp hj]; omega
    · have k1 : fd_vA s m i j 4 = nI s * nI j - 40 := fd_vAo 4 hj
      rw [fd_insD hp hj, fd_uVn (by omega), k1, fd_lt, hN, fd_num hs (by omega)]
      have k2 : s * j < s * i := Nat.mul_lt_mul_of_pos_left hj (by omega)
      exact ⟨fun _ => hj, fun _ => Or.inl (by omega)⟩
    · rw [fd_insO hp, fd_psS _ 4 (by omega)]
      exact H1 c
theorem fd_stepC {post : Int32 → St2 → Prop} {s m i : Nat} (hi : i < 10) (H : post 1 (fd_SC s m i)) : wpX_set post (fd_SB s m i) (nI i) 3 (nI (2 ^ (i % 8))) := by
  have hX := fd_Xlt (i + 1) (by omega)
  refine fd_set3 (X := 2 ^ (i + 1) - 1) (by omega) (by omega) (by rw [fd_testX]; exact decide_eq_true (by omega)) (Nat.mod_lt _ (by omega)) ?_ rfl ?_
  · rw [fd_Vat _ (by omega)]
    exact (fd_uVn (by omega)).trans fd_vA3
  · rw [fd_Vup _ (by omega), fd_mkL, fd_psS _ 3 (by omega)]
    exact H
theorem fd_Vx {v v' : Nat → Nat → Int32} (h : ∀ e g, g < 6 → v e g = v' e g) : fd_V v = fd_V v' := by
  funext j
  exact h _ _ (Nat.mod_lt _ (by omega))
theorem fd_g6 {P : Nat → Prop} (h0 : P 0) (h1 : P 1) (h2 : P 2) (h3 : P 3) (h4 : P 4) (h5 : P 5) : ∀ g, g < 6 → P g := by
  intro g hg
  match g, hg with
  | 0, _ => exact h0
  | 1, _ => exact h1
  | 2, _ => exact h2
  | 3, _ => exact h3
  | 4, _ => exact h4
  | 5, _ => exact h5
theorem fd_vCo {s m i e : Nat} (f : Nat) (h : e ≠ i) : fd_vC s m i e f = fd_vA s m i e f :=
  (fd_uVn (fun z => h z.1)).trans (fd_uVn (fun z => h z.1))
theorem fd_vC5 {s m i : Nat} : fd_vC s m i i 5 = 0 := (fd_uVn (by omega)).trans ((fd_uVn (by omega)).trans fd_vA5)
theorem fd_vD {s m i : Nat} : fd_V (fd_uV (fd_vC s m i) i 5 (nI (i % m))) = fd_V (fd_v s m (i + 1)) := by
  refine fd_Vx (fun e g hg => ?_)
  by_cases h : e = i
  · subst h
    have r : fd_v s m (e + 1) e g = fd_key s m e g := if_pos (by omega)
    rw [r]
    refine fd_g6 (P := fun g => fd_uV (fd_vC s m e) e 5 (nI (e % m)) e g = fd_key s m e g) ?_ ?_ ?_ ?_ ?_ ?_ g hg
    · refine (fd_uVn (by omega)).trans ((fd_uVn (by omega)).trans ((fd_uVn (by omega)).trans ?_))
      exact if_pos rfl
    · refine (fd_uVn (by omega)).trans ((fd_uVn (by omega)).trans ((fd_uVn (by omega)).trans ?_))
      exact if_pos rfl
    · refine (fd_uVn (by omega)).trans ((fd_uVn (by omega)).trans ((fd_uVn (by omega)).trans ?_))
      exact if_pos rfl
    · refine (fd_uVn (by omega)).trans ?_
      exact fd_uVs
    · refine (fd_uVn (by omega)).trans ((fd_uVn (by omega)).trans ?_)
      exact fd_uVs
    · exact fd_uVs
  · rw [fd_uVn (by omega), fd_vCo g h]
    show (if e = i then _ else (if e < i then fd_key s m e g else 0)) = (if e < i + 1 then fd_key s m e g else 0)
    rw [if_neg h]
    by_cases h2 : e < i
    · rw [if_pos h2, if_pos (by omega)]
    · rw [if_neg h2, if_neg (by omega)]
theorem fd_stepD {post : Int32 → St2 → Prop} {s m i : Nat} (hm : 2 ≤ m) (hm' : m < 4) (hi : i < 10) (H : ∀ r, post r (fd_S s m (i + 1))) : wpX_set post (fd_SC s m i) (nI i) 5 (nI (i % m)) := by
  have hX := fd_Xlt (i + 1) (by omega)
  have hb : (2 ^ (i + 1) - 1).testBit i = true := by rw [fd_testX]; exact decide_eq_true (by omega)
  have hr : i % m < m := Nat.mod_lt _ (by omega)
  have f1 : ¬ nI (i % m) < (-999 : Int32) := by
    rw [fd_lt, nI_toInt (by omega), show (-999 : Int32).toInt = -999 from rfl]
    omega
  have f2 : ¬ (999 : Int32) < nI (i % m) := by
    rw [fd_lt, nI_toInt (by omega), show (999 : Int32).toInt = 999 from rfl]
    omega
  by_cases c : i % m = 0
  · have e1 : fd_uV (fd_vC s m i) i 5 (nI (i % m)) = fd_vC s m i := by
      funext e g
      show (if e = i ∧ g = 5 then nI (i % m) else fd_vC s m i e g) = fd_vC s m i e g
      by_cases h : e = i ∧ g = 5
      · rw [if_pos h, h.1, h.2, fd_vC5, c]
        rfl
      · rw [if_neg h]
    have e2 : fd_V (fd_v s m (i + 1)) = fd_V (fd_vC s m i) := by rw [← fd_vD, e1]
    have e3 : fd_o5 m (i + 1) = fd_oa m i (fd_o5 m i) := if_pos c
    have e4 : fd_S s m (i + 1) = fd_SC s m i := by
      unfold fd_S fd_SC
      rw [e2, e3]
    have H' := H 0
    rw [e4] at H'
    refine fd_set0 (X := 2 ^ (i + 1) - 1) (f := 5) (by omega) (by omega) hb (Or.inr rfl) f1 f2 ?_ H'
    rw [fd_Vat _ (by omega), fd_vC5, c]
    rfl
  · have e3 : fd_o5 m (i + 1) = fd_insN (fd_ob m i (fd_o5 m i)) (fd_ct m (i % m) i) i i := if_neg c
    have K : ∀ e, e < i → fd_vC s m i e 5 = nI (e % m) := fun e he => (fd_vCo 5 (by omega)).trans (fd_vAo 5 he)
    refine fd_setN5 (X := 2 ^ (i + 1) - 1) (n := i) (p := fd_ct m 0 i) (r := fd_ct m (i % m) i) (by omega) (by omega) hb f1 f2 ?_ rfl (by omega) (by have := (fd_f2' m hm' hm i hi).1; omega) (fd_f2' m hm' hm i hi).2 (fun j hj => ?_) (fun j hj => ?_) (fun j hj => ?_) (fun j hj => ?_) ?_
    · rw [fd_vC5, show (0 : Int32) = nI 0 from rfl, nI_eq (by omega) (by omega)]
      omega
    · have := fd_f3a m hm' hm i hi j hj
      omega
    · have k0 := fd_f3a m hm' hm i hi j hj
      have k1 := fd_f3 m hm' hm i hi j hj
      rw [← k1, fd_vC5]
      by_cases h : fd_oa m i (fd_o5 m i) j = i
      · rw [h, fd_vC5]
        exact ⟨fun z => by rcases z with z | z; exact (Int32.lt_irrefl z).elim; omega, fun z => absurd z.1 (by omega)⟩
      · have k3 : fd_oa m i (fd_o5 m i) j % m < m := Nat.mod_lt _ (by omega)
        rw [K _ (by omega), show (0 : Int32) = nI 0 from rfl, nI_ltI (by omega) (by omega), nI_eq (by omega) (by omega)]
        omega
    · have := (fd_f4 m hm' hm i hi j hj).1
      exact Nat.lt_trans this (by omega)
    · have k0 := (fd_f4 m hm' hm i hi j hj).1
      have k1 := (fd_f4 m hm' hm i hi j hj).2
      show ((fd_uV (fd_vC s m i) i 5 (nI (i % m)) (fd_ob m i (fd_o5 m i) j) 5 < nI (i % m) ∨ (fd_uV (fd_vC s m i) i 5 (nI (i % m)) (fd_ob m i (fd_o5 m i) j) 5 = nI (i % m) ∧ fd_ob m i (fd_o5 m i) j < i)) ↔ j < fd_ct m (i % m) i)
      have k3 : fd_ob m i (fd_o5 m i) j % m < m := Nat.mod_lt _ (by omega)
      rw [← k1, fd_uVn (by omega), K _ k0, nI_ltI (by omega) (by omega), nI_eq (by omega) (by omega)]
      omega
    · rw [fd_vD, fd_psS _ 5 (by omega)]
      have H' := H 1
      unfold fd_S at H'
      rw [e3] at H'
      exact H'
end
section
/-! the law's first loop -/
theorem fd_sh8 : ∀ i, i < 10 → (1 : Int32) <<< ((nI i - nI i / 8 * 8) &&& 31) = nI (2 ^ (i % 8)) := by decide +kernel
theorem fd_m0 {m : Nat} (hm : 2 ≤ m) (hm' : m < 4) : ¬ nI m = 0 := nI_ne0 (by omega) (by omega)
theorem fd_107 {post : Int32 → St0 → Prop} {mc ms kc ks : Nat} {J : Int32 → Int64 → Int32 → (Nat → Int64) → (Nat → Int64) → (Nat → Int32) → (Nat → Int32) → (Nat → Int32) → (Nat → Int32) → (Nat → Int32) → (Nat → Int64) → Prop} {x3 x5 x7 x8 z : Int32} {s m i : Nat} (hm : 2 ≤ m) (hm' : m < 4) (hi : i < 10)
    (H : J (nI (i + 1)) (lN (2 ^ (i + 1) - 1)) (nI (i + 1)) (fd_L (fd_W1 m (i + 1))) (fd_L (fd_W2 (i + 1))) (fd_V (fd_v s m (i + 1))) (fd_O (fd_o4 (i + 1)) (fd_o5 m (i + 1))) fd_z32 fd_z32 fd_z32 (fd_L (fd_ps (2 ^ (i + 1) - 1)))) :
    wL_lawOf_107 post mc ms J x3 x5 (nI m) x7 x8 (nI i) z z kc ks (lN (2 ^ (i + 1) - 1)) (nI (i + 1)) (fd_L (fd_W1 m (i + 1))) (fd_L (fd_W2 i)) (fd_V (fd_vB s m i)) (fd_O (fd_o4 (i + 1)) (fd_oa m i (fd_o5 m i))) fd_z32 fd_z32 fd_z32 (fd_L (fd_ps (2 ^ (i + 1) - 1))) := by
  unfold wL_lawOf_107
  rw [fd_sh8 i hi, pk_rem (by omega) (by omega) (by omega)]
  refine br_t rfl ⟨by decide, fd_stepC hi ?_⟩
  unfold fd_SC
  dsimp only
  refine br_t rfl ⟨fd_m0 hm hm', fd_stepD hm hm' hi (fun r => ?_)⟩
  unfold fd_S
  dsimp only
  exact nm_r (nI_1 i) H
theorem fd_45 {post : Int32 → St0 → Prop} {mc ms kc ks : Nat} {x3 : Int32} {s m a k : Nat} (h1 : 1 ≤ s) (hs : s ≤ 32) (hm : 2 ≤ m) (hm' : m < 4) (ha : a < 10)
    (H : ∃ g, wL_lawOf_172 post mc ms x3 (nI s) (nI m) (nI a) (nI k) (nI ((9 - a % m) / m + 1)) kc ks (lN 1023) (nI 10) (fd_L (fd_W1 m 10)) (fd_L (fd_W2 10)) (fd_V (fd_v s m 10)) (fd_O (fd_o4 10) (fd_o5 m 10)) fd_z32 fd_z32 fd_z32 (fd_L (fd_ps 1023)) g 0 0) :
    ∃ g, wL_lawOf_45 post mc ms x3 (nI s) (nI m) (nI a) (nI k) kc ks g 0 0 0 (fun _ => 0) (fun _ => 0) (fun _ => 0) (fun _ => 0) (fun _ => 0) (fun _ => 0) (fun _ => 0) (fun _ => 0) := by
  have hr : a % m < m := Nat.mod_lt _ (by omega)
  have L : ∃ g, wL_lawOf_45 post mc ms x3 (nI s) (nI m) (nI a) (nI k) kc ks g (nI 0) (lN (2 ^ 0 - 1)) (nI 0) (fd_L (fd_W1 m 0)) (fd_L (fd_W2 0)) (fd_V (fd_v s m 0)) (fd_O (fd_o4 0) (fd_o5 m 0)) fd_z32 fd_z32 fd_z32 (fd_L (fd_ps (2 ^ 0 - 1))) := by
    refine pk_loop (σ := Unit) (fun g i _ => wL_lawOf_45 post mc ms x3 (nI s) (nI m) (nI a) (nI k) kc ks g (nI i) (lN (2 ^ i - 1)) (nI i) (fd_L (fd_W1 m i)) (fd_L (fd_W2 i)) (fd_V (fd_v s m i)) (fd_O (fd_o4 i) (fd_o5 m i)) fd_z32 fd_z32 fd_z32 (fd_L (fd_ps (2 ^ i - 1)))) (fun _ _ => True) 10 0 () (by omega) trivial ?_ ?_
    · intro g _ _
      refine pk_le 10 10 (fun _ => ⟨fd_m0 hm hm', fd_m0 hm hm', nm_r (e' := nI ((9 - a % m) / m + 1)) ?_ H⟩) (fun z => absurd z (by omega))
      rw [pk_rem (by omega) (by omega) (by omega), show (9 : Int32) = nI 9 from rfl, pk_sub (by omega), pk_div (by omega) (by omega) (by omega), nI_1]
    · intro g i _ hi _ hw
      refine pk_le 10 i (fun z => absurd z (by omega)) (fun _ => ⟨fd_m0 hm hm', ?_⟩)
      rw [pk_rem (by omega) (by omega) (by omega), show (9 : Int32) - nI i = nI (9 - i) from by rw [show (9 : Int32) = nI 9 from rfl, pk_sub (by omega)], pk_andN (m := 1) (show i < 2 ^ 32 by omega) 1 rfl]
      refine fd_stepA h1 hs hm hm' hi ?_
      unfold fd_SA
      dsimp only
      refine br_t rfl (fd_stepB h1 hs hi (fun c => ?_) (fun c => ?_))
      · unfold fd_SB
        dsimp only
        refine br_t ?_ (fd_107 hm hm' hi (hw () trivial))
        rw [pk_mul, c]
        rfl
      · unfold fd_SB
        dsimp only
        have hb : s * i ≤ 32 * 10 := Nat.mul_le_mul hs (by omega)
        refine br_f ?_ (fd_107 hm hm' hi (hw () trivial))
        rw [pk_mul, show (40 : Int32) = nI 40 from rfl, nI_eq (by omega) (by omega)]
        exact c
  have e1 : fd_L (fd_W1 m 0) = fun _ => 0 := rfl
  have e2 : fd_L (fd_W2 0) = fun _ => 0 := rfl
  have e3 : fd_V (fd_v s m 0) = fun _ => 0 := by
    funext j
    show fd_v s m 0 (j / 6) (j % 6) = 0
    exact if_neg (Nat.not_lt_zero _)
  have e4 : fd_O (fd_o4 0) (fd_o5 m 0) = fun _ => 0 := by
    funext j
    show nI (if j < 48 then (if j < 0 then j else 0) else 0) = 0
    rw [if_neg (show ¬ j < 0 by omega)]
    split <;> rfl
  have e5 : fd_L (fd_ps (2 ^ 0 - 1)) = fun _ => 0 := by
    funext j
    show lN (if j < 6 then 2 ^ 0 - 1 else 0) = 0
    split <;> rfl
  rw [e1, e2, e3, e4, e5] at L
  exact L
end
section
/-! questions: who passes, how many hold a term, sums, first terms, different values, pairs -/
def fd_bs (T : Nat) (ps : Nat → Nat) (f : Nat) : Nat → Nat
  | 0 => T
  | j + 1 => fd_bs T ps f j &&& (if j = f then T else ps j)
theorem fd_bsle (T : Nat) (ps : Nat → Nat) (f : Nat) : ∀ j, fd_bs T ps f j ≤ T := by
  intro j
  induction j with
  | zero => exact Nat.le_refl _
  | succ j ih => exact Nat.le_trans Nat.and_le_left ih
theorem fd_andlt {a b c : Nat} (h : a < c) : a &&& b < c := Nat.lt_of_le_of_lt Nat.and_le_left h
theorem fd_prle : ∀ n x, fd_pr n x ≤ n := by
  intro n
  induction n with
  | zero => intro x; exact Nat.le_refl _
  | succ n ih =>
    intro x
    show (if x = 0 then 0 else fd_pr n (x &&& (x - 1)) + 1) ≤ n + 1
    split
    · omega
    · exact Nat.succ_le_succ (ih _)
theorem fd_pcle (x : Nat) : fd_pc x ≤ 10 := fd_prle 10 x
theorem fd_tb10 {X d : Nat} (hX : X < 1024) (h : X.testBit d = true) : d < 10 := by
  rcases Nat.lt_or_ge d 10 with z | z
  · exact z
  · have h2 : 2 ^ 10 ≤ 2 ^ d := Nat.pow_le_pow_right (by decide) z
    rw [Nat.testBit_lt_two_pow (show X < 2 ^ d by omega)] at h
    exact absurd h (by decide)
theorem fd_no : ∀ j, j < 6 → (nI j = (-1 : Int32) ↔ j = 6) := by decide +kernel
theorem fd_fe {f : Nat} (hf : f < 6) : ∀ j, j < 6 → (nI j = nI f ↔ j = f) := fun j hj => nI_eq (by omega) (by omega)
section
variable {T : Nat} {mn : Int32} {a1 a2 : Nat → Int64} {a3 a4 a5 a6 a7 : Nat → Int32} {a8 : Nat → Int64} {ps w1 w2 : Nat → Nat}
theorem fd_beside {post : Int64 → Prop} {x1 : Int32} (f : Nat) (hf : ∀ j, j < 6 → (nI j = x1 ↔ j = f)) (hT : T < 1024) (hp : ∀ j, j < 6 → ps j < 1024) (H : post (lN (fd_bs T ps f 6))) :
    wpX_beside post (lN T, mn, a1, a2, a3, a4, a5, a6, a7, fd_L ps) x1 := by
  unfold wpX_beside
  dsimp only
  refine pk_loop (σ := Unit) (fun n i _ => wX_beside_8 post x1 (lN T) mn a1 a2 a3 a4 a5 a6 a7 (fd_L ps) n (lN (fd_bs T ps f i)) (nI i)) (fun _ _ => True) 6 0 () (by omega) trivial ?_ ?_
  · intro n _ _
    exact pk_le 6 6 (fun _ => H) (fun z => absurd z (by omega))
  · intro n i _ hi _ hw
    have hb : fd_bs T ps f i ≤ T := fd_bsle T ps f i
    refine pk_le 6 i (fun z => absurd z (by omega)) (fun _ => ek_if (hf i hi) (fun e => nm_r ?_ (nm_r (nI_1 i) (hw () trivial))) (fun e => ⟨pk_in i 6 hi, nm_r ?_ (nm_r (nI_1 i) (hw () trivial))⟩))
    · rw [wb_and (by omega) (by omega)]
      show lN _ = lN (fd_bs T ps f i &&& (if i = f then T else ps i))
      rw [if_pos e]
    · have hpi := hp i hi
      rw [nI_clamp (by omega)]
      show lN (fd_bs T ps f i) &&& lN (ps i) = lN (fd_bs T ps f i &&& (if i = f then T else ps i))
      rw [wb_and (by omega) (by omega), if_neg e]
theorem fd_holdT {post : Int64 → Prop} {t' : Int64} {f t : Nat} (hf : f < 3) (ht : t < 10) (H : post (a1 (10 * f + t))) : wpX_holders post (t', mn, a1, a2, a3, a4, a5, a6, a7, a8) (nI f) (nI t) := by
  unfold wpX_holders
  dsimp only
  refine pk_eq f 3 (fun z => absurd z (by omega)) (fun _ => ⟨pk_in (10 * f + t) 30 (by omega) fd_ten, ?_⟩)
  rw [fd_ten, nI_clamp (by omega)]
  exact H
theorem fd_holdG {post : Int64 → Prop} {t' : Int64} {t : Nat} (ht : t < 8) (H : post (a2 t)) : wpX_holders post (t', mn, a1, a2, a3, a4, a5, a6, a7, a8) 3 (nI t) := by
  unfold wpX_holders
  dsimp only
  refine br_t rfl ⟨pk_in t 8 ht, ?_⟩
  rw [nI_clamp (by omega)]
  exact H
theorem fd_facetT {post : Int32 → Prop} {f t : Nat} (hf : f < 3) (ht : t < 10) (hT : T < 1024) (hp : ∀ j, j < 6 → ps j < 1024) (hw : w1 (10 * f + t) < 1024) (H : post (nI (fd_pc (fd_bs T ps f 6 &&& w1 (10 * f + t))))) :
    wpX_facet post (lN T, mn, fd_L w1, a2, a3, a4, a5, a6, a7, fd_L ps) (nI f) (nI t) := by
  have hb : fd_bs T ps f 6 ≤ T := fd_bsle T ps f 6
  unfold wpX_facet
  dsimp only
  exact fd_isGroup (by omega) (br_f (by decide) (fd_isTermOf (by omega) (by rw [if_neg (by omega)]; exact ht) (br_f (by decide) (fd_beside f (fd_fe (by omega)) hT hp (fd_holdT hf ht (nm_r (wb_and (by omega) (by omega)) (fd_ones (fd_andlt (by omega)) H)))))))
theorem fd_facetG {post : Int32 → Prop} {t : Nat} (ht : t < 8) (hT : T < 1024) (hp : ∀ j, j < 6 → ps j < 1024) (hw : w2 t < 1024) (H : post (nI (fd_pc (fd_bs T ps 3 6 &&& w2 t)))) :
    wpX_facet post (lN T, mn, a1, fd_L w2, a3, a4, a5, a6, a7, fd_L ps) 3 (nI t) := by
  have hb : fd_bs T ps 3 6 ≤ T := fd_bsle T ps 3 6
  unfold wpX_facet
  dsimp only
  exact fd_isGroup (f := 3) (by omega) (br_f (by decide) (fd_isTermOf (f := 3) (by omega) (by rw [if_pos rfl]; exact ht) (br_f (by decide) (fd_beside 3 (fd_fe (f := 3) (by decide)) hT hp (fd_holdG ht (nm_r (wb_and (by omega) (by omega)) (fd_ones (fd_andlt (by omega)) H)))))))
theorem fd_matching {post : Int32 → Prop} (hT : T < 1024) (hp : ∀ j, j < 6 → ps j < 1024) (H : post (nI (fd_pc (fd_bs T ps 6 6)))) :
    wpX_matching post (lN T, mn, a1, a2, a3, a4, a5, a6, a7, fd_L ps) := by
  have hb : fd_bs T ps 6 6 ≤ T := fd_bsle T ps 6 6
  unfold wpX_matching
  dsimp only
  exact fd_beside 6 fd_no hT hp (fd_ones (by omega) H)
/-! sum -/
def fd_sm (X : Nat) (g : Nat → Int32) : Nat → Int32
  | 0 => 0
  | d + 1 => fd_sm X g d + (if X.testBit d = true then g d else 0)
theorem fd_sum {post : Int32 → Prop} {v : Nat → Nat → Int32} {f t : Nat} (hf : f < 3) (ht : t < 10) (hT : T < 1024) (hp : ∀ j, j < 6 → ps j < 1024) (hw : w1 (10 * f + t) < 1024)
    (H : post (fd_sm (fd_bs T ps 6 6 &&& w1 (10 * f + t)) (fun d => v d 4) 48)) :
    wpX_sum post (lN T, mn, fd_L w1, a2, fd_V v, a4, a5, a6, a7, fd_L ps) (nI f) (nI t) 4 := by
  have hb : fd_bs T ps 6 6 ≤ T := fd_bsle T ps 6 6
  have hX : fd_bs T ps 6 6 &&& w1 (10 * f + t) < 1024 := fd_andlt (by omega)
  unfold wpX_sum
  dsimp only
  refine fd_isGroup (by omega) (br_f (by decide) (fd_isNum (f := 4) (Or.inl rfl) (br_f (by decide) (fd_isTermOf (by omega) (by rw [if_neg (by omega)]; exact ht) (br_f (by decide) (fd_beside 6 fd_no hT hp (fd_holdT hf ht (nm_r (wb_and (by omega) (by omega)) ?_))))))))
  refine pk_loop (σ := Unit) (fun n i _ => wX_sum_48 post 4 (lN (fd_bs T ps 6 6 &&& w1 (10 * f + t))) (lN T) mn (fd_L w1) a2 (fd_V v) a4 a5 a6 a7 (fd_L ps) n (fd_sm (fd_bs T ps 6 6 &&& w1 (10 * f + t)) (fun d => v d 4) i) (nI i)) (fun _ _ => True) 48 0 () (by omega) trivial ?_ ?_
  · intro n _ _
    exact pk_le 48 48 (fun _ => H) (fun z => absurd z (by omega))
  · intro n i _ hi _ hw
    refine pk_le 48 i (fun z => absurd z (by omega)) (fun _ => fd_in (by omega) (by omega) (fun e => br_f (by decide) ⟨pk_in (6 * i + 4) 288 (by omega) (fd_six (f := 4)), nm_r ?_ (nm_r (nI_1 i) (hw () trivial))⟩) (fun e => br_t rfl (nm_r ?_ (nm_r (nI_1 i) (hw () trivial)))))
    · rw [show (6 : Int32) * nI i + 4 = nI (6 * i + 4) from fd_six (f := 4), nI_clamp (by omega), fd_Vat _ (by omega)]
      show _ = fd_sm _ _ i + (if _ then v i 4 else 0)
      rw [if_pos e]
    · show _ = fd_sm _ _ i + (if _ then v i 4 else 0)
      rw [if_neg (by rw [e]; decide)]
/-! the first terms -/
def fd_pa (fc : Nat → Nat) (t : Nat) : Nat → Nat
  | 0 => 0
  | j + 1 => fd_pa fc t j + (if fc t < fc j ∨ (fc j = fc t ∧ j < t) then 1 else 0)
theorem fd_pale (fc : Nat → Nat) (t : Nat) : ∀ j, fd_pa fc t j ≤ j := by
  intro j
  induction j with
  | zero => exact Nat.le_refl _
  | succ j ih =>
    show fd_pa fc t j + (if _ then 1 else 0) ≤ j + 1
    split <;> omega
theorem fd_among {post : Int32 → Prop} {f t : Nat} (fc : Nat → Nat) (hf : f < 3) (ht : t < 10) (hT : T < 1024) (hp : ∀ j, j < 6 → ps j < 1024) (hw : ∀ j, j < 10 → w1 (10 * f + j) < 1024) (hc : ∀ j, j < 10 → fc j = fd_pc (fd_bs T ps f 6 &&& w1 (10 * f + j)))
    (H : post (nI (fd_pa fc t 10))) : wpX_placeAmong post (lN T, mn, fd_L w1, a2, a3, a4, a5, a6, a7, fd_L ps) (nI f) (nI t) (nI (fc t)) 10 := by
  have hle : ∀ j, j < 10 → fc j ≤ 10 := fun j hj => by rw [hc j hj]; exact fd_pcle _
  unfold wpX_placeAmong
  dsimp only
  refine pk_loop (σ := Unit) (fun n i _ => wX_placeAmong_6 post (nI f) (nI t) (nI (fc t)) 10 (lN T) mn (fd_L w1) a2 a3 a4 a5 a6 a7 (fd_L ps) n (nI (fd_pa fc t i)) (nI i)) (fun _ _ => True) 10 0 () (by omega) trivial ?_ ?_
  · intro n _ _
    exact pk_le 10 10 (fun _ => H) (fun z => absurd z (by omega))
  · intro n i _ hi _ hk
    have h1 := hle t ht
    have h2 := hle i hi
    refine pk_le 10 i (fun z => absurd z (by omega)) (fun _ => fd_facetT hf hi hT hp (hw i hi) ?_)
    rw [← hc i hi]
    have hA : (fc t < fc i ∨ (fc i = fc t ∧ i < t)) → fd_pa fc t (i + 1) = fd_pa fc t i + 1 := fun z => by
      show fd_pa fc t i + (if _ then 1 else 0) = _
      rw [if_pos z]
    have hB : ¬ (fc t < fc i ∨ (fc i = fc t ∧ i < t)) → fd_pa fc t (i + 1) = fd_pa fc t i := fun z => by
      show fd_pa fc t i + (if _ then 1 else 0) = _
      rw [if_neg z, Nat.add_zero]
    have kA : (fc t < fc i ∨ (fc i = fc t ∧ i < t)) → nI (fd_pa fc t i) + 1 = nI (fd_pa fc t (i + 1)) := fun z => by rw [hA z, nI_1]
    have kB : ¬ (fc t < fc i ∨ (fc i = fc t ∧ i < t)) → nI (fd_pa fc t i) + 0 = nI (fd_pa fc t (i + 1)) := fun z => by rw [hB z, Int32.add_zero]
    exact pk_lt (fc t) (fc i) (fun z => nm_r (kA (Or.inl z)) (nm_r (nI_1 i) (hk () trivial))) (fun z => pk_eq (fc i) (fc t) (fun z2 => pk_le t i (fun z3 => nm_r (kB (by omega)) (nm_r (nI_1 i) (hk () trivial))) (fun z3 => nm_r (kA (Or.inr ⟨z2, z3⟩)) (nm_r (nI_1 i) (hk () trivial)))) (fun z2 => nm_r (kB (by omega)) (nm_r (nI_1 i) (hk () trivial))))
theorem fd_top {post : Int32 → Prop} {f k r : Nat} (fc : Nat → Nat) (hf : f < 3) (hk : k < 100) (hT : T < 1024) (hp : ∀ j, j < 6 → ps j < 1024) (hw : ∀ j, j < 10 → w1 (10 * f + j) < 1024) (hc : ∀ j, j < 10 → fc j = fd_pc (fd_bs T ps f 6 &&& w1 (10 * f + j)))
    (hr : r ≤ 10) (hno : ∀ t, t < r → fc t = 0 ∨ fd_pa fc t 10 ≠ k) (hyes : r < 10 → 0 < fc r ∧ fd_pa fc r 10 = k) (H : post (if r < 10 then nI r else -6)) :
    wpX_topTerm post (lN T, mn, fd_L w1, a2, a3, a4, a5, a6, a7, fd_L ps) (nI f) (nI k) := by
  have hle : ∀ j, j < 10 → fc j ≤ 10 := fun j hj => by rw [hc j hj]; exact fd_pcle _
  unfold wpX_topTerm
  dsimp only
  refine fd_isGroup (by omega) (br_f (by decide) (pk_eq f 3 (fun z => absurd z (by omega)) (fun _ => ?_)))
  refine pk_loop (σ := Unit) (fun n i _ => wX_topTerm_26 post (nI f) (nI k) 10 (lN T) mn (fd_L w1) a2 a3 a4 a5 a6 a7 (fd_L ps) n (nI i)) (fun _ _ => True) r 0 () (by omega) trivial ?_ ?_
  · intro n _ _
    refine pk_le 10 r (fun z => ?_) (fun z => fd_facetT hf z hT hp (hw r z) ?_)
    · rw [if_neg (by omega)] at H
      exact H
    · have h1 := hle r z
      have h2 := hyes z
      have h3 := fd_pale fc r 10
      rw [← hc r z]
      rw [if_pos z] at H
      exact pk_le (fc r) 0 (fun y => absurd y (by omega)) (fun _ => fd_among fc hf z hT hp hw hc (pk_eq (fd_pa fc r 10) k (fun _ => H) (fun y => absurd h2.2 y)))
  · intro n i _ hi _ hk
    have h1 := hle i (by omega)
    have h2 := hno i hi
    have h3 := fd_pale fc i 10
    refine pk_le 10 i (fun z => absurd z (by omega)) (fun z => fd_facetT hf z hT hp (hw i z) ?_)
    rw [← hc i z]
    exact pk_le (fc i) 0 (fun y => nm_r (nI_1 i) (hk () trivial)) (fun y => fd_among fc hf z hT hp hw hc (pk_eq (fd_pa fc i 10) k (fun y2 => absurd y2 (by omega)) (fun _ => nm_r (nI_1 i) (hk () trivial))))
end
end
section
/-! different values, pairs, documents by rank, extremes -/
section
variable {T : Nat} {mn : Int32} {a1 a2 : Nat → Int64} {a3 a4 a5 a6 a7 : Nat → Int32} {a8 : Nat → Int64} {ps w1 w2 : Nat → Nat}
theorem fd_fresh {post : Int32 → Prop} {t' : Int64} {v : Nat → Nat → Int32} {X d f : Nat} (g : Nat → Nat) (hX : X < 1024) (hd : d < 10) (hf : f < 6) (hg : ∀ j, j < 10 → g j < 1000 ∧ v j f = nI (g j))
    (H1 : (∀ j, j < d → ¬ (X.testBit j = true ∧ g j = g d)) → post 1) (H0 : ¬ (∀ j, j < d → ¬ (X.testBit j = true ∧ g j = g d)) → post 0) :
    wpX_isFresh post (t', mn, a1, a2, fd_V v, a4, a5, a6, a7, a8) (lN X) (nI f) (nI d) := by
  unfold wpX_isFresh
  dsimp only
  obtain ⟨hd1, hd2⟩ := hg d hd
  refine ⟨pk_in (6 * d + f) 288 (by omega) fd_six, nm_r (e' := nI (g d)) ?_ ?_⟩
  · rw [fd_six, nI_clamp (by omega), fd_Vat _ hf, hd2]
  · refine pk_loop (σ := Unit) (fun n i _ => wX_isFresh_17 post (lN X) (nI f) (nI d) (nI (g d)) t' mn a1 a2 (fd_V v) a4 a5 a6 a7 a8 n (nI i)) (fun i _ => ∀ j, j < i → ¬ (X.testBit j = true ∧ g j = g d)) d 0 () (by omega) (fun j hj => absurd hj (by omega)) ?_ ?_
    · intro n _ hI
      exact pk_le d d (fun _ => H1 hI) (fun z => absurd z (by omega))
    · intro n i _ hi hI hw
      obtain ⟨hi1, hi2⟩ := hg i (by omega)
      refine pk_le d i (fun z => absurd z (by omega)) (fun _ => fd_in (by omega) (by omega) (fun e => br_f (by decide) ⟨pk_in (6 * i + f) 288 (by omega) fd_six, ?_⟩) (fun e => br_t rfl (nm_r (nI_1 i) (hw () ?_))))
      · rw [fd_six, nI_clamp (by omega), fd_Vat _ hf, hi2]
        refine pk_eq (g i) (g d) (fun z => H0 (fun y => y i hi ⟨e, z⟩)) (fun z => nm_r (nI_1 i) (hw () (lt_s hI (fun y => z y.2))))
      · exact lt_s hI (fun y => by rw [e] at y; exact absurd y.1 (by decide))
def fd_df (X : Nat) (g : Nat → Nat) : Nat → Nat
  | 0 => 0
  | d + 1 => fd_df X g d + (if X.testBit d = true ∧ (∀ j, j < d → ¬ (X.testBit j = true ∧ g j = g d)) then 1 else 0)
theorem fd_diff {post : Int32 → Prop} {v : Nat → Nat → Int32} {f : Nat} (g : Nat → Nat) (hf : f < 6) (hT : T < 1024) (hp : ∀ j, j < 6 → ps j < 1024) (hg : ∀ j, j < 10 → g j < 1000 ∧ v j f = nI (g j))
    (H : post (nI (fd_df (fd_bs T ps 6 6) g 48))) : wpX_different post (lN T, mn, a1, a2, fd_V v, a4, a5, a6, a7, fd_L ps) (nI f) := by
  have hb : fd_bs T ps 6 6 ≤ T := fd_bsle T ps 6 6
  unfold wpX_different
  dsimp only
  refine fd_isField hf (br_f (by decide) (fd_beside 6 fd_no hT hp ?_))
  refine pk_loop (σ := Unit) (fun n i _ => wX_different_22 post (nI f) (lN (fd_bs T ps 6 6)) (lN T) mn a1 a2 (fd_V v) a4 a5 a6 a7 (fd_L ps) n (nI (fd_df (fd_bs T ps 6 6) g i)) (nI i)) (fun _ _ => True) 48 0 () (by omega) trivial ?_ ?_
  · intro n _ _
    exact pk_le 48 48 (fun _ => H) (fun z => absurd z (by omega))
  · intro n i _ hi _ hw
    have kT : ((fd_bs T ps 6 6).testBit i = true ∧ (∀ j, j < i → ¬ ((fd_bs T ps 6 6).testBit j = true ∧ g j = g i))) → nI (fd_df (fd_bs T ps 6 6) g i) + 1 = nI (fd_df (fd_bs T ps 6 6) g (i + 1)) := fun z => by
      rw [nI_1]
      show _ = nI (fd_df (fd_bs T ps 6 6) g i + (if _ then 1 else 0))
      rw [if_pos z]
    have kF : ¬ ((fd_bs T ps 6 6).testBit i = true ∧ (∀ j, j < i → ¬ ((fd_bs T ps 6 6).testBit j = true ∧ g j = g i))) → fd_df (fd_bs T ps 6 6) g (i + 1) = fd_df (fd_bs T ps 6 6) g i := fun z => by
      show fd_df (fd_bs T ps 6 6) g i + (if _ then 1 else 0) = _
      rw [if_neg z, Nat.add_zero]
    have W := hw () trivial
    refine pk_le 48 i (fun z => absurd z (by omega)) (fun _ => fd_in (by omega) (by omega) (fun e => br_f (by decide) (fd_fresh g (by omega) (fd_tb10 (by omega) e) hf hg (fun z => br_f (by decide) (nm_r (kT ⟨e, z⟩) (nm_r (nI_1 i) W))) (fun z => br_t rfl (nm_r ?_ (nm_r (nI_1 i) W))))) (fun e => br_t rfl (nm_r (nI_1 i) ?_)))
    · rw [kF (fun y => z y.2), Int32.add_zero]
    · have k := kF (fun y => by rw [e] at y; exact absurd y.1 (by decide))
      rw [k] at W
      exact W
/-! pairs -/
def fd_pi (Y : Nat) (w : Nat → Nat) (o : Nat) : Nat → Nat
  | 0 => 0
  | b + 1 => fd_pi Y w o b + (if Y &&& w (10 * o + b) = 0 then 0 else 1)
def fd_po (X : Nat) (w : Nat → Nat) (f o : Nat) : Nat → Nat
  | 0 => 0
  | a + 1 => fd_po X w f o a + fd_pi (X &&& w (10 * f + a)) w o 10
theorem fd_pairs {post : Int32 → Prop} {f o : Nat} (hf : f < 3) (ho : o < 3) (hT : T < 1024) (hp : ∀ j, j < 6 → ps j < 1024) (hw : ∀ j, j < 30 → w1 j < 1024)
    (H : post (nI (fd_po (fd_bs T ps 6 6) w1 f o 10))) : wpX_pairs post (lN T, mn, fd_L w1, a2, a3, a4, a5, a6, a7, fd_L ps) (nI f) (nI o) := by
  have hb : fd_bs T ps 6 6 ≤ T := fd_bsle T ps 6 6
  unfold wpX_pairs
  dsimp only
  refine fd_isTF hf (br_f (by decide) (fd_isTF ho (br_f (by decide) (fd_beside 6 fd_no hT hp ?_))))
  refine pk_loop (σ := Unit) (fun n i _ => wX_pairs_29 post (nI f) (nI o) (lN (fd_bs T ps 6 6)) (lN T) mn (fd_L w1) a2 a3 a4 a5 a6 a7 (fd_L ps) n (nI (fd_po (fd_bs T ps 6 6) w1 f o i)) (nI i)) (fun _ _ => True) 10 0 () (by omega) trivial ?_ ?_
  · intro n _ _
    exact pk_le 10 10 (fun _ => H) (fun z => absurd z (by omega))
  · intro n a _ hi _ hk
    have hwa := hw (10 * f + a) (by omega)
    have hY : fd_bs T ps 6 6 &&& w1 (10 * f + a) < 1024 := fd_andlt (by omega)
    refine pk_le 10 a (fun z => absurd z (by omega)) (fun _ => ⟨pk_in (10 * f + a) 30 (by omega) fd_ten, nm_r (e' := lN (fd_bs T ps 6 6 &&& w1 (10 * f + a))) ?_ ?_⟩)
    · rw [fd_ten, nI_clamp (by omega)]
      exact wb_and (by omega) (by omega)
    · refine pk_loop (σ := Unit) (fun n' b _ => wX_pairs_55 post (wX_pairs_29 post (nI f) (nI o) (lN (fd_bs T ps 6 6)) (lN T) mn (fd_L w1) a2 a3 a4 a5 a6 a7 (fd_L ps) n) (nI f) (nI o) (lN (fd_bs T ps 6 6)) (nI a) (lN (fd_bs T ps 6 6 &&& w1 (10 * f + a))) (lN T) mn (fd_L w1) a2 a3 a4 a5 a6 a7 (fd_L ps) n' (nI (fd_po (fd_bs T ps 6 6) w1 f o a + fd_pi (fd_bs T ps 6 6 &&& w1 (10 * f + a)) w1 o b)) (nI b)) (fun _ _ => True) 10 0 () (by omega) trivial ?_ ?_
      · intro n' _ _
        exact pk_le 10 10 (fun _ => nm_r (nI_1 a) (hk () trivial)) (fun z => absurd z (by omega))
      · intro n' b _ hb' _ hk'
        have hwb := hw (10 * o + b) (by omega)
        have hZ : fd_bs T ps 6 6 &&& w1 (10 * f + a) &&& w1 (10 * o + b) < 1024 := fd_andlt hY
        refine pk_le 10 b (fun z => absurd z (by omega)) (fun _ => ⟨pk_in (10 * o + b) 30 (by omega) fd_ten, ?_⟩)
        have e : lN (fd_bs T ps 6 6 &&& w1 (10 * f + a)) &&& fd_L w1 ((10 : Int32) * nI o + nI b).toNatClampNeg = lN (fd_bs T ps 6 6 &&& w1 (10 * f + a) &&& w1 (10 * o + b)) := by
          rw [fd_ten, nI_clamp (by omega)]
          exact wb_and (by omega) (by omega)
        rw [e]
        have e2 : (lN (fd_bs T ps 6 6 &&& w1 (10 * f + a) &&& w1 (10 * o + b)) = 0) ↔ (fd_bs T ps 6 6 &&& w1 (10 * f + a) &&& w1 (10 * o + b) = 0) := pk_lEQ (b := 0) (by omega) (by omega)
        refine ek_if e2 (fun z => nm_r ?_ (nm_r (nI_1 b) (hk' () trivial))) (fun z => nm_r ?_ (nm_r (nI_1 b) (hk' () trivial)))
        · show _ = nI (fd_po (fd_bs T ps 6 6) w1 f o a + (fd_pi (fd_bs T ps 6 6 &&& w1 (10 * f + a)) w1 o b + (if _ then 0 else 1)))
          rw [if_pos z, Int32.add_zero, Nat.add_zero]
        · show _ = nI (fd_po (fd_bs T ps 6 6) w1 f o a + (fd_pi (fd_bs T ps 6 6 &&& w1 (10 * f + a)) w1 o b + (if _ then 0 else 1)))
          rw [if_neg z, nI_1]
          rfl
end
end
section
/-! documents by rank, extremes, stretches of an order -/
def fd_cn (X : Nat) (o : Nat → Nat) : Nat → Nat
  | 0 => 0
  | i + 1 => fd_cn X o i + (if X.testBit (o i) = true then 1 else 0)
theorem fd_cnle (X : Nat) (o : Nat → Nat) : ∀ i, fd_cn X o i ≤ i := by
  intro i
  induction i with
  | zero => exact Nat.le_refl _
  | succ i ih =>
    show fd_cn X o i + (if _ then 1 else 0) ≤ i + 1
    split <;> omega
theorem fd_nm1 {x : Nat} (h : x < 48) : ¬ nI x < (-1 : Int32) := by
  rw [fd_lt, nI_toInt (by omega), show (-1 : Int32).toInt = -1 from rfl]
  omega
section
variable {T : Nat} {a1 a2 : Nat → Int64} {a3 a4 a5 a6 a7 : Nat → Int32} {ps w1 w2 : Nat → Nat}
theorem fd_docAt {post : Int32 → Prop} {f n k r : Nat} (o : Nat → Nat) (hf : f = 4 ∨ f = 5) (hn : n ≤ 48) (hk : k < 100) (hT : T < 1024) (hp : ∀ j, j < 6 → ps j < 1024)
    (ho : ∀ j, j < n → o j < 48 ∧ a4 (48 * (f - 4) + j) = nI (o j)) (hr : r ≤ n)
    (hno : ∀ i, i < r → (fd_bs T ps 6 6).testBit (o i) = true → fd_cn (fd_bs T ps 6 6) o i ≠ k)
    (hyes : r < n → (fd_bs T ps 6 6).testBit (o r) = true ∧ fd_cn (fd_bs T ps 6 6) o r = k) (H : post (if r < n then nI (o r) else -1)) :
    wpX_documentAt post (lN T, nI n, a1, a2, a3, a4, a5, a6, a7, fd_L ps) (nI f) (nI k) := by
  have hb : fd_bs T ps 6 6 ≤ T := fd_bsle T ps 6 6
  unfold wpX_documentAt
  dsimp only
  refine fd_beside 6 fd_no hT hp (nm_r (fd_base (by omega)) ?_)
  refine pk_loop (σ := Unit) (fun g i _ => wX_documentAt_20 post (nI k) (lN (fd_bs T ps 6 6)) (nI (48 * (f - 4))) (lN T) (nI n) a1 a2 a3 a4 a5 a6 a7 (fd_L ps) g (nI (fd_cn (fd_bs T ps 6 6) o i)) (nI i)) (fun _ _ => True) r 0 () (by omega) trivial ?_ ?_
  · intro g _ _
    refine pk_le n r (fun z => ?_) (fun z => ⟨pk_in (48 * (f - 4) + r) 96 (by omega) (nI_add _ _), ?_⟩)
    · rw [if_neg (by omega)] at H
      exact H
    · obtain ⟨o1, o2⟩ := ho r z
      obtain ⟨y1, y2⟩ := hyes z
      have c1 := fd_cnle (fd_bs T ps 6 6) o r
      rw [if_pos z] at H
      rw [nI_add, nI_clamp (by omega), o2]
      exact fd_in (by omega) (by omega) (fun e => br_f (by decide) (pk_eq (fd_cn (fd_bs T ps 6 6) o r) k (fun _ => ⟨pk_in (48 * (f - 4) + r) 96 (by omega), H⟩) (fun y => absurd y2 y))) (fun e => absurd y1 (by rw [e]; decide))
  · intro g i _ hi _ hw
    refine pk_le n i (fun z => absurd z (by omega)) (fun z => ⟨pk_in (48 * (f - 4) + i) 96 (by omega) (nI_add _ _), ?_⟩)
    obtain ⟨o1, o2⟩ := ho i z
    have c1 := fd_cnle (fd_bs T ps 6 6) o i
    rw [nI_add, nI_clamp (by omega), o2]
    refine fd_in (by omega) (by omega) (fun e => br_f (by decide) (pk_eq (fd_cn (fd_bs T ps 6 6) o i) k (fun y => absurd y (hno i hi e)) (fun y => nm_r ?_ (nm_r (nI_1 i) (hw () trivial))))) (fun e => br_t rfl (nm_r (nI_1 i) ?_))
    · rw [nI_1]
      show _ = nI (fd_cn (fd_bs T ps 6 6) o i + (if _ then 1 else 0))
      rw [if_pos e]
    · have W := hw () trivial
      have k : fd_cn (fd_bs T ps 6 6) o (i + 1) = fd_cn (fd_bs T ps 6 6) o i := by
        show fd_cn (fd_bs T ps 6 6) o i + (if _ then 1 else 0) = _
        rw [if_neg (by rw [e]; decide), Nat.add_zero]
      rw [k] at W
      exact W
theorem fd_ranked {post : Int32 → Prop} {f n k r : Nat} (o : Nat → Nat) (hf : f = 4 ∨ f = 5) (hn : n ≤ 48) (hk : k < 100) (hT : T < 1024) (hp : ∀ j, j < 6 → ps j < 1024)
    (ho : ∀ j, j < n → o j < 48 ∧ a4 (48 * (f - 4) + j) = nI (o j)) (hr : r < n)
    (hno : ∀ i, i < r → (fd_bs T ps 6 6).testBit (o i) = true → fd_cn (fd_bs T ps 6 6) o i ≠ k)
    (hyes : (fd_bs T ps 6 6).testBit (o r) = true ∧ fd_cn (fd_bs T ps 6 6) o r = k) (H : post (a3 (6 * o r + f))) :
    wpX_ranked post (lN T, nI n, a1, a2, a3, a4, a5, a6, a7, fd_L ps) (nI f) (nI k) := by
  have o1 := (ho r hr).1
  unfold wpX_ranked
  dsimp only
  refine fd_isNum hf (br_f (by decide) (fd_docAt o hf hn hk hT hp ho (by omega) hno (fun _ => hyes) ?_))
  rw [if_pos hr]
  refine br_t (nI_pos' (by omega)) ⟨pk_in (6 * o r + f) 288 (by omega) fd_six, ?_⟩
  rw [fd_six, nI_clamp (by omega)]
  exact H
theorem fd_sorted0 {post : Int32 → Prop} {f n k r : Nat} (o : Nat → Nat) (hf : f = 4 ∨ f = 5) (hn : n ≤ 48) (hk : k < 100) (hT : T < 1024) (hp : ∀ j, j < 6 → ps j < 1024)
    (ho : ∀ j, j < n → o j < 48 ∧ a4 (48 * (f - 4) + j) = nI (o j)) (hr : r ≤ n)
    (hno : ∀ i, i < r → (fd_bs T ps 6 6).testBit (o i) = true → fd_cn (fd_bs T ps 6 6) o i ≠ k)
    (hyes : r < n → (fd_bs T ps 6 6).testBit (o r) = true ∧ fd_cn (fd_bs T ps 6 6) o r = k) (H : post (if r < n then nI (o r) else -6)) :
    wpX_sorted post (lN T, nI n, a1, a2, a3, a4, a5, a6, a7, fd_L ps) (nI f) 0 (nI k) := by
  unfold wpX_sorted
  dsimp only
  refine fd_isNum hf (br_f (by decide) (br_f (by decide) (br_t (by decide) (br_t rfl (fd_docAt o hf hn hk hT hp ho hr hno hyes ?_)))))
  unfold wX_sorted_41
  by_cases c : r < n
  · have o1 := (ho r c).1
    rw [if_pos c] at H ⊢
    exact br_t (nI_pos' (by omega)) H
  · rw [if_neg c] at H ⊢
    exact br_f (by decide) H
/-! from the greatest down -/
theorem fd_fall4 {post : Int32 → Prop} {f n k : Nat} (o : Nat → Nat) (hf : f = 4 ∨ f = 5) (hn : n ≤ 48) (hk : k < n) (hT : T < 1024) (hp : ∀ j, j < 6 → ps j < 1024)
    (ho : ∀ j, j < n → o j < 48 ∧ a4 (48 * (f - 4) + j) = nI (o j)) (hX : ∀ j, j < n → (fd_bs T ps 6 6).testBit (o j) = true)
    (hl : ∀ e, e < n → ∀ j, j < n → (a3 (6 * o j + f) < a3 (6 * o e + f) ↔ j < e)) (H : post (nI (o (n - 1 - k)))) :
    wpX_sorted post (lN T, nI n, a1, a2, a3, a4, a5, a6, a7, fd_L ps) (nI f) 1 (nI k) := by
  have hb : fd_bs T ps 6 6 ≤ T := fd_bsle T ps 6 6
  unfold wpX_sorted
  dsimp only
  refine fd_isNum hf (br_f (by decide) (br_f (by decide) (br_t (by decide) (br_f (by decide) ?_))))
  unfold wpX_fallingAt
  dsimp only
  refine fd_beside 6 fd_no hT hp (nm_r (fd_base (by omega)) ?_)
  have step : ∀ g i, i ≤ k → (i < k → wX_fallingAt_26 (fun r_6 => wX_sorted_41 post r_6 (lN T) (nI n) a1 a2 a3 a4 a5 a6 a7 (fd_L ps)) (nI f) (nI k) (lN (fd_bs T ps 6 6)) (nI (48 * (f - 4))) (lN T) (nI n) a1 a2 a3 a4 a5 a6 a7 (fd_L ps) g (nI (i + 1)) (nI (n - (i + 1))) (nI (i + 1))) →
      wX_fallingAt_26 (fun r_6 => wX_sorted_41 post r_6 (lN T) (nI n) a1 a2 a3 a4 a5 a6 a7 (fd_L ps)) (nI f) (nI k) (lN (fd_bs T ps 6 6)) (nI (48 * (f - 4))) (lN T) (nI n) a1 a2 a3 a4 a5 a6 a7 (fd_L ps) (g + 1) (nI i) (nI (n - i)) (nI i) := by
    intro g i hi hw
    obtain ⟨o1, o2⟩ := ho (n - 1 - i) (by omega)
    have x1 := hX (n - 1 - i) (by omega)
    have e1 : nI (48 * (f - 4)) + nI (n - i) - 1 = nI (48 * (f - 4) + (n - 1 - i)) := by
      rw [nI_add, show (1 : Int32) = nI 1 from rfl, pk_sub (by omega), show 48 * (f - 4) + (n - i) - 1 = 48 * (f - 4) + (n - 1 - i) by omega]
    refine pk_le 48 i (fun z => absurd z (by omega)) (fun _ => pk_le (n - i) 0 (fun z => absurd z (by omega)) (fun _ => ⟨pk_in (48 * (f - 4) + (n - 1 - i)) 96 (by omega) e1, ?_⟩))
    rw [e1, nI_clamp (by omega), o2]
    refine ⟨pk_in (6 * o (n - 1 - i) + f) 288 (by omega) fd_six, nm_r (e' := a3 (6 * o (n - 1 - i) + f)) (by rw [fd_six, nI_clamp (by omega)]) ?_⟩
    refine fd_place f n (n - 1 - i) o hf hn (by omega) ho (fun j hj => ?_) ⟨2, pk_le (n - i) (n - 1 - i) (fun z => absurd z (by omega)) (fun _ => ⟨pk_in (48 * (f - 4) + (n - 1 - i)) 96 (by omega) (nI_add _ _), ?_⟩)⟩
    · have h := hl (n - 1 - i) (by omega) j hj
      have h2 := fd_nm1 (ho j hj).1
      exact ⟨fun z => by rcases z with z | z; exact h.mp z; exact absurd z.2 h2, fun z => Or.inl (h.mpr z)⟩
    · rw [nI_add, nI_clamp (by omega), o2]
      refine fd_in (by omega) (by omega) (fun e => br_f (by decide) (pk_eq i k (fun z => ⟨pk_in (48 * (f - 4) + (n - 1 - i)) 96 (by omega), ?_⟩) (fun z => nm_r (nI_1 i) (nm_r (nI_1 (n - 1 - i)) ?_)))) (fun e => absurd x1 (by rw [e]; decide))
      · unfold wX_sorted_41
        subst z
        exact br_t (nI_pos' (by omega)) H
      · have W := hw (by omega)
        rw [show n - (i + 1) = n - 1 - i by omega] at W
        exact pk_le (n - i) (n - 1 - i + 1) (fun _ => nm_r (nI_1 i) W) (fun y => absurd y (by omega))
  refine pk_loop (σ := Unit) (fun g i _ => wX_fallingAt_26 (fun r_6 => wX_sorted_41 post r_6 (lN T) (nI n) a1 a2 a3 a4 a5 a6 a7 (fd_L ps)) (nI f) (nI k) (lN (fd_bs T ps 6 6)) (nI (48 * (f - 4))) (lN T) (nI n) a1 a2 a3 a4 a5 a6 a7 (fd_L ps) g (nI i) (nI (n - i)) (nI i)) (fun _ _ => True) k 0 () (by omega) trivial ?_ ?_
  · intro g _ _
    exact step g k (Nat.le_refl _) (fun z => absurd z (by omega))
  · intro g i _ hi _ hw
    exact step g i (by omega) (fun _ => hw () trivial)
theorem fd_fall5 {post : Int32 → Prop} {f n p : Nat} (o : Nat → Nat) (hf : f = 4 ∨ f = 5) (hn : n ≤ 48) (hpn : p < n) (hT : T < 1024) (hp : ∀ j, j < 6 → ps j < 1024)
    (ho : ∀ j, j < n → o j < 48 ∧ a4 (48 * (f - 4) + j) = nI (o j)) (hX : (fd_bs T ps 6 6).testBit (o p) = true)
    (hl : ∀ j, j < n → (a3 (6 * o j + f) < a3 (6 * o (n - 1) + f) ↔ j < p)) (H : post (nI (o p))) :
    wpX_sorted post (lN T, nI n, a1, a2, a3, a4, a5, a6, a7, fd_L ps) (nI f) 1 0 := by
  have hb : fd_bs T ps 6 6 ≤ T := fd_bsle T ps 6 6
  unfold wpX_sorted
  dsimp only
  refine fd_isNum hf (br_f (by decide) (br_f (by decide) (br_t (by decide) (br_f (by decide) ?_))))
  unfold wpX_fallingAt
  dsimp only
  refine fd_beside 6 fd_no hT hp (nm_r (fd_base (by omega)) ⟨1, ?_⟩)
  obtain ⟨o1, o2⟩ := ho (n - 1) (by omega)
  obtain ⟨q1, q2⟩ := ho p (by omega)
  have e1 : nI (48 * (f - 4)) + nI n - 1 = nI (48 * (f - 4) + (n - 1)) := by
    rw [nI_add, show (1 : Int32) = nI 1 from rfl, pk_sub (by omega), show 48 * (f - 4) + n - 1 = 48 * (f - 4) + (n - 1) by omega]
  refine pk_le 48 0 (fun z => absurd z (by omega)) (fun _ => pk_le n 0 (fun z => absurd z (by omega)) (fun _ => ⟨pk_in (48 * (f - 4) + (n - 1)) 96 (by omega) e1, ?_⟩))
  rw [e1, nI_clamp (by omega), o2]
  refine ⟨pk_in (6 * o (n - 1) + f) 288 (by omega) fd_six, nm_r (e' := a3 (6 * o (n - 1) + f)) (by rw [fd_six, nI_clamp (by omega)]) ?_⟩
  refine fd_place f n p o hf hn (by omega) ho (fun j hj => ?_) ⟨1, pk_le n p (fun z => absurd z (by omega)) (fun _ => ⟨pk_in (48 * (f - 4) + p) 96 (by omega) (nI_add _ _), ?_⟩)⟩
  · have h := hl j hj
    have h2 := fd_nm1 (ho j hj).1
    exact ⟨fun z => by rcases z with z | z; exact h.mp z; exact absurd z.2 h2, fun z => Or.inl (h.mpr z)⟩
  · rw [nI_add, nI_clamp (by omega), q2]
    refine fd_in (by omega) (by omega) (fun e => br_f (by decide) (br_t rfl ⟨pk_in (48 * (f - 4) + p) 96 (by omega), ?_⟩)) (fun e => absurd hX (by rw [e]; decide))
    unfold wX_sorted_41
    exact br_t (nI_pos' (by omega)) H
end
end
section
/-! extremes; stretches of an order, counts of a range, boxes -/
def fd_st (o : Nat → Nat) (p : Nat) : Nat → Nat
  | 0 => 0
  | c + 1 => fd_st o p c ||| 2 ^ o (p + c)
theorem fd_stlt (o : Nat → Nat) (p n : Nat) (ho : ∀ j, j < n → o j < 48) : ∀ c, p + c ≤ n → fd_st o p c < 2 ^ 48 := by
  intro c
  induction c with
  | zero => intro _; exact Nat.pow_pos (by decide)
  | succ c ih =>
    intro h
    exact Nat.or_lt_two_pow (ih (by omega)) (Nat.pow_lt_pow_right (by decide) (ho _ (by omega)))
theorem fd_sst (x : Int64) : (0 : Int64) ||| x = x := Int64.zero_or
section
variable {T : Nat} {a1 a2 : Nat → Int64} {a3 a4 a5 a6 a7 : Nat → Int32} {a8 : Nat → Int64} {ps w1 w2 : Nat → Nat}
theorem fd_ext {post : Int32 → Prop} {n c g t r : Nat} (o : Nat → Nat) (hc : c < 300) (hg : c / 100 = g) (ht : c / 10 % 10 = t) (h1 : c % 10 = 1) (hn : n ≤ 48) (hT : T < 1024) (hp : ∀ j, j < 6 → ps j < 1024) (hw : w1 (10 * g + t) < 1024)
    (ho : ∀ j, j < n → o j < 48 ∧ a4 j = nI (o j)) (hr : r ≤ n)
    (hno : ∀ i, i < r → (fd_bs T ps 6 6 &&& w1 (10 * g + t)).testBit (o (n - 1 - i)) = false)
    (hyes : r < n → (fd_bs T ps 6 6 &&& w1 (10 * g + t)).testBit (o (n - 1 - r)) = true) (H : post (if r < n then a3 (6 * o (n - 1 - r) + 4) else -2002)) :
    wpX_extreme post (lN T, nI n, fd_L w1, a2, a3, a4, a5, a6, a7, fd_L ps) (nI c) 4 := by
  have hb : fd_bs T ps 6 6 ≤ T := fd_bsle T ps 6 6
  have hX : fd_bs T ps 6 6 &&& w1 (10 * g + t) < 1024 := fd_andlt (by omega)
  unfold wpX_extreme
  dsimp only
  refine ⟨by decide, nm_r (e' := nI g) ?_ ⟨by decide, by decide, nm_r (e' := nI t) ?_ ⟨by decide, nm_r (e' := nI 1) ?_ (br_f (nI_pos (by omega)) ?_)⟩⟩⟩
  · rw [show (100 : Int32) = nI 100 from rfl, pk_div (by omega) (by omega) (by omega), hg]
  · rw [show (10 : Int32) = nI 10 from rfl, pk_div (by omega) (by omega) (by omega), pk_rem (by omega) (by omega) (by omega), ht]
  · rw [show (10 : Int32) = nI 10 from rfl, pk_rem (by omega) (by omega) (by omega), h1]
  · refine fd_isGroup (by omega) (br_f (by decide) (fd_isNum (f := 4) (Or.inl rfl) (br_f (by decide) (br_t (by decide) (fd_isTermOf (by omega) (by rw [if_neg (by omega)]; omega) (br_f (by decide) (fd_beside 6 fd_no hT hp (fd_holdT (by omega) (by omega) (nm_r (wb_and (by omega) (by omega)) (nm_r (fd_base (f := 4) (by omega)) ?_))))))))))
    have step : ∀ (J : Int32 → Prop) i, i < n → ((fd_bs T ps 6 6 &&& w1 (10 * g + t)).testBit (o (n - 1 - i)) = false → J (nI (i + 1))) → ((fd_bs T ps 6 6 &&& w1 (10 * g + t)).testBit (o (n - 1 - i)) = true → post (a3 (6 * o (n - 1 - i) + 4))) →
        wX_extreme_121 post J 4 (nI 1) (lN (fd_bs T ps 6 6 &&& w1 (10 * g + t))) (nI (48 * (4 - 4))) (nI i) (nI n - 1 - nI i) (nI (48 * (4 - 4))) (lN T) (nI n) (fd_L w1) a2 a3 a4 a5 a6 a7 (fd_L ps) := by
      intro J i hi hJ hP
      obtain ⟨o1, o2⟩ := ho (n - 1 - i) (by omega)
      have e1 : nI (48 * (4 - 4)) + (nI n - 1 - nI i) = nI (n - 1 - i) := by
        rw [show (1 : Int32) = nI 1 from rfl, pk_sub (by omega), pk_sub (by omega), nI_add, show 48 * (4 - 4) + (n - 1 - i) = n - 1 - i by omega]
      unfold wX_extreme_121
      refine ⟨pk_in (n - 1 - i) 96 (by omega) e1, nm_r (e' := nI (o (n - 1 - i))) (by rw [e1, nI_clamp (by omega), o2]) ?_⟩
      refine fd_in (by omega) (by omega) (fun e => br_f (by decide) ⟨pk_in (6 * o (n - 1 - i) + 4) 288 (by omega) (fd_six (f := 4)), ?_⟩) (fun e => br_t rfl (nm_r (nI_1 i) (hJ e)))
      rw [show (6 : Int32) * nI (o (n - 1 - i)) + 4 = nI (6 * o (n - 1 - i) + 4) from fd_six (f := 4), nI_clamp (by omega)]
      exact hP e
    refine pk_loop (σ := Unit) (fun y i _ => wX_extreme_87 post 4 (nI 1) (lN (fd_bs T ps 6 6 &&& w1 (10 * g + t))) (nI (48 * (4 - 4))) (lN T) (nI n) (fd_L w1) a2 a3 a4 a5 a6 a7 (fd_L ps) y (nI i)) (fun _ _ => True) r 0 () (by omega) trivial ?_ ?_
    · intro y _ _
      refine pk_le n r (fun z => ?_) (fun z => br_f (by decide) (step _ r z (fun e => absurd (hyes z) (by rw [e]; decide)) (fun _ => ?_)))
      · rw [if_neg (by omega)] at H
        exact H
      · rw [if_pos z] at H
        exact H
    · intro y i _ hi _ hk
      exact pk_le n i (fun z => absurd z (by omega)) (fun z => br_f (by decide) (step _ i z (fun _ => hk () trivial) (fun e => absurd (hno i hi) (by rw [e]; decide))))
theorem fd_stretch {post : Int64 → Prop} {t' : Int64} {f n p q : Nat} {N M : Int32} (o : Nat → Nat) (hf : f = 4 ∨ f = 5) (hn : n ≤ 48) (hNM : N ≤ M) (hp : p ≤ n) (hq : q ≤ n)
    (ho : ∀ j, j < n → o j < 48 ∧ a4 (48 * (f - 4) + j) = nI (o j)) (hl : ∀ j, j < n → (a3 (6 * o j + f) < N ↔ j < p)) (hl' : ∀ j, j < n → (a3 (6 * o j + f) ≤ M ↔ j < q))
    (H : post (lN (fd_st o p (q - p)))) : wpX_stretch post (t', nI n, a1, a2, a3, a4, a5, a6, a7, a8) (nI f) N M := by
  unfold wpX_stretch
  dsimp only
  refine nm_r (fd_base (by omega)) (br_t hNM (fd_place f n p o hf hn hp ho (fun j hj => ?_) (fd_place f n q o hf hn hq ho (fun j hj => ?_) ?_)))
  · have h2 := fd_nm1 (ho j hj).1
    exact ⟨fun z => by rcases z with z | z; exact (hl j hj).mp z; exact absurd z.2 h2, fun z => Or.inl ((hl j hj).mpr z)⟩
  · have h2 : nI (o j) < (48 : Int32) := nI_lt (b := 48) (ho j hj).1 (by decide)
    have h3 := hl' j hj
    rw [fd_le] at h3
    rw [← h3, fd_lt, fd_eq]
    exact ⟨fun z => by rcases z with z | z; omega; exact Int.le_of_eq z.1, fun z => by
      rcases Int.lt_or_eq_of_le z with y | y
      · exact Or.inl y
      · exact Or.inr ⟨y, h2⟩⟩
  · by_cases c : p < q
    · refine pk_loop (fun y i s => wX_stretch_42 post (nI (48 * (f - 4))) (nI q) t' (nI n) a1 a2 a3 a4 a5 a6 a7 a8 y s (nI i)) (fun i s => p ≤ i ∧ s = lN (fd_st o p (i - p))) q p 0 (by omega) ⟨Nat.le_refl _, ?_⟩ ?_ ?_
      · rw [Nat.sub_self]
        rfl
      · rintro y s ⟨_, rfl⟩
        exact pk_le q q (fun _ => H) (fun z => absurd z (by omega))
      · rintro y i s hi ⟨h1, rfl⟩ hw
        obtain ⟨o1, o2⟩ := ho i (by omega)
        refine pk_le q i (fun z => absurd z (by omega)) (fun _ => ⟨pk_in (48 * (f - 4) + i) 96 (by omega) (nI_add _ _), nm_e (nm_r (nI_1 i) (hw _ ⟨by omega, ?_⟩))⟩)
        rw [nI_add, nI_clamp (by omega), o2, fd_1sh (by omega), fd_or64, show i + 1 - p = (i - p) + 1 by omega]
        show _ = lN (fd_st o p (i - p) ||| 2 ^ o (p + (i - p)))
        rw [show p + (i - p) = i by omega]
    · rw [show q - p = 0 by omega] at H
      exact ⟨1, pk_le q p (fun _ => H) (fun z => absurd z (by omega))⟩
theorem fd_stretch0 {post : Int64 → Prop} {t' : Int64} {f : Nat} {n N M : Int32} (hf : f = 4 ∨ f = 5) (hNM : ¬ N ≤ M) (H : post 0) : wpX_stretch post (t', n, a1, a2, a3, a4, a5, a6, a7, a8) (nI f) N M := by
  unfold wpX_stretch
  dsimp only
  exact nm_e (br_f hNM H)
theorem fd_between {post : Int32 → Prop} {f n p q : Nat} {N M : Int32} (o : Nat → Nat) (hf : f = 4 ∨ f = 5) (hn : n ≤ 48) (hT : T < 1024) (hps : ∀ j, j < 6 → ps j < 1024) (hNM : N ≤ M) (hp : p ≤ n) (hq : q ≤ n)
    (ho : ∀ j, j < n → o j < 48 ∧ a4 (48 * (f - 4) + j) = nI (o j)) (hl : ∀ j, j < n → (a3 (6 * o j + f) < N ↔ j < p)) (hl' : ∀ j, j < n → (a3 (6 * o j + f) ≤ M ↔ j < q))
    (H : post (nI (fd_pc (fd_bs T ps f 6 &&& fd_st o p (q - p))))) : wpX_between post (lN T, nI n, a1, a2, a3, a4, a5, a6, a7, fd_L ps) (nI f) N M := by
  have hb : fd_bs T ps f 6 ≤ T := fd_bsle T ps f 6
  have hs : fd_st o p (q - p) < 2 ^ 48 := fd_stlt o p (max n p) (fun j hj => (ho j (by omega)).1) (q - p) (by omega)
  unfold wpX_between
  dsimp only
  exact fd_isNum hf (br_f (by decide) (fd_beside f (fd_fe (by omega)) hT hps (fd_stretch o hf hn hNM hp hq ho hl hl' (nm_r (wb_and (by omega) (by omega)) (fd_ones (fd_andlt (by omega)) H)))))
theorem fd_bounded {post : Int32 → Prop} {u : St0} {x : Nat} (hx : x ≤ 2000) (H : post (nI x)) : wpX_bounded post u (lN x) := by
  unfold wpX_bounded
  refine br_t ?_ (br_t ?_ ?_)
  · rw [Int64.le_iff_toInt_le, pk_lT (by omega), show (-2000 : Int64).toInt = -2000 from rfl]
    omega
  · exact (pk_lLE (b := 2000) (by omega) (by omega)).mpr hx
  · rw [lN_i]
    exact H
theorem fd_box {post : Int32 → Prop} {f n p q w b : Nat} (o : Nat → Nat) (hf : f = 4 ∨ f = 5) (hn : n ≤ 48) (hT : T < 1024) (hps : ∀ j, j < 6 → ps j < 1024) (hw1 : 1 ≤ w) (hw : w ≤ 64) (hb8 : b < 8) (hp : p ≤ n) (hq : q ≤ n)
    (ho : ∀ j, j < n → o j < 48 ∧ a4 (48 * (f - 4) + j) = nI (o j)) (hl : ∀ j, j < n → (a3 (6 * o j + f) < nI (b * w) ↔ j < p)) (hl' : ∀ j, j < n → (a3 (6 * o j + f) ≤ nI (b * w + w - 1) ↔ j < q))
    (H : post (nI (fd_pc (fd_bs T ps 6 6 &&& fd_st o p (q - p))))) : wpX_box post (lN T, nI n, a1, a2, a3, a4, a5, a6, a7, fd_L ps) (nI f) (nI w) (nI b) := by
  have hb : fd_bs T ps 6 6 ≤ T := fd_bsle T ps 6 6
  have hs : fd_st o p (q - p) < 2 ^ 48 := fd_stlt o p (max n p) (fun j hj => (ho j (by omega)).1) (q - p) (by omega)
  have hbw : b * w ≤ 7 * 64 := Nat.mul_le_mul (by omega) hw
  unfold wpX_box
  dsimp only
  refine fd_isNum hf (br_f (by decide) (pk_lt w 1 (fun z => absurd z (by omega)) (fun _ => pk_le w 999 (fun _ => nm_r (e' := lN (b * w)) ?_ (fd_bounded (by omega) ?_)) (fun z => absurd z (by omega)))))
  · rw [nI_l (by omega), nI_l (by omega), lN_mul]
  · have e : lN (b * w) + (nI w).toInt64 - 1 = lN (b * w + w - 1) := by
      rw [nI_l (by omega), lN_add, show (1 : Int64) = lN 1 from rfl, lN_sub (by omega)]
    rw [e]
    refine fd_bounded (by omega) (fd_beside 6 fd_no hT hps (fd_stretch o hf hn (nI_le (by omega) (by omega)) hp hq ho hl hl' (nm_r (wb_and (by omega) (by omega)) (fd_ones (fd_andlt (by omega)) H))))
end
end
section
/-! filters -/
theorem fd_b10 : ∀ g, g < 10 → ∀ i, i < 10 → (((nI (2 ^ g) >>> (nI i &&& 31)) &&& 1) = 1 ↔ i = g) := by decide +kernel
section
variable {t' : Int64} {T : Nat} {mn : Int32} {a1 a2 : Nat → Int64} {a3 a4 a5 a6 a7 : Nat → Int32} {a8 : Nat → Int64} {ps w1 w2 : Nat → Nat}
theorem fd_wTerms {post : Int64 → Prop} {f t : Nat} (hf : f < 3) (ht : t < 10) (H : post (a1 (10 * f + t))) : wpX_withTerms post (t', mn, a1, a2, a3, a4, a5, a6, a7, a8) (nI f) (nI (2 ^ t)) := by
  unfold wpX_withTerms
  dsimp only
  refine pk_loop (fun n i s => wX_withTerms_5 post (nI f) (nI (2 ^ t)) t' mn a1 a2 a3 a4 a5 a6 a7 a8 n s (nI i)) (fun i s => s = if t < i then a1 (10 * f + t) else 0) 10 0 0 (by omega) ?_ ?_ ?_
  · rw [if_neg (by omega)]
  · intro n s hs
    rw [if_pos ht] at hs
    subst hs
    exact pk_le 10 10 (fun _ => H) (fun z => absurd z (by omega))
  · intro n i s hi hs hw
    refine pk_le 10 i (fun z => absurd z (by omega)) (fun _ => ek_if (fd_b10 t ht i hi) (fun e => ⟨pk_in (10 * f + i) 30 (by omega) fd_ten, nm_e (nm_r (nI_1 i) (hw _ ?_))⟩) (fun e => nm_e (nm_r (nI_1 i) (hw _ ?_))))
    · subst e
      rw [if_neg (by omega)] at hs
      rw [if_pos (by omega), hs, fd_ten, nI_clamp (by omega), Int64.zero_or]
    · rw [hs, Int64.or_zero]
      by_cases h : t < i
      · rw [if_pos h, if_pos (by omega)]
      · rw [if_neg h, if_neg (by omega)]
theorem fd_wTags {post : Int64 → Prop} {mode : Int32} (H0 : mode = 0 → post (a2 0 ||| a2 1)) (H1 : ¬ mode = 0 → mode = 1 → post (t' &&& a2 0 &&& a2 1)) (H2 : ¬ mode = 0 → ¬ mode = 1 → post (t' &&& ((a2 0 ||| a2 1) ^^^ (-1)))) :
    wpX_withTags post (t', mn, a1, a2, a3, a4, a5, a6, a7, a8) 3 mode := by
  unfold wpX_withTags
  dsimp only
  have L : ∃ g, wX_withTags_11 post 3 mode t' mn a1 a2 a3 a4 a5 a6 a7 a8 g (a2 0 ||| a2 1) (t' &&& a2 0 &&& a2 1) (nI 2) := by
    refine pk_loop (σ := Unit) (fun n i _ => wX_withTags_11 post 3 mode t' mn a1 a2 a3 a4 a5 a6 a7 a8 n (a2 0 ||| a2 1) (t' &&& a2 0 &&& a2 1) (nI i)) (fun i _ => 2 ≤ i) 8 2 () (by omega) (by omega) ?_ ?_
    · intro n _ _
      exact pk_le 8 8 (fun _ => br_c H0 (fun z => br_c (H1 z) (H2 z))) (fun z => absurd z (by omega))
    · intro n i _ hi h2 hw
      have hc : ∀ i, i < 8 → 2 ≤ i → ¬ ((((3 : Int32) >>> (nI i &&& 31)) &&& 1) = 1) := by decide +kernel
      exact pk_le 8 i (fun z => absurd z (by omega)) (fun _ => br_f (hc i hi h2) (nm_r (nI_1 i) (hw () (by omega))))
  obtain ⟨g, hg⟩ := L
  refine ⟨g + 2, pk_le 8 0 (fun z => absurd z (by omega)) (fun _ => br_t (by decide) ⟨pk_in 0 8 (by omega), nm_r (e' := a2 0) ?_ ⟨pk_in 0 8 (by omega), nm_e (nm_r (e' := nI 1) (by decide) ?_)⟩⟩)⟩
  · exact Int64.zero_or
  · exact pk_le 8 1 (fun z => absurd z (by omega)) (fun _ => br_t (by decide) ⟨pk_in 1 8 (by omega), nm_e ⟨pk_in 1 8 (by omega), nm_e (nm_r (e' := nI 2) (by decide) hg)⟩⟩)
theorem fd_refT {post : St2 → Prop} {f t : Nat} (hf : f < 3) (ht : t < 10) (h5 : a5 f = 1) (h6 : a6 f = nI (2 ^ t)) (H : post (t', mn, a1, a2, a3, a4, a5, a6, a7, vp_updL a8 f (a1 (10 * f + t)))) :
    wpX_refresh post (t', mn, a1, a2, a3, a4, a5, a6, a7, a8) (nI f) := by
  unfold wpX_refresh
  dsimp only
  rw [nI_clamp (by omega)]
  refine ⟨pk_in f 6 (by omega), br_f (by rw [h5]; decide) (fd_isTF hf (br_f (by decide) ⟨pk_in f 6 (by omega), ?_⟩))⟩
  rw [h6]
  exact fd_wTerms hf ht ⟨pk_in f 6 (by omega), nm_e H⟩
theorem fd_refG {post : St2 → Prop} {Y : Int64} (h5 : a5 3 = 1) (hW : ∀ ψ : Int64 → Prop, ψ Y → wpX_withTags ψ (t', mn, a1, a2, a3, a4, a5, a6, a7, a8) (a6 3) (a7 3)) (H : post (t', mn, a1, a2, a3, a4, a5, a6, a7, vp_updL a8 3 Y)) :
    wpX_refresh post (t', mn, a1, a2, a3, a4, a5, a6, a7, a8) 3 := by
  unfold wpX_refresh
  dsimp only
  rw [show (3 : Int32).toNatClampNeg = 3 from nI_clamp (n := 3) (by omega)]
  exact ⟨pk_in 3 6 (by omega), br_f (by rw [h5]; decide) (fd_isTFN (f := 3) (by omega) (by omega) (br_t rfl (br_t rfl ⟨pk_in 3 6 (by omega), pk_in 3 6 (by omega), hW _ ⟨pk_in 3 6 (by omega), nm_e H⟩⟩)))⟩
theorem fd_refN {post : St2 → Prop} {f : Nat} {Y : Int64} (hf : f = 4 ∨ f = 5) (h5 : a5 f = 1) (hW : ∀ ψ : Int64 → Prop, ψ Y → wpX_stretch ψ (t', mn, a1, a2, a3, a4, a5, a6, a7, a8) (nI f) (a6 f) (a7 f)) (H : post (t', mn, a1, a2, a3, a4, a5, a6, a7, vp_updL a8 f Y)) :
    wpX_refresh post (t', mn, a1, a2, a3, a4, a5, a6, a7, a8) (nI f) := by
  unfold wpX_refresh
  dsimp only
  rw [nI_clamp (by omega)]
  exact ⟨pk_in f 6 (by omega), br_f (by rw [h5]; decide) (fd_isTFN (by omega) (by omega) (br_t rfl (pk_eq f 3 (fun z => absurd z (by omega)) (fun _ => ⟨pk_in f 6 (by omega), pk_in f 6 (by omega), hW _ ⟨pk_in f 6 (by omega), nm_e H⟩⟩))))⟩
theorem fd_setF {post : Int32 → St2 → Prop} {f : Nat} {x y : Int32} (Y : Nat) (hf : f < 6) (hT : T < 1024) (hps : ∀ j, j < 6 → fd_up ps f Y j < 1024)
    (hR : ∀ ψ : St2 → Prop, ψ (lN T, mn, a1, a2, a3, a4, upd a5 f 1, upd a6 f x, upd a7 f y, fd_L (fd_up ps f Y)) → wpX_refresh ψ (lN T, mn, a1, a2, a3, a4, upd a5 f 1, upd a6 f x, upd a7 f y, fd_L ps) (nI f))
    (H : post (nI (fd_pc (fd_bs T (fd_up ps f Y) 6 6))) (lN T, mn, a1, a2, a3, a4, upd a5 f 1, upd a6 f x, upd a7 f y, fd_L (fd_up ps f Y))) :
    wpX_setFilter post (lN T, mn, a1, a2, a3, a4, a5, a6, a7, fd_L ps) (nI f) x y := by
  unfold wpX_setFilter
  dsimp only
  rw [nI_clamp (by omega)]
  refine ⟨pk_in f 6 hf, nm_e ⟨pk_in f 6 hf, nm_e ⟨pk_in f 6 hf, nm_e (hR _ ?_)⟩⟩⟩
  dsimp only
  exact fd_matching hT hps H
theorem fd_release {post : Int32 → St2 → Prop} {f : Nat} (hf : f < 6) (hT : T < 1024) (hps : ∀ j, j < 6 → fd_up ps f T j < 1024)
    (H : post (nI (fd_pc (fd_bs T (fd_up ps f T) 6 6))) (lN T, mn, a1, a2, a3, a4, upd a5 f 0, a6, a7, fd_L (fd_up ps f T))) :
    wpX_release post (lN T, mn, a1, a2, a3, a4, a5, a6, a7, fd_L ps) (nI f) := by
  unfold wpX_release
  dsimp only
  rw [nI_clamp (by omega)]
  refine fd_isField hf (br_f (by decide) ⟨pk_in f 6 hf, nm_e (fd_ref0 hf pk_us ?_)⟩)
  rw [fd_Lup]
  dsimp only
  exact fd_matching hT hps H
theorem fd_filTerms {post : Int32 → St2 → Prop} {f t : Nat} (hf : f < 3) (ht : t < 10) (hT : T < 1024) (hps : ∀ j, j < 6 → fd_up ps f (w1 (10 * f + t)) j < 1024)
    (H : post (nI (fd_pc (fd_bs T (fd_up ps f (w1 (10 * f + t))) 6 6))) (lN T, mn, fd_L w1, a2, a3, a4, upd a5 f 1, upd a6 f (nI (2 ^ t)), upd a7 f 0, fd_L (fd_up ps f (w1 (10 * f + t))))) :
    wpX_filterTerms post (lN T, mn, fd_L w1, a2, a3, a4, a5, a6, a7, fd_L ps) (nI f) (nI (2 ^ t)) := by
  have h1 : 2 ^ t ≤ 2 ^ 9 := Nat.pow_le_pow_right (by decide) (by omega)
  have h0 : 0 < 2 ^ t := Nat.pow_pos (by decide)
  unfold wpX_filterTerms
  dsimp only
  refine fd_isTF hf (br_f (by decide) (pk_lt (2 ^ t) 1 (fun z => absurd z (by omega)) (fun _ => pk_le (2 ^ t) 1023 (fun _ => ?_) (fun z => absurd z (by omega)))))
  refine fd_setF (w1 (10 * f + t)) (by omega) hT hps (fun ψ hψ => fd_refT hf ht pk_us pk_us ?_) H
  have e : vp_updL (fd_L ps) f (fd_L w1 (10 * f + t)) = fd_L (fd_up ps f (w1 (10 * f + t))) := fd_Lup ps f _
  rw [e]
  exact hψ
theorem fd_filTags {post : Int32 → St2 → Prop} {mode : Nat} (Y : Nat) (hm : mode ≤ 2) (hT : T < 1024) (hps : ∀ j, j < 6 → fd_up ps 3 Y j < 1024)
    (h0 : mode = 0 → a2 0 ||| a2 1 = lN Y) (h1 : mode = 1 → lN T &&& a2 0 &&& a2 1 = lN Y) (h2 : mode = 2 → lN T &&& ((a2 0 ||| a2 1) ^^^ (-1)) = lN Y)
    (H : post (nI (fd_pc (fd_bs T (fd_up ps 3 Y) 6 6))) (lN T, mn, a1, a2, a3, a4, upd a5 3 1, upd a6 3 3, upd a7 3 (nI mode), fd_L (fd_up ps 3 Y))) :
    wpX_filterTags post (lN T, mn, a1, a2, a3, a4, a5, a6, a7, fd_L ps) 3 (nI mode) := by
  unfold wpX_filterTags
  dsimp only
  refine br_f (by decide) (br_t (by decide) (br_f (nI_pos (by omega)) (pk_le mode 2 (fun _ => ?_) (fun z => absurd z (by omega)))))
  refine fd_setF (f := 3) Y (by omega) hT hps (fun ψ hψ => fd_refG (Y := lN Y) pk_us (fun χ hχ => ?_) ?_) H
  · rw [pk_us, pk_us]
    refine fd_wTags (fun z => ?_) (fun z z1 => ?_) (fun z z1 => ?_)
    · rw [h0 ((nI_eq (b := 0) (by omega) (by omega)).mp z)]
      exact hχ
    · rw [h1 ((nI_eq (b := 1) (by omega) (by omega)).mp z1)]
      exact hχ
    · have k0 : mode ≠ 0 := fun y => z (by rw [y]; rfl)
      have k1 : mode ≠ 1 := fun y => z1 (by rw [y]; rfl)
      rw [h2 (by omega)]
      exact hχ
  · rw [fd_Lup]
    exact hψ
theorem fd_filRange {post : Int32 → St2 → Prop} {f : Nat} {N M : Int32} (Y : Nat) (hf : f = 4 ∨ f = 5) (hT : T < 1024) (hps : ∀ j, j < 6 → fd_up ps f Y j < 1024)
    (hW : ∀ ψ : Int64 → Prop, ψ (lN Y) → wpX_stretch ψ (lN T, mn, a1, a2, a3, a4, upd a5 f 1, upd a6 f N, upd a7 f M, fd_L ps) (nI f) N M)
    (H : post (nI (fd_pc (fd_bs T (fd_up ps f Y) 6 6))) (lN T, mn, a1, a2, a3, a4, upd a5 f 1, upd a6 f N, upd a7 f M, fd_L (fd_up ps f Y))) :
    wpX_filterRange post (lN T, mn, a1, a2, a3, a4, a5, a6, a7, fd_L ps) (nI f) N M := by
  unfold wpX_filterRange
  dsimp only
  refine fd_isNum hf (br_f (by decide) (fd_setF Y (by omega) hT hps (fun ψ hψ => fd_refN (Y := lN Y) hf pk_us (fun χ hχ => ?_) ?_) H))
  · rw [pk_us, pk_us]
    exact hW χ hχ
  · rw [fd_Lup]
    exact hψ
end
end
section
/-! the last calls: remove, make, valueOf; the words of terms and tags no longer matter -/
section
variable {a1 a2 : Nat → Int64} {a4 a5 a6 a7 : Nat → Int32} {a8 : Nat → Int64}
theorem fd_remove {post : Int32 → St2 → Prop} {X n d t0 t1 t2 : Nat} {v : Nat → Nat → Int32} (hX : X < 2 ^ 64) (hb : X.testBit d = true) (hd : d < 48) (hn : n ≤ 47) (hE : fd_E a4) (h5 : ∀ j, j < 6 → a5 j = 0)
    (ht0 : t0 < 10) (ht1 : t1 < 10) (ht2 : t2 < 10) (v0 : v d 0 = nI t0) (v1 : v d 1 = nI t1) (v2 : v d 2 = nI t2)
    (H : ∀ b1 b2 b4 b8, fd_E b4 → post (nI n) (lN X &&& (lN (2 ^ d) ^^^ (-1)), nI n, b1, b2, fd_V v, b4, a5, a6, a7, b8)) :
    wpX_remove post (lN X, nI (n + 1), a1, a2, fd_V v, a4, a5, a6, a7, a8) (nI d) := by
  unfold wpX_remove
  dsimp only
  refine fd_isDoc hX hd hb (br_f (by decide) ?_)
  refine pk_loop (fun g i (s : (Nat → Int64) × (Nat → Int64)) => wX_remove_12 post (nI d) g (nI i) (lN X) (nI (n + 1)) s.1 s.2 (fd_V v) a4 a5 a6 a7 a8) (fun _ _ => True) 4 0 (a1, a2) (by omega) trivial ?_ ?_
  · rintro g ⟨c1, c2⟩ _
    refine pk_lt 3 4 (fun _ => ?_) (fun z => absurd z (by omega))
    refine fd_leaveW 4 (n + 1) d (Or.inl rfl) (by omega) (by omega) hd hE (fun p => ?_)
    dsimp only
    refine fd_leaveW 5 (n + 1) d (Or.inr rfl) (by omega) (by omega) hd (fd_Edel hE) (fun p' => ?_)
    dsimp only
    refine nm_r (nI_pred n) (nm_r (e' := lN X &&& (lN (2 ^ d) ^^^ (-1))) ?_ (fd_refAll h5 ?_))
    · rw [fd_1sh (by omega)]
    · dsimp only
      exact H _ _ _ _ (fd_Edel (fd_Edel hE))
  · rintro g i ⟨c1, c2⟩ hi _ hw
    refine pk_lt 3 i (fun z => absurd z (by omega)) (fun _ => ⟨pk_in (6 * d + i) 288 (by omega) fd_six, ?_⟩)
    rw [fd_six, nI_clamp (by omega), fd_Vat _ (by omega)]
    match i, hi, hw with
    | 0, _, hw =>
      rw [v0]
      refine fd_markTW (f := 0) (by omega) (by omega) ht0 (fun b1 => ?_)
      dsimp only
      exact nm_r (nI_1 0) (hw (b1, c2) trivial)
    | 1, _, hw =>
      rw [v1]
      refine fd_markTW (f := 1) (by omega) (by omega) ht1 (fun b1 => ?_)
      dsimp only
      exact nm_r (nI_1 1) (hw (b1, c2) trivial)
    | 2, _, hw =>
      rw [v2]
      refine fd_markTW (f := 2) (by omega) (by omega) ht2 (fun b1 => ?_)
      dsimp only
      exact nm_r (nI_1 2) (hw (b1, c2) trivial)
    | 3, _, hw =>
      refine fd_markGW (by omega) (fun b2 => ?_)
      dsimp only
      exact nm_r (nI_1 3) (hw (c1, b2) trivial)
theorem fd_makeW {post : Int32 → St2 → Prop} {X n d a b c : Nat} {v : Nat → Nat → Int32} (hX : X < 2 ^ 64) (hb1 : ∀ j, j < d → X.testBit j = true) (hb0 : X.testBit d = false) (hd : d < 48) (hn : n ≤ 47) (ha : a < 10) (hb : b < 10) (hc : c < 10) (hE : fd_E a4) (h5 : ∀ j, j < 6 → a5 j = 0)
    (H : ∀ b1 b4 b8, post (nI d) (lN (X ||| 2 ^ d), nI (n + 1), b1, a2, fd_V (fd_row v d (nI a) (nI b) (nI c)), b4, a5, a6, a7, b8)) :
    wpX_make post (lN X, nI n, a1, a2, fd_V v, a4, a5, a6, a7, a8) (nI a) (nI b) (nI c) := by
  refine fd_makeA hX hb1 hb0 hd (by omega) ha hb hc ?_
  refine fd_enterW 4 n d (Or.inl rfl) hn hd hE (fun p => ?_)
  dsimp only
  refine fd_enterW 5 n d (Or.inr rfl) hn hd (fd_Eins hE hd) (fun p' => ?_)
  dsimp only
  refine nm_r (nI_1 n) (fd_refAll h5 ?_)
  dsimp only
  exact H _ _ _
theorem fd_value {post : Int32 → Prop} {X d f : Nat} {mn : Int32} {v : Nat → Nat → Int32} (hX : X < 2 ^ 64) (hb : X.testBit d = true) (hd : d < 48) (hf : f < 6) (H : post (v d f)) :
    wpX_valueOf post (lN X, mn, a1, a2, fd_V v, a4, a5, a6, a7, a8) (nI d) (nI f) := by
  unfold wpX_valueOf
  dsimp only
  refine fd_isDoc hX hd hb (br_f (by decide) (fd_isField hf (br_f (by decide) ⟨pk_in (6 * d + f) 288 (by omega) fd_six, ?_⟩)))
  rw [fd_six, nI_clamp (by omega), fd_Vat _ hf]
  exact H
end
end
section
/-! what the questions answer: all by looking at m, a, k -/
def fd_R (a k : Nat) : Nat := fd_st (fd_o4 10) a (k + 1 - a)
def fd_p1 (a k : Nat) : Nat → Nat := fd_up (fd_ps 1023) 4 (fd_R a k)
def fd_p2 (m a k : Nat) : Nat → Nat := fd_up (fd_p1 a k) 0 (fd_W1 m 10 (10 * 0 + a % m))
def fd_p3 (m a k : Nat) : Nat → Nat := fd_up (fd_p2 m a k) 4 1023
def fd_p4 (m a k : Nat) : Nat → Nat := fd_up (fd_p3 m a k) 0 1023
def fd_p5 (m a k : Nat) : Nat → Nat := fd_up (fd_p4 m a k) 3 771
def fd_p6 (m a k : Nat) : Nat → Nat := fd_up (fd_p5 m a k) 3 0
def fd_p7 (m a k : Nat) : Nat → Nat := fd_up (fd_p6 m a k) 3 252
def fd_p8 (m a k : Nat) : Nat → Nat := fd_up (fd_p7 m a k) 3 1023
def fd_fc (m j : Nat) : Nat := fd_pc (fd_bs 1023 (fd_ps 1023) 0 6 &&& fd_W1 m 10 (10 * 0 + j))
theorem fd_k1 : ∀ m, m < 4 → 2 ≤ m → ∀ j, j < 30 → fd_W1 m 10 j < 1024 := by decide +kernel
theorem fd_k2 : ∀ j, j < 8 → fd_W2 10 j < 1024 := by decide +kernel
theorem fd_kp : ∀ j, j < 6 → fd_ps 1023 j < 1024 := by decide +kernel
theorem fd_k3 : ∀ m, m < 4 → 2 ≤ m → ∀ a, a < 10 → ∀ i, i < 10 → ((fd_bs 1023 (fd_ps 1023) 6 6 &&& fd_W1 m 10 (10 * 0 + a % m)).testBit i = true ↔ i % m = a % m) := by decide +kernel
theorem fd_k4 : ∀ m, m < 4 → 2 ≤ m → ∀ a, a < 10 → fd_fc m (a % m) = (9 - a % m) / m + 1 := by decide +kernel
theorem fd_k5 : ∀ m, m < 4 → 2 ≤ m → 0 < fd_fc m 0 ∧ fd_pa (fd_fc m) 0 10 = 0 := by decide +kernel
theorem fd_k6 : ∀ m, m < 4 → 2 ≤ m → ∀ t, t < 10 → fd_fc m t = 0 ∨ fd_pa (fd_fc m) t 10 ≠ m := by decide +kernel
theorem fd_k7 : ∀ m, m < 4 → 2 ≤ m → fd_df (fd_bs 1023 (fd_ps 1023) 6 6) (fun d => d % m) 48 = m := by decide +kernel
theorem fd_k8 : ∀ m, m < 4 → 2 ≤ m → fd_po (fd_bs 1023 (fd_ps 1023) 6 6) (fd_W1 m 10) 0 1 10 = 10 := by decide +kernel
theorem fd_k9 : ∀ m, m < 4 → 2 ≤ m → fd_po (fd_bs 1023 (fd_ps 1023) 6 6) (fd_W1 m 10) 0 2 10 = if m = 2 then 2 else 6 := by decide +kernel
theorem fd_k10 : fd_bs 1023 (fd_ps 1023) 6 6 = 1023 := by decide +kernel
theorem fd_k11 : ∀ k, k < 10 → ∀ i, i < k → fd_cn 1023 (fd_o4 10) i ≠ k := by decide +kernel
theorem fd_k12 : ∀ k, k < 10 → Nat.testBit 1023 (fd_o4 10 k) = true ∧ fd_cn 1023 (fd_o4 10) k = k := by decide +kernel
theorem fd_k13 : ∀ m, m < 4 → 2 ≤ m → Nat.testBit 1023 (fd_o5 m 10 0) = true ∧ fd_o5 m 10 0 = 0 := by decide +kernel
theorem fd_k14 : ∀ m, m < 4 → 2 ≤ m → ∀ j, j < 10 → (fd_o5 m 10 j % m < fd_o5 m 10 9 % m ↔ j < fd_ct m (m - 2) 10) := by decide +kernel
theorem fd_k15 : ∀ m, m < 4 → 2 ≤ m → fd_ct m (m - 2) 10 < 10 ∧ fd_o5 m 10 (fd_ct m (m - 2) 10) = m - 1 ∧ Nat.testBit 1023 (fd_o5 m 10 (fd_ct m (m - 2) 10)) = true := by decide +kernel
/-- the last document with a's term -/
def fd_D (m a : Nat) : Nat := a % m + m * ((9 - a % m) / m + 1 - 1)
theorem fd_k16 : ∀ m, m < 4 → 2 ≤ m → ∀ a, a < 10 → fd_D m a < 10 := by decide +kernel
theorem fd_k17 : ∀ m, m < 4 → 2 ≤ m → ∀ a, a < 10 → ∀ i, i < 9 - fd_D m a → (fd_bs 1023 (fd_ps 1023) 6 6 &&& fd_W1 m 10 (10 * 0 + a % m)).testBit (fd_o4 10 (10 - 1 - i)) = false := by decide +kernel
theorem fd_k18 : ∀ m, m < 4 → 2 ≤ m → ∀ a, a < 10 → (fd_bs 1023 (fd_ps 1023) 6 6 &&& fd_W1 m 10 (10 * 0 + a % m)).testBit (fd_o4 10 (10 - 1 - (9 - fd_D m a))) = true := by decide +kernel
/-! with the range a .. k -/
theorem fd_q1 : ∀ a, a < 10 → ∀ k, k < 10 → ∀ j, j < 6 → fd_p1 a k j < 1024 := by decide +kernel
theorem fd_q2 : ∀ a, a < 10 → ∀ k, k < 10 → fd_pc (fd_bs 1023 (fd_p1 a k) 6 6) = k + 1 - a := by decide +kernel
theorem fd_q3 : ∀ a, a < 10 → ∀ k, k < 10 → fd_pc (fd_bs 1023 (fd_p1 a k) 4 6 &&& fd_st (fd_o4 10) 0 (10 - 0)) = 10 := by decide +kernel
theorem fd_q4 : ∀ a, a < 10 → ∀ k, k < 10 → a ≤ k → ∀ i, i < a → (fd_bs 1023 (fd_p1 a k) 6 6).testBit (fd_o4 10 i) = false := by decide +kernel
theorem fd_q5 : ∀ a, a < 10 → ∀ k, k < 10 → a ≤ k → (fd_bs 1023 (fd_p1 a k) 6 6).testBit (fd_o4 10 a) = true ∧ fd_cn (fd_bs 1023 (fd_p1 a k) 6 6) (fd_o4 10) a = 0 := by decide +kernel
theorem fd_q6 : ∀ a, a < 10 → ∀ k, k < 10 → a ≤ k → ∀ i, i < k → (fd_bs 1023 (fd_p1 a k) 6 6).testBit (fd_o4 10 i) = true → fd_cn (fd_bs 1023 (fd_p1 a k) 6 6) (fd_o4 10) i ≠ k - a := by decide +kernel
theorem fd_q7 : ∀ a, a < 10 → ∀ k, k < 10 → a ≤ k → (fd_bs 1023 (fd_p1 a k) 6 6).testBit (fd_o4 10 k) = true ∧ fd_cn (fd_bs 1023 (fd_p1 a k) 6 6) (fd_o4 10) k = k - a := by decide +kernel
theorem fd_q8 : ∀ a, a < 10 → ∀ k, k < 10 → a ≤ k → ∀ i, i < 10 → (fd_bs 1023 (fd_p1 a k) 6 6).testBit (fd_o4 10 i) = true → fd_cn (fd_bs 1023 (fd_p1 a k) 6 6) (fd_o4 10) i ≠ k + 1 - a := by decide +kernel
theorem fd_q9 : ∀ m, m < 4 → 2 ≤ m → ∀ a, a < 10 → ∀ k, k < 10 → a ≤ k → fd_pc (fd_bs 1023 (fd_p1 a k) 1 6 &&& fd_W1 m 10 (10 * 1 + (9 - a))) = 1 := by decide +kernel
theorem fd_q10 : ∀ a, a < 10 → ∀ k, k < 10 → k < a → fd_bs 1023 (fd_p1 a k) 6 6 = 0 := by decide +kernel
/-! with the term of a as well -/
theorem fd_r1 : ∀ m, m < 4 → 2 ≤ m → ∀ a, a < 10 → ∀ k, k < 10 → ∀ j, j < 6 → fd_p2 m a k j < 1024 := by decide +kernel
theorem fd_r2 : ∀ m, m < 4 → 2 ≤ m → ∀ a, a < 10 → ∀ k, k < 10 → a ≤ k → 1 ≤ fd_pc (fd_bs 1023 (fd_p2 m a k) 6 6) := by decide +kernel
theorem fd_r3 : ∀ a, a < 10 → ∀ k, k < 10 → a ≤ k → fd_pc (fd_bs 1023 (fd_p2 2 a k) 0 6 &&& fd_W1 2 10 (10 * 0 + (a + 1) % 2)) = (k + 1 - a + 2 - 2) / 2 := by decide +kernel
theorem fd_r4 : ∀ m, m < 4 → 2 ≤ m → ∀ a, a < 10 → ∀ k, k < 10 → a ≤ k → 1 ≤ fd_pc (fd_bs 1023 (fd_p2 m a k) 3 6 &&& fd_W2 10 (a % 8)) := by decide +kernel
theorem fd_r5 : ∀ m, m < 4 → 2 ≤ m → ∀ a, a < 10 → ∀ k, k < 10 → ∀ j, j < 6 → fd_p3 m a k j < 1024 := by decide +kernel
theorem fd_r6 : ∀ m, m < 4 → 2 ≤ m → ∀ a, a < 10 → ∀ k, k < 10 → fd_pc (fd_bs 1023 (fd_p3 m a k) 6 6) = (9 - a % m) / m + 1 := by decide +kernel
theorem fd_r7 : ∀ m, m < 4 → 2 ≤ m → ∀ a, a < 10 → ∀ k, k < 10 → ∀ j, j < 6 → fd_p4 m a k j = 1023 := by decide +kernel
/-! tags -/
theorem fd_t1 : fd_L (fd_W2 10) 0 ||| fd_L (fd_W2 10) 1 = lN 771 := by decide +kernel
theorem fd_t2 : lN 1023 &&& fd_L (fd_W2 10) 0 &&& fd_L (fd_W2 10) 1 = lN 0 := by decide +kernel
theorem fd_t3 : lN 1023 &&& ((fd_L (fd_W2 10) 0 ||| fd_L (fd_W2 10) 1) ^^^ (-1)) = lN 252 := by decide +kernel
theorem fd_bsx {T : Nat} {p q : Nat → Nat} {f : Nat} (h : ∀ j, j < 6 → p j = q j) : ∀ n, n ≤ 6 → fd_bs T p f n = fd_bs T q f n := by
  intro n
  induction n with
  | zero => intro _; rfl
  | succ n ih =>
    intro hn
    show fd_bs T p f n &&& (if n = f then T else p n) = fd_bs T q f n &&& (if n = f then T else q n)
    rw [ih (by omega), h n (by omega)]
/-- pictures of the passing words from the tags on: 1023 everywhere but at 3 -/
def fd_e (x : Nat) : Nat → Nat := fd_up (fd_ps 1023) 3 x
theorem fd_e5 {m a k : Nat} (hm' : m < 4) (hm : 2 ≤ m) (ha : a < 10) (hk : k < 10) (x : Nat) (j : Nat) (hj : j < 6) : fd_up (fd_p4 m a k) 3 x j = fd_e x j := by
  show (if j = 3 then x else fd_p4 m a k j) = (if j = 3 then x else if j < 6 then 1023 else 0)
  rw [fd_r7 m hm' hm a ha k hk j hj, if_pos hj]
theorem fd_e6 {m a k : Nat} (hm' : m < 4) (hm : 2 ≤ m) (ha : a < 10) (hk : k < 10) (x y : Nat) (j : Nat) (hj : j < 6) : fd_up (fd_up (fd_p4 m a k) 3 x) 3 y j = fd_e y j := by
  show (if j = 3 then y else if j = 3 then x else fd_p4 m a k j) = (if j = 3 then y else if j < 6 then 1023 else 0)
  rw [fd_r7 m hm' hm a ha k hk j hj, if_pos hj]
  split <;> rfl
theorem fd_t4 : fd_pc (fd_bs 1023 (fd_e 771) 6 6) = 4 ∧ fd_pc (fd_bs 1023 (fd_e 0) 6 6) = 0 ∧ fd_pc (fd_bs 1023 (fd_e 252) 6 6) = 6 ∧ fd_bs 1023 (fd_e 1023) 6 6 = 1023 := by decide +kernel
theorem fd_t5 : fd_pc (fd_bs 1023 (fd_e 252) 3 6 &&& fd_W2 10 0) = 2 ∧ fd_pc (fd_bs 1023 (fd_e 252) 3 6 &&& fd_W2 10 7) = 1 ∧ fd_bs 1023 (fd_e 1023) 0 6 = 1023 := by decide +kernel
theorem fd_t6 : fd_pc (fd_bs 1023 (fd_ps 1023) 6 6) = 10 := by decide +kernel
/-! boxes -/
theorem fd_x1 : ∀ p, p < 11 → ∀ q, q < 11 → fd_pc (1023 &&& fd_st (fd_o4 10) p (q - p)) = q - p := by decide +kernel
theorem fd_x2 : ∀ m, m < 4 → 2 ≤ m → fd_pc (1023 &&& fd_st (fd_o5 m 10) (fd_ct m 0 10) (fd_ct m 1 10 - fd_ct m 0 10)) = fd_pc (1023 &&& fd_W1 m 10 (10 * 0 + 1)) := by decide +kernel
theorem fd_x3 : ∀ m, m < 4 → 2 ≤ m → ∀ j, j < 10 → (fd_o5 m 10 j % m < 1 * 1 ↔ j < fd_ct m 0 10) := by decide +kernel
theorem fd_x4 : ∀ m, m < 4 → 2 ≤ m → ∀ j, j < 10 → (fd_o5 m 10 j % m ≤ 1 * 1 + 1 - 1 ↔ j < fd_ct m 1 10) := by decide +kernel
theorem fd_x5 : ∀ m, m < 4 → 2 ≤ m → fd_ct m 0 10 ≤ 10 ∧ fd_ct m 1 10 ≤ 10 := by decide +kernel
/-! the last calls -/
theorem fd_y1 : ∀ a, a < 10 → lN 1023 &&& (lN (2 ^ a) ^^^ (-1)) = lN (1023 - 2 ^ a) := by decide +kernel
theorem fd_y2 : ∀ a, a < 10 → ∀ j, j < a → (1023 - 2 ^ a).testBit j = true := by decide +kernel
theorem fd_y3 : ∀ a, a < 10 → (1023 - 2 ^ a).testBit a = false ∧ (1023 - 2 ^ a ||| 2 ^ a) = 1023 ∧ Nat.testBit 1023 a = true := by decide +kernel
end
section
/-! the law's end: boxes, then remove, make, valueOf -/
def fd_q (s x : Nat) : Nat := min 10 ((40 + x + s - 1) / s)
theorem fd_qi {s x j : Nat} (h1 : 1 ≤ s) (hj : j < 10) : (j < fd_q s x ↔ s * j < 40 + x) := by
  have h : j + 1 ≤ (40 + x + s - 1) / s ↔ (j + 1) * s ≤ 40 + x + s - 1 := Nat.le_div_iff_mul_le (by omega)
  rw [Nat.succ_mul, Nat.mul_comm j s] at h
  unfold fd_q
  omega
theorem fd_qle (s x : Nat) : fd_q s x ≤ 10 := Nat.min_le_left _ _
theorem fd_qmono {s x y : Nat} (h : x ≤ y) : fd_q s x ≤ fd_q s y := by
  have h2 : (40 + x + s - 1) / s ≤ (40 + y + s - 1) / s := Nat.div_le_div_right (by omega)
  unfold fd_q
  omega
theorem fd_ho4 {q : Nat → Nat} : ∀ j, j < 10 → fd_o4 10 j < 48 ∧ fd_O (fd_o4 10) q (48 * (4 - 4) + j) = nI (fd_o4 10 j) := by
  intro j hj
  rw [show 48 * (4 - 4) + j = j by omega, fd_O4 _ _ (by omega), fd_o4i hj]
  exact ⟨by omega, rfl⟩
theorem fd_ho5 {m : Nat} (hm' : m < 4) (hm : 2 ≤ m) {p : Nat → Nat} : ∀ j, j < 10 → fd_o5 m 10 j < 48 ∧ fd_O p (fd_o5 m 10) (48 * (5 - 4) + j) = nI (fd_o5 m 10 j) := by
  intro j hj
  have h := fd_f1 m hm' hm 10 (by omega) j hj
  rw [show 48 * (5 - 4) + j = 48 + j by omega, fd_O5]
  exact ⟨by omega, rfl⟩
theorem fd_v4 {s m d : Nat} (hd : d < 10) : fd_V (fd_v s m 10) (6 * d + 4) = nI s * nI d - 40 := by
  rw [fd_Vat _ (by omega)]
  exact if_pos hd
theorem fd_v5 {s m d : Nat} (hd : d < 10) : fd_V (fd_v s m 10) (6 * d + 5) = nI (d % m) := by
  rw [fd_Vat _ (by omega)]
  exact if_pos hd
theorem fd_E0 {m : Nat} (hm' : m < 4) (hm : 2 ≤ m) : fd_E (fd_O (fd_o4 10) (fd_o5 m 10)) := by
  intro j
  show ∃ o : Nat, o < 48 ∧ nI (if j < 48 then (if j < 10 then j else 0) else fd_o5 m 10 (j - 48)) = nI o
  refine ⟨_, ?_, rfl⟩
  split
  · split <;> omega
  · have key : ∀ m, m < 4 → 2 ≤ m → ∀ i, i < 11 → ∀ j, fd_o5 m i j < 48 := by
      intro m hm' hm i
      induction i with
      | zero => intro _ j; exact (by decide : 0 < 48)
      | succ i ih =>
        intro hi j
        have ih' := ih (by omega)
        have kA : ∀ j, fd_oa m i (fd_o5 m i) j < 48 := fun j => by
          show (if j = fd_ct m 0 i then i else if fd_ct m 0 i < j ∧ j ≤ i then fd_o5 m i (j - 1) else fd_o5 m i j) < 48
          split
          · omega
          · split
            · exact ih' _
            · exact ih' _
        have kB : ∀ j, fd_ob m i (fd_o5 m i) j < 48 := fun j => by
          show (if fd_ct m 0 i ≤ j ∧ j + 1 < i + 1 then fd_oa m i (fd_o5 m i) (j + 1) else fd_oa m i (fd_o5 m i) j) < 48
          split
          · exact kA _
          · exact kA _
        by_cases c : i % m = 0
        · rw [show fd_o5 m (i + 1) = fd_oa m i (fd_o5 m i) from if_pos c]
          exact kA j
        · rw [show fd_o5 m (i + 1) = fd_insN (fd_ob m i (fd_o5 m i)) (fd_ct m (i % m) i) i i from if_neg c]
          show (if j = fd_ct m (i % m) i then i else if fd_ct m (i % m) i < j ∧ j ≤ i then fd_ob m i (fd_o5 m i) (j - 1) else fd_ob m i (fd_o5 m i) j) < 48
          split
          · omega
          · split
            · exact kB _
            · exact kB _
    exact key m hm' hm 10 (by omega) _
theorem fd_ep : ∀ j, j < 6 → fd_e 1023 j < 1024 := by decide +kernel
section
variable {post : Int32 → St0 → Prop} {mc ms kc ks s m a k : Nat} {a5 a6 a7 : Nat → Int32} {ps : Nat → Nat}
theorem fd_866 {w : Nat} (h1 : 1 ≤ s) (hs : s ≤ 32) (hm : 2 ≤ m) (hm' : m < 4) (ha : a < 10) (hw1 : 1 ≤ w) (hw : w ≤ 64) (h5 : ∀ j, j < 6 → a5 j = 0) (hps : ∀ j, j < 6 → ps j = fd_e 1023 j) (H : post 1 ()) :
    ∃ g, wL_lawOf_866 post mc ms (nI s) (nI a) (nI w) (nI (fd_q s (8 * w) - fd_q s 0)) kc ks (lN 1023) (nI 10) (fd_L (fd_W1 m 10)) (fd_L (fd_W2 10)) (fd_V (fd_v s m 10)) (fd_O (fd_o4 10) (fd_o5 m 10)) a5 a6 a7 (fd_L ps) g 0 0 := by
  have hp : ∀ j, j < 6 → ps j < 1024 := fun j hj => by rw [hps j hj]; exact fd_ep j hj
  have hb6 : fd_bs 1023 ps 6 6 = 1023 := by rw [fd_bsx hps 6 (by omega)]; exact fd_t4.2.2.2
  have hb0 : fd_bs 1023 ps 0 6 = 1023 := by rw [fd_bsx hps 6 (by omega)]; exact fd_t5.2.2
  have Q0 := fd_qle s 0
  have Q8 := fd_qle s (8 * w)
  have QM : fd_q s 0 ≤ fd_q s (8 * w) := fd_qmono (by omega)
  refine pk_loop (fun g i x => wL_lawOf_866 post mc ms (nI s) (nI a) (nI w) (nI (fd_q s (8 * w) - fd_q s 0)) kc ks (lN 1023) (nI 10) (fd_L (fd_W1 m 10)) (fd_L (fd_W2 10)) (fd_V (fd_v s m 10)) (fd_O (fd_o4 10) (fd_o5 m 10)) a5 a6 a7 (fd_L ps) g x (nI i)) (fun i x => x = nI (min i (fd_q s (8 * w)) - min i (fd_q s 0))) 10 0 0 (by omega) ?_ ?_ ?_
  · rw [Nat.zero_min, Nat.zero_min]
    rfl
  · intro g x hx
    subst hx
    refine pk_le 10 10 (fun _ => br_t ?_ ?_) (fun z => absurd z (by omega))
    · rw [show min 10 (fd_q s (8 * w)) = fd_q s (8 * w) by omega, show min 10 (fd_q s 0) = fd_q s 0 by omega]
    · refine fd_box (f := 5) (w := 1) (b := 1) (p := fd_ct m 0 10) (q := fd_ct m 1 10) (fd_o5 m 10) (Or.inr rfl) (by omega) (by omega) hp (by omega) (by omega) (by omega) (fd_x5 m hm' hm).1 (fd_x5 m hm' hm).2 (fd_ho5 hm' hm) (fun j hj => ?_) (fun j hj => ?_) ?_
      · have h := fd_f1 m hm' hm 10 (by omega) j hj
        have h2 : fd_o5 m 10 j % m < m := Nat.mod_lt _ (by omega)
        rw [fd_v5 h, nI_ltI (by omega) (by omega)]
        exact fd_x3 m hm' hm j hj
      · have h := fd_f1 m hm' hm 10 (by omega) j hj
        have h2 : fd_o5 m 10 j % m < m := Nat.mod_lt _ (by omega)
        rw [fd_v5 h, nI_leI (by omega) (by omega)]
        exact fd_x4 m hm' hm j hj
      · refine fd_facetT (f := 0) (t := 1) (by omega) (by omega) (by omega) hp (fd_k1 m hm' hm _ (by omega)) (br_t ?_ ?_)
        · rw [hb6, hb0, fd_x2 m hm' hm]
        · have e9 : 9 - a < 10 := by omega
          have em : a % m < m := Nat.mod_lt _ (by omega)
          refine fd_remove (n := 9) (t0 := a % m) (t1 := 9 - a) (t2 := a % 2) (by omega) (fd_y3 a ha).2.2 (by omega) (by omega) (fd_E0 hm' hm) h5 (by omega) e9 (by omega) (if_pos ha) (if_pos ha) (if_pos ha) (fun b1 b2 b4 b8 hE => ?_)
          rw [fd_y1 a ha]
          dsimp only
          refine br_t rfl (fd_makeW (Nat.lt_of_le_of_lt (Nat.sub_le 1023 (2 ^ a)) (by decide)) (fd_y2 a ha) (fd_y3 a ha).1 (by omega) (by omega) ha ha ha hE h5 (fun c1 c4 c8 => ?_))
          rw [(fd_y3 a ha).2.1]
          dsimp only
          refine br_t rfl (fd_value (f := 4) (by omega) (fd_y3 a ha).2.2 (by omega) (by omega) (br_t ?_ H))
          show (if a = a then (0 : Int32) else _) = 0
          rw [if_pos rfl]
  · intro g i x hi hx hk
    subst hx
    have hN := fd_num hs (show i < 48 by omega)
    have i0 := fd_qi (x := 0) h1 hi
    have i8 := fd_qi (x := 8 * w) h1 hi
    have K := hk _ rfl
    have e8 : (8 : Int32) * nI w = nI (8 * w) := by rw [show (8 : Int32) = nI 8 from rfl, pk_mul]
    refine pk_le 10 i (fun z => absurd z (by omega)) (fun _ => br_c (fun c => nm_r ?_ (nm_r (nI_1 i) K)) (fun c => br_c (fun c2 => nm_r ?_ (nm_r (nI_1 i) K)) (fun c2 => nm_r ?_ (nm_r (nI_1 i) K))))
    · rw [fd_lt, hN, show (0 : Int32).toInt = 0 from rfl] at c
      rw [Int32.add_zero]
      congr 1
      omega
    · rw [fd_lt, hN, show (0 : Int32).toInt = 0 from rfl] at c
      rw [e8, fd_le, hN, nI_toInt (by omega)] at c2
      rw [Int32.add_zero]
      congr 1
      omega
    · rw [fd_lt, hN, show (0 : Int32).toInt = 0 from rfl] at c
      rw [e8, fd_le, hN, nI_toInt (by omega)] at c2
      rw [nI_1]
      congr 1
      omega
theorem fd_832 {w : Nat} (h1 : 1 ≤ s) (hs : s ≤ 32) (hm : 2 ≤ m) (hm' : m < 4) (ha : a < 10) (hw1 : 1 ≤ w) (hw : w ≤ 64) (h5 : ∀ j, j < 6 → a5 j = 0) (hps : ∀ j, j < 6 → ps j = fd_e 1023 j) (H : post 1 ()) :
    ∃ g, wL_lawOf_832 post mc ms (nI s) (nI a) (nI w) kc ks (lN 1023) (nI 10) (fd_L (fd_W1 m 10)) (fd_L (fd_W2 10)) (fd_V (fd_v s m 10)) (fd_O (fd_o4 10) (fd_o5 m 10)) a5 a6 a7 (fd_L ps) g 0 0 := by
  have hp : ∀ j, j < 6 → ps j < 1024 := fun j hj => by rw [hps j hj]; exact fd_ep j hj
  have hb6 : fd_bs 1023 ps 6 6 = 1023 := by rw [fd_bsx hps 6 (by omega)]; exact fd_t4.2.2.2
  refine pk_loop (fun g b x => wL_lawOf_832 post mc ms (nI s) (nI a) (nI w) kc ks (lN 1023) (nI 10) (fd_L (fd_W1 m 10)) (fd_L (fd_W2 10)) (fd_V (fd_v s m 10)) (fd_O (fd_o4 10) (fd_o5 m 10)) a5 a6 a7 (fd_L ps) g x (nI b)) (fun b x => x = nI (fd_q s (b * w) - fd_q s 0)) 8 0 0 (by omega) ?_ ?_ ?_
  · rw [Nat.zero_mul, Nat.sub_self]
    rfl
  · intro g x hx
    subst hx
    exact pk_le 8 8 (fun _ => fd_866 h1 hs hm hm' ha hw1 hw h5 hps H) (fun z => absurd z (by omega))
  · intro g b x hb hx hk
    have hbw : b * w ≤ 7 * 64 := Nat.mul_le_mul (by omega) hw
    have Q1 := fd_qle s (b * w)
    have Q2 := fd_qle s (b * w + w)
    have QM : fd_q s (b * w) ≤ fd_q s (b * w + w) := fd_qmono (by omega)
    have QZ : fd_q s 0 ≤ fd_q s (b * w) := fd_qmono (by omega)
    refine pk_le 8 b (fun z => absurd z (by omega)) (fun _ => fd_box (f := 4) (p := fd_q s (b * w)) (q := fd_q s (b * w + w)) (fd_o4 10) (Or.inl rfl) (by omega) (by omega) hp hw1 hw hb Q1 Q2 fd_ho4 (fun j hj => ?_) (fun j hj => ?_) ?_)
    · rw [fd_o4i hj, fd_v4 hj, fd_lt, fd_num hs (by omega), nI_toInt (by omega), fd_qi h1 hj]
      omega
    · rw [fd_o4i hj, fd_v4 hj, fd_le, fd_num hs (by omega), nI_toInt (by omega), fd_qi h1 hj]
      omega
    · rw [hb6, fd_x1 _ (by omega) _ (by omega)]
      refine nm_e (nm_r (nI_1 b) (hk _ ?_))
      rw [hx, nI_add, Nat.succ_mul]
      congr 1
      omega
end
end
section
/-! the law from the terms' filter on -/
theorem fd_sh1 : ∀ t, t < 10 → (1 : Int32) <<< (nI t &&& 31) = nI (2 ^ t) := by decide +kernel
theorem fd_eg {p : Nat → Nat} (h : ∀ j, j < 6 → j ≠ 3 → p j = 1023) (y : Nat) : ∀ j, j < 6 → fd_up p 3 y j = fd_e y j := by
  intro j hj
  show (if j = 3 then y else p j) = (if j = 3 then y else if j < 6 then 1023 else 0)
  by_cases c : j = 3
  · rw [if_pos c, if_pos c]
  · rw [if_neg c, if_neg c, if_pos hj, h j hj c]
theorem fd_eh {p : Nat → Nat} (h : ∀ j, j < 6 → j ≠ 3 → p j = 1023) (y : Nat) : ∀ j, j < 6 → j ≠ 3 → fd_up p 3 y j = 1023 := by
  intro j hj c
  show (if j = 3 then y else p j) = 1023
  rw [if_neg c, h j hj c]
theorem fd_elt : ∀ j, j < 6 → fd_e 771 j < 1024 ∧ fd_e 0 j < 1024 ∧ fd_e 252 j < 1024 := by decide +kernel
theorem fd_a5 : ∀ j, j < 6 → upd (upd (upd (upd (upd (upd (upd (upd fd_z32 4 1) 0 1) 4 0) 0 0) 3 1) 3 1) 3 1) 3 0 j = 0 := by decide +kernel
section
variable {T : Int64} {mn : Int32} {a1 a2 : Nat → Int64} {a3 a4 a5 a6 a7 : Nat → Int32} {a8 : Nat → Int64}
theorem fd_facet38 {post : Int32 → Prop} (H : post (-3)) : wpX_facet post (T, mn, a1, a2, a3, a4, a5, a6, a7, a8) 3 8 := by
  unfold wpX_facet
  dsimp only
  refine fd_isGroup (f := 3) (by omega) (br_f (by decide) ?_)
  unfold wpX_isTermOf
  exact br_f (by decide) (br_t rfl (br_t (by decide) (br_t rfl H)))
theorem fd_facet40 {post : Int32 → Prop} (H : post (-2)) : wpX_facet post (T, mn, a1, a2, a3, a4, a5, a6, a7, a8) 4 0 := by
  unfold wpX_facet
  dsimp only
  unfold wpX_isGroup
  exact br_f (by decide) (br_t (by decide) (br_t rfl H))
end
section
variable {post : Int32 → St0 → Prop} {mc ms kc ks s m a k : Nat} {a6 a7 : Nat → Int32}
theorem fd_695 {x3 z0 z1 : Int32} (h1 : 1 ≤ s) (hs : s ≤ 32) (hm : 2 ≤ m) (hm' : m < 4) (ha : a < 10) (hk : k < 10) (hz : ¬ z1 < z0) (H : post 1 ()) :
    wL_lawOf_695 post mc ms x3 (nI s) (nI a) (nI ((9 - a % m) / m + 1)) z0 z1 kc ks (lN 1023) (nI 10) (fd_L (fd_W1 m 10)) (fd_L (fd_W2 10)) (fd_V (fd_v s m 10)) (fd_O (fd_o4 10) (fd_o5 m 10)) (upd (upd fd_z32 4 1) 0 1) a6 a7 (fd_L (fd_p2 m a k)) := by
  have r7 := fd_r7 m hm' hm a ha k hk
  have g4 : ∀ j, j < 6 → j ≠ 3 → fd_p4 m a k j = 1023 := fun j hj _ => r7 j hj
  have g5 := fd_eh g4 771
  have g6 := fd_eh g5 0
  have g7 := fd_eh g6 252
  have e5 := fd_eg g4 771
  have e6 := fd_eg g5 0
  have e7 := fd_eg g6 252
  have e8 := fd_eg g7 1023
  have b4 : fd_bs 1023 (fd_p4 m a k) 6 6 = fd_bs 1023 (fd_ps 1023) 6 6 := fd_bsx (fun j hj => by rw [r7 j hj]; show 1023 = (if j < 6 then 1023 else 0); rw [if_pos hj]) 6 (by omega)
  unfold wL_lawOf_695
  refine br_f hz (fd_facet38 (br_t rfl (fd_facet40 (br_t rfl (fd_release (f := 4) (by omega) (by omega) (fd_r5 m hm' hm a ha k hk) ?_)))))
  dsimp only
  refine br_t (congrArg nI (fd_r6 m hm' hm a ha k hk)) (fd_release (f := 0) (by omega) (by omega) (fun j hj => ?_) ?_)
  · have e := r7 j hj
    unfold fd_p4 fd_p3 at e
    rw [e]
    omega
  · dsimp only
    refine br_t ?_ (fd_filTags (mode := 0) 771 (by omega) (by omega) (fun j hj => ?_) (fun _ => fd_t1) (fun z => absurd z (by omega)) (fun z => absurd z (by omega)) ?_)
    · have e : fd_pc (fd_bs 1023 (fd_p4 m a k) 6 6) = 10 := by rw [b4]; exact fd_t6
      exact congrArg nI e
    · have e := e5 j hj
      unfold fd_p4 fd_p3 at e
      rw [e]
      exact (fd_elt j hj).1
    · dsimp only
      refine br_t ?_ (fd_filTags (mode := 1) 0 (by omega) (by omega) (fun j hj => ?_) (fun z => absurd z (by omega)) (fun _ => fd_t2) (fun z => absurd z (by omega)) ?_)
      · have e : fd_pc (fd_bs 1023 (fd_up (fd_p4 m a k) 3 771) 6 6) = 4 := by rw [fd_bsx e5 6 (by omega)]; exact fd_t4.1
        exact congrArg nI e
      · have e := e6 j hj
        unfold fd_p4 fd_p3 at e
        rw [e]
        exact (fd_elt j hj).2.1
      · dsimp only
        refine br_t ?_ (fd_filTags (mode := 2) 252 (by omega) (by omega) (fun j hj => ?_) (fun z => absurd z (by omega)) (fun z => absurd z (by omega)) (fun _ => fd_t3) ?_)
        · have e : fd_pc (fd_bs 1023 (fd_up (fd_up (fd_p4 m a k) 3 771) 3 0) 6 6) = 0 := by rw [fd_bsx e6 6 (by omega)]; exact fd_t4.2.1
          exact congrArg nI e
        · have e := e7 j hj
          unfold fd_p4 fd_p3 at e
          rw [e]
          exact (fd_elt j hj).2.2
        · dsimp only
          have c7 : ∀ j, j < 6 → fd_up (fd_up (fd_up (fd_p4 m a k) 3 771) 3 0) 3 252 j < 1024 := fun j hj => by
            rw [e7 j hj]
            exact (fd_elt j hj).2.2
          have c8 : ∀ j, j < 6 → fd_up (fd_up (fd_up (fd_up (fd_p4 m a k) 3 771) 3 0) 3 252) 3 1023 j < 1024 := fun j hj => by
            rw [e8 j hj]
            exact fd_ep j hj
          refine br_t ?_ (fd_facetG (t := 0) (by omega) (by omega) c7 (fd_k2 0 (by omega)) (br_t ?_ (fd_facetG (t := 7) (by omega) (by omega) c7 (fd_k2 7 (by omega)) (br_t ?_ (fd_release (f := 3) (by omega) (by omega) c8 ?_)))))
          · have e : fd_pc (fd_bs 1023 (fd_up (fd_up (fd_up (fd_p4 m a k) 3 771) 3 0) 3 252) 6 6) = 6 := by rw [fd_bsx e7 6 (by omega)]; exact fd_t4.2.2.1
            exact congrArg nI e
          · have e : fd_pc (fd_bs 1023 (fd_up (fd_up (fd_up (fd_p4 m a k) 3 771) 3 0) 3 252) 3 6 &&& fd_W2 10 0) = 2 := by rw [fd_bsx e7 6 (by omega)]; exact fd_t5.1
            exact congrArg nI e
          · have e : fd_pc (fd_bs 1023 (fd_up (fd_up (fd_up (fd_p4 m a k) 3 771) 3 0) 3 252) 3 6 &&& fd_W2 10 7) = 1 := by rw [fd_bsx e7 6 (by omega)]; exact fd_t5.2.1
            exact congrArg nI e
          · dsimp only
            refine br_t ?_ ?_
            · have e : fd_pc (fd_bs 1023 (fd_up (fd_up (fd_up (fd_up (fd_p4 m a k) 3 771) 3 0) 3 252) 3 1023) 6 6) = 10 := by rw [fd_bsx e8 6 (by omega), fd_t4.2.2.2, ← fd_k10]; exact fd_t6
              exact congrArg nI e
            · obtain ⟨w, hw, ew⟩ := pk_andE (x3 >>> ((4 : Int32) &&& 31)) (m := 63) 6 rfl
              refine nm_r (e' := nI (1 + w)) ?_ (fd_832 h1 hs hm hm' ha (by omega) (by omega) fd_a5 e8 H)
              rw [ew, show (1 : Int32) = nI 1 from rfl, nI_add]
theorem fd_674 {x3 : Int32} (h1 : 1 ≤ s) (hs : s ≤ 32) (hm : 2 ≤ m) (hm' : m < 4) (ha : a < 10) (hk : k < 10) (H : post 1 ()) :
    wL_lawOf_674 post mc ms x3 (nI s) (nI a) (nI ((9 - a % m) / m + 1)) (nI (k + 1 - a)) kc ks (lN 1023) (nI 10) (fd_L (fd_W1 m 10)) (fd_L (fd_W2 10)) (fd_V (fd_v s m 10)) (fd_O (fd_o4 10) (fd_o5 m 10)) (upd (upd fd_z32 4 1) 0 1) a6 a7 (fd_L (fd_p2 m a k)) := by
  unfold wL_lawOf_674
  rw [show nI a - nI a / 8 * 8 = nI (a % 8) from pk_rem (d := 8) (by omega) (by omega) (by omega)]
  refine ⟨by decide, fd_facetG (by omega) (by omega) (fd_r1 m hm' hm a ha k hk) (fd_k2 _ (by omega)) (pk_le (k + 1 - a) 0 (fun z => fd_695 h1 hs hm hm' ha hk ?_ H) (fun z => fd_695 h1 hs hm hm' ha hk ?_ H))⟩
  · have c := fd_pcle (fd_bs 1023 (fd_p2 m a k) 3 6 &&& fd_W2 10 (a % 8))
    exact nI_pos (by omega)
  · have c := fd_pcle (fd_bs 1023 (fd_p2 m a k) 3 6 &&& fd_W2 10 (a % 8))
    have c2 := fd_r4 m hm' hm a ha k hk (by omega)
    exact nI_nlt (b := 1) c2 (by omega)
theorem fd_632 {x3 z0 z1 : Int32} (h1 : 1 ≤ s) (hs : s ≤ 32) (hm : 2 ≤ m) (hm' : m < 4) (ha : a < 10) (hk : k < 10) (hz : ¬ z1 < z0) (H : post 1 ()) :
    wL_lawOf_632 post mc ms x3 (nI s) (nI m) (nI a) (nI ((9 - a % m) / m + 1)) (nI (k + 1 - a)) z0 z1 kc ks (lN 1023) (nI 10) (fd_L (fd_W1 m 10)) (fd_L (fd_W2 10)) (fd_V (fd_v s m 10)) (fd_O (fd_o4 10) (fd_o5 m 10)) (upd (upd fd_z32 4 1) 0 1) a6 a7 (fd_L (fd_p2 m a k)) := by
  have hr : (a + 1) % m < m := Nat.mod_lt _ (by omega)
  unfold wL_lawOf_632
  rw [nI_1, pk_rem (by omega) (by omega) (by omega)]
  have G : wL_lawOf_674 post mc ms x3 (nI s) (nI a) (nI ((9 - a % m) / m + 1)) (nI (k + 1 - a)) kc ks (lN 1023) (nI 10) (fd_L (fd_W1 m 10)) (fd_L (fd_W2 10)) (fd_V (fd_v s m 10)) (fd_O (fd_o4 10) (fd_o5 m 10)) (upd (upd fd_z32 4 1) 0 1) a6 a7 (fd_L (fd_p2 m a k)) := fd_674 h1 hs hm hm' ha hk H
  refine br_f hz ⟨fd_m0 hm hm', fd_facetT (f := 0) (by omega) (by omega) (by omega) (fd_r1 m hm' hm a ha k hk) (fd_k1 m hm' hm _ (by omega)) ⟨fd_m0 hm hm', br_c (fun _ => G) (fun c => pk_le (k + 1 - a) 0 (fun _ => G) (fun z => pk_eq m 2 (fun e => absurd ?_ c) (fun _ => G)))⟩⟩
  subst e
  rw [fd_r3 a ha k hk (by omega), nI_add, show (2 : Int32) = nI 2 from rfl, pk_sub (by omega), pk_div (by omega) (by omega) (by omega)]
theorem fd_609 {x3 : Int32} (h1 : 1 ≤ s) (hs : s ≤ 32) (hm : 2 ≤ m) (hm' : m < 4) (ha : a < 10) (hk : k < 10) (H : post 1 ()) :
    wL_lawOf_609 post mc ms x3 (nI s) (nI m) (nI a) (nI ((9 - a % m) / m + 1)) (nI (k + 1 - a)) kc ks (lN 1023) (nI 10) (fd_L (fd_W1 m 10)) (fd_L (fd_W2 10)) (fd_V (fd_v s m 10)) (fd_O (fd_o4 10) (fd_o5 m 10)) (upd fd_z32 4 1) a6 a7 (fd_L (fd_p1 a k)) := by
  have hr : a % m < m := Nat.mod_lt _ (by omega)
  unfold wL_lawOf_609
  rw [pk_rem (by omega) (by omega) (by omega), fd_sh1 _ (by omega)]
  refine ⟨fd_m0 hm hm', fd_filTerms (f := 0) (by omega) (by omega) (by omega) (fd_r1 m hm' hm a ha k hk) ?_⟩
  dsimp only
  have c := fd_pcle (fd_bs 1023 (fd_p2 m a k) 6 6)
  refine pk_le (k + 1 - a) 0 (fun z => fd_632 h1 hs hm hm' ha hk ?_ H) (fun z => fd_632 h1 hs hm hm' ha hk ?_ H)
  · exact nI_pos (n := fd_pc (fd_bs 1023 (fd_p2 m a k) 6 6)) (by omega)
  · have c2 := fd_r2 m hm' hm a ha k hk (by omega)
    exact nI_nlt (a := fd_pc (fd_bs 1023 (fd_p2 m a k) 6 6)) (b := 1) c2 (by omega)
theorem fd_588 {x3 : Int32} (h1 : 1 ≤ s) (hs : s ≤ 32) (hm : 2 ≤ m) (hm' : m < 4) (ha : a < 10) (hk : k < 10) (H : post 1 ()) :
    wL_lawOf_588 post mc ms x3 (nI s) (nI m) (nI a) (nI ((9 - a % m) / m + 1)) (nI (k + 1 - a)) kc ks (lN 1023) (nI 10) (fd_L (fd_W1 m 10)) (fd_L (fd_W2 10)) (fd_V (fd_v s m 10)) (fd_O (fd_o4 10) (fd_o5 m 10)) (upd fd_z32 4 1) a6 a7 (fd_L (fd_p1 a k)) := by
  have G : wL_lawOf_609 post mc ms x3 (nI s) (nI m) (nI a) (nI ((9 - a % m) / m + 1)) (nI (k + 1 - a)) kc ks (lN 1023) (nI 10) (fd_L (fd_W1 m 10)) (fd_L (fd_W2 10)) (fd_V (fd_v s m 10)) (fd_O (fd_o4 10) (fd_o5 m 10)) (upd fd_z32 4 1) a6 a7 (fd_L (fd_p1 a k)) := fd_609 h1 hs hm hm' ha hk H
  unfold wL_lawOf_588
  refine pk_eq (k + 1 - a) 0 (fun z => ?_) (fun _ => G)
  refine fd_ext (c := 101) (g := 1) (t := 0) (r := 10) (fd_o4 10) (by omega) rfl rfl rfl (by omega) (by omega) (fd_q1 a ha k hk) (fd_k1 m hm' hm _ (by omega)) (fun j hj => ⟨(fd_ho4 (q := fd_o5 m 10) j hj).1, ?_⟩) (by omega) (fun i hi => ?_) (fun y => absurd y (by omega)) ?_
  · have e := (fd_ho4 (q := fd_o5 m 10) j hj).2
    rw [show 48 * (4 - 4) + j = j by omega] at e
    exact e
  · rw [fd_q10 a ha k hk (by omega), Nat.zero_and, Nat.zero_testBit]
  · exact br_t rfl G
end
end
section
/-! the law from its questions without a filter on, down to the range -/
theorem fd_nI9 {a : Nat} (h : a ≤ 9) : (9 : Int32) - nI a = nI (9 - a) := by
  rw [show (9 : Int32) = nI 9 from rfl, pk_sub h]
section
variable {post : Int32 → St0 → Prop} {mc ms kc ks s m a k : Nat} {a6 a7 : Nat → Int32}
theorem fd_503 {x3 z : Int32} (h1 : 1 ≤ s) (hs : s ≤ 32) (hm : 2 ≤ m) (hm' : m < 4) (ha : a < 10) (hk : k < 10) (H : post 1 ()) :
    wL_lawOf_503 post mc ms x3 (nI s) (nI m) (nI a) (nI k) (nI ((9 - a % m) / m + 1)) z z kc ks (lN 1023) (nI 10) (fd_L (fd_W1 m 10)) (fd_L (fd_W2 10)) (fd_V (fd_v s m 10)) (fd_O (fd_o4 10) (fd_o5 m 10)) (upd fd_z32 4 1) a6 a7 (fd_L (fd_p1 a k)) := by
  have G : wL_lawOf_588 post mc ms x3 (nI s) (nI m) (nI a) (nI ((9 - a % m) / m + 1)) (nI (k + 1 - a)) kc ks (lN 1023) (nI 10) (fd_L (fd_W1 m 10)) (fd_L (fd_W2 10)) (fd_V (fd_v s m 10)) (fd_O (fd_o4 10) (fd_o5 m 10)) (upd fd_z32 4 1) a6 a7 (fd_L (fd_p1 a k)) := fd_588 h1 hs hm hm' ha hk H
  have q1 := fd_q1 a ha k hk
  unfold wL_lawOf_503
  refine br_t rfl (fd_matching (by omega) q1 ?_)
  rw [fd_q2 a ha k hk]
  refine pk_le (k + 1 - a) 0 (fun _ => G) (fun z => ?_)
  have hak : a ≤ k := by omega
  rw [show nI (k + 1 - a) - 1 = nI (k - a) from by rw [show (1 : Int32) = nI 1 from rfl, pk_sub (by omega), show k + 1 - a - 1 = k - a by omega], fd_nI9 (by omega)]
  refine fd_ranked (f := 4) (k := 0) (r := a) (fd_o4 10) (Or.inl rfl) (by omega) (by omega) (by omega) q1 fd_ho4 ha (fun i hi e => absurd e (by rw [fd_q4 a ha k hk hak i hi]; decide)) (fd_q5 a ha k hk hak) (br_t ?_ ?_)
  · rw [fd_o4i ha, fd_v4 ha]
  refine fd_ranked (f := 4) (k := k - a) (r := k) (fd_o4 10) (Or.inl rfl) (by omega) (by omega) (by omega) q1 fd_ho4 hk (fd_q6 a ha k hk hak) (fd_q7 a ha k hk hak) (br_t ?_ ?_)
  · rw [fd_o4i hk, fd_v4 hk]
  refine fd_sorted0 (f := 4) (k := k + 1 - a) (r := 10) (fd_o4 10) (Or.inl rfl) (by omega) (by omega) (by omega) q1 fd_ho4 (by omega) (fd_q8 a ha k hk hak) (fun y => absurd y (by omega)) (br_t ?_ ?_)
  · rw [if_neg (by omega)]
  refine fd_facetT (f := 1) (t := 9 - a) (by omega) (by omega) (by omega) q1 (fd_k1 m hm' hm _ (by omega)) (br_t ?_ G)
  rw [fd_q9 m hm' hm a ha k hk hak]
  rfl
theorem fd_460 {x3 z : Int32} (h1 : 1 ≤ s) (hs : s ≤ 32) (hm : 2 ≤ m) (hm' : m < 4) (ha : a < 10) (hk : k < 10) (H : post 1 ()) :
    wL_lawOf_460 post mc ms x3 (nI s) (nI m) (nI a) (nI k) (nI ((9 - a % m) / m + 1)) z z kc ks (lN 1023) (nI 10) (fd_L (fd_W1 m 10)) (fd_L (fd_W2 10)) (fd_V (fd_v s m 10)) (fd_O (fd_o4 10) (fd_o5 m 10)) (upd fd_z32 4 1) a6 a7 (fd_L (fd_p1 a k)) := by
  have q1 := fd_q1 a ha k hk
  unfold wL_lawOf_460
  refine br_t rfl (fd_between (f := 4) (p := 0) (q := 10) (fd_o4 10) (Or.inl rfl) (by omega) (by omega) q1 (by decide) (by omega) (by omega) fd_ho4 (fun j hj => ?_) (fun j hj => ?_) (br_t ?_ (fd_matching (by omega) q1 ?_)))
  · have b : s * j ≤ 32 * 10 := Nat.mul_le_mul hs (by omega)
    rw [fd_o4i hj, fd_v4 hj, fd_lt, fd_num hs (by omega), show (-999 : Int32).toInt = -999 from rfl]
    omega
  · have b : s * j ≤ 32 * 10 := Nat.mul_le_mul hs (by omega)
    rw [fd_o4i hj, fd_v4 hj, fd_le, fd_num hs (by omega), show (999 : Int32).toInt = 999 from rfl]
    omega
  · rw [fd_q3 a ha k hk]
    rfl
  · rw [fd_q2 a ha k hk]
    refine pk_lt k a (fun z => ?_) (fun z => ?_)
    · rw [show nI (k + 1 - a) = 0 from by rw [show k + 1 - a = 0 by omega]; rfl]
      exact fd_503 h1 hs hm hm' ha hk H
    · rw [show nI k - nI a + 1 = nI (k + 1 - a) from by rw [pk_sub z, nI_1, show k - a + 1 = k + 1 - a by omega]]
      exact fd_503 h1 hs hm hm' ha hk H
theorem fd_strR {ψ : Int64 → Prop} {t' : Int64} {a1 a2 : Nat → Int64} {a5 : Nat → Int32} {a8 : Nat → Int64} {q : Nat → Nat} (h1 : 1 ≤ s) (hs : s ≤ 32) (ha : a < 10) (hk : k < 10) (H : ψ (lN (fd_R a k))) :
    wpX_stretch ψ (t', nI 10, a1, a2, fd_V (fd_v s m 10), fd_O (fd_o4 10) q, a5, a6, a7, a8) (nI 4) (nI s * nI a - 40) (nI s * nI k - 40) := by
  have na := fd_num hs (show a < 48 by omega)
  have nk := fd_num hs (show k < 48 by omega)
  by_cases c : a ≤ k
  · have b : s * a ≤ s * k := Nat.mul_le_mul_left s c
    refine fd_stretch (f := 4) (p := a) (q := k + 1) (fd_o4 10) (Or.inl rfl) (by omega) ?_ (by omega) (by omega) fd_ho4 (fun j hj => ?_) (fun j hj => ?_) H
    · rw [fd_le, na, nk]
      omega
    · rw [fd_o4i hj, fd_v4 hj, fd_lt, na, fd_num hs (by omega)]
      have e : s * j < s * a ↔ j < a := Nat.mul_lt_mul_left (by omega)
      omega
    · rw [fd_o4i hj, fd_v4 hj, fd_le, nk, fd_num hs (by omega)]
      have e : s * k < s * j ↔ k < j := Nat.mul_lt_mul_left (by omega)
      omega
  · have b : s * k < s * a := Nat.mul_lt_mul_of_pos_left (by omega) (by omega)
    refine fd_stretch0 (Or.inl rfl) ?_ ?_
    · rw [fd_le, na, nk]
      omega
    · have e : fd_R a k = 0 := by
        unfold fd_R
        rw [show k + 1 - a = 0 by omega]
        rfl
      rw [e] at H
      exact H
theorem fd_313 {x3 z : Int32} (h1 : 1 ≤ s) (hs : s ≤ 32) (hm : 2 ≤ m) (hm' : m < 4) (ha : a < 10) (hk : k < 10) (H : post 1 ()) :
    wL_lawOf_313 post mc ms x3 (nI s) (nI m) (nI a) (nI k) (nI ((9 - a % m) / m + 1)) z z kc ks (lN 1023) (nI 10) (fd_L (fd_W1 m 10)) (fd_L (fd_W2 10)) (fd_V (fd_v s m 10)) (fd_O (fd_o4 10) (fd_o5 m 10)) fd_z32 fd_z32 fd_z32 (fd_L (fd_ps 1023)) := by
  have hr : a % m < m := Nat.mod_lt _ (by omega)
  have k15 := fd_k15 m hm' hm
  unfold wL_lawOf_313
  rw [pk_rem (show a < 2 ^ 31 by omega) (show 0 < m by omega) (by omega), fd_nI9 (by omega)]
  refine br_t rfl (fd_ranked (f := 4) (r := k) (fd_o4 10) (Or.inl rfl) (by omega) (by omega) (by omega) fd_kp fd_ho4 hk (fun i hi _ => by rw [fd_k10]; exact fd_k11 k hk i hi) (by rw [fd_k10]; exact fd_k12 k hk) (br_t ?_ ?_))
  · rw [fd_o4i hk, fd_v4 hk]
  refine fd_fall4 (f := 4) (fd_o4 10) (Or.inl rfl) (by omega) hk (by omega) fd_kp fd_ho4 (fun j hj => by rw [fd_k10]; exact (fd_k12 j hj).1) (fun e he j hj => ?_) (br_t ?_ ?_)
  · rw [fd_o4i hj, fd_o4i he, fd_v4 hj, fd_v4 he, fd_lt, fd_num hs (by omega), fd_num hs (by omega)]
    have e : s * j < s * e ↔ j < e := Nat.mul_lt_mul_left (by omega)
    omega
  · rw [fd_o4i (by omega), show 10 - 1 - k = 9 - k by omega]
  refine fd_sorted0 (f := 5) (k := 0) (r := 0) (fd_o5 m 10) (Or.inr rfl) (by omega) (by omega) (by omega) fd_kp (fd_ho5 hm' hm) (by omega) (fun i hi => absurd hi (by omega)) (fun _ => ⟨by rw [fd_k10]; exact (fd_k13 m hm' hm).1, rfl⟩) (br_t ?_ ?_)
  · rw [if_pos (by omega), (fd_k13 m hm' hm).2]
    rfl
  refine fd_fall5 (f := 5) (p := fd_ct m (m - 2) 10) (fd_o5 m 10) (Or.inr rfl) (by omega) k15.1 (by omega) fd_kp (fd_ho5 hm' hm) (by rw [fd_k10]; exact k15.2.2) (fun j hj => ?_) (br_t ?_ ?_)
  · have e1 := fd_f1 m hm' hm 10 (by omega) j hj
    have e2 := fd_f1 m hm' hm 10 (by omega) 9 (by omega)
    have e3 : fd_o5 m 10 j % m < m := Nat.mod_lt _ (by omega)
    have e4 : fd_o5 m 10 9 % m < m := Nat.mod_lt _ (by omega)
    rw [fd_v5 e1, show 10 - 1 = 9 by omega, fd_v5 e2, nI_ltI (by omega) (by omega)]
    exact fd_k14 m hm' hm j hj
  · rw [k15.2.1, show (1 : Int32) = nI 1 from rfl, pk_sub (by omega)]
  refine ⟨fd_m0 hm hm', ?_⟩
  rw [show (10 : Int32) * nI (a % m) + 1 = nI (10 * (a % m) + 1) from fd_ten (f := 1)]
  have kD := fd_k16 m hm' hm a ha
  refine fd_ext (c := 10 * (a % m) + 1) (g := 0) (t := a % m) (r := 9 - fd_D m a) (fd_o4 10) (by omega) (by omega) (by omega) (by omega) (by omega) (by omega) fd_kp (fd_k1 m hm' hm _ (by omega)) (fun j hj => ⟨(fd_ho4 (q := fd_o5 m 10) j hj).1, ?_⟩) (by omega) (fd_k17 m hm' hm a ha) (fun _ => fd_k18 m hm' hm a ha) ⟨fd_m0 hm hm', br_t ?_ (fd_filRange (f := 4) (fd_R a k) (Or.inl rfl) (by omega) (fd_q1 a ha k hk) (fun ψ hψ => fd_strR h1 hs ha hk hψ) ?_)⟩
  · have e := (fd_ho4 (q := fd_o5 m 10) j hj).2
    rw [show 48 * (4 - 4) + j = j by omega] at e
    exact e
  · rw [if_pos (by omega), fd_o4i (by omega), fd_v4 (by omega), show 10 - 1 - (9 - fd_D m a) = fd_D m a by omega, show (1 : Int32) = nI 1 from rfl, pk_sub (Nat.le_add_left 1 _), pk_mul m, nI_add]
    rfl
  · dsimp only
    rw [show fd_pc (fd_bs 1023 (fd_up (fd_ps 1023) 4 (fd_R a k)) 6 6) = k + 1 - a from fd_q2 a ha k hk]
    refine pk_lt k a (fun z => ?_) (fun z => ?_)
    · rw [show nI (k + 1 - a) = 0 from by rw [show k + 1 - a = 0 by omega]; rfl]
      exact fd_460 h1 hs hm hm' ha hk H
    · rw [show nI k - nI a + 1 = nI (k + 1 - a) from by rw [pk_sub z, nI_1, show k - a + 1 = k + 1 - a by omega]]
      exact fd_460 h1 hs hm hm' ha hk H
end
end
section
/-! the sum's loop, the law, and what is owed -/
theorem fd_smx {X : Nat} {g : Nat → Int32} (hX : X < 1024) : ∀ c, fd_sm X g (10 + c) = fd_sm X g 10 := by
  intro c
  induction c with
  | zero => rfl
  | succ c ih =>
    show fd_sm X g (10 + c) + (if X.testBit (10 + c) = true then g (10 + c) else 0) = fd_sm X g 10
    rw [if_neg (fun z => absurd (fd_tb10 hX z) (by omega)), Int32.add_zero, ih]
theorem fd_172 {post : Int32 → St0 → Prop} {mc ms kc ks s m a k : Nat} {x3 : Int32} (h1 : 1 ≤ s) (hs : s ≤ 32) (hm : 2 ≤ m) (hm' : m < 4) (ha : a < 10) (hk : k < 10) (H : post 1 ()) :
    ∃ g, wL_lawOf_172 post mc ms x3 (nI s) (nI m) (nI a) (nI k) (nI ((9 - a % m) / m + 1)) kc ks (lN 1023) (nI 10) (fd_L (fd_W1 m 10)) (fd_L (fd_W2 10)) (fd_V (fd_v s m 10)) (fd_O (fd_o4 10) (fd_o5 m 10)) fd_z32 fd_z32 fd_z32 (fd_L (fd_ps 1023)) g 0 0 := by
  have hr : a % m < m := Nat.mod_lt _ (by omega)
  have hX : fd_bs 1023 (fd_ps 1023) 6 6 &&& fd_W1 m 10 (10 * 0 + a % m) < 1024 := fd_andlt (by rw [fd_k10]; omega)
  have ea : nI a - nI a / nI m * nI m = nI (a % m) := pk_rem (by omega) (by omega) (by omega)
  have w10 : ∀ j, j < 10 → fd_W1 m 10 (10 * 0 + j) < 1024 := fun j hj => fd_k1 m hm' hm _ (by omega)
  refine pk_loop (σ := Unit) (fun g i _ => wL_lawOf_172 post mc ms x3 (nI s) (nI m) (nI a) (nI k) (nI ((9 - a % m) / m + 1)) kc ks (lN 1023) (nI 10) (fd_L (fd_W1 m 10)) (fd_L (fd_W2 10)) (fd_V (fd_v s m 10)) (fd_O (fd_o4 10) (fd_o5 m 10)) fd_z32 fd_z32 fd_z32 (fd_L (fd_ps 1023)) g (fd_sm (fd_bs 1023 (fd_ps 1023) 6 6 &&& fd_W1 m 10 (10 * 0 + a % m)) (fun d => fd_v s m 10 d 4) i) (nI i)) (fun _ _ => True) 10 0 () (by omega) trivial ?_ ?_
  · intro g _ _
    refine pk_le 10 10 (fun _ => ⟨fd_m0 hm hm', ?_⟩) (fun z => absurd z (by omega))
    rw [ea]
    refine fd_facetT (f := 0) (t := a % m) (by omega) (by omega) (by omega) fd_kp (w10 _ (by omega)) (br_t (congrArg nI (fd_k4 m hm' hm a ha)) ⟨fd_m0 hm hm', ?_⟩)
    refine fd_sum (f := 0) (t := a % m) (by omega) (by omega) (by omega) fd_kp (w10 _ (by omega)) (br_t (fd_smx hX 38) ?_)
    refine fd_top (f := 0) (k := 0) (r := 0) (fd_fc m) (by omega) (by omega) (by omega) fd_kp w10 (fun j _ => rfl) (by omega) (fun t ht => absurd ht (by omega)) (fun _ => fd_k5 m hm' hm) (br_t ?_ ?_)
    · rw [if_pos (by omega)]
      rfl
    refine fd_top (f := 0) (k := m) (r := 10) (fd_fc m) (by omega) (by omega) (by omega) fd_kp w10 (fun j _ => rfl) (by omega) (fd_k6 m hm' hm) (fun z => absurd z (by omega)) (br_t ?_ ?_)
    · rw [if_neg (by omega)]
    refine fd_diff (f := 5) (fun d => d % m) (by omega) (by omega) fd_kp (fun j hj => ⟨?_, if_pos hj⟩) (br_t (congrArg nI (fd_k7 m hm' hm)) ?_)
    · have : j % m < m := Nat.mod_lt _ (by omega)
      show j % m < 1000
      omega
    refine fd_pairs (f := 0) (o := 1) (by omega) (by omega) (by omega) fd_kp (fd_k1 m hm' hm) (br_t (congrArg nI (fd_k8 m hm' hm)) ?_)
    refine fd_pairs (f := 0) (o := 2) (by omega) (by omega) (by omega) fd_kp (fd_k1 m hm' hm) ?_
    rw [fd_k9 m hm' hm]
    refine pk_eq m 2 (fun e => ?_) (fun e => ?_)
    · rw [if_pos e]
      exact fd_313 h1 hs hm hm' ha hk H
    · rw [if_neg e]
      exact fd_313 h1 hs hm hm' ha hk H
  · intro g i _ hi _ hw
    have K := hw () trivial
    have ei : nI i - nI i / nI m * nI m = nI (i % m) := pk_rem (by omega) (by omega) (by omega)
    have hri : i % m < m := Nat.mod_lt _ (by omega)
    have t := fd_k3 m hm' hm a ha i hi
    refine pk_le 10 i (fun z => absurd z (by omega)) (fun _ => ⟨fd_m0 hm hm', fd_m0 hm hm', ?_⟩)
    rw [ea, ei]
    refine pk_eq (i % m) (a % m) (fun e => nm_r ?_ (nm_r (nI_1 i) K)) (fun e => nm_r ?_ (nm_r (nI_1 i) K))
    · show _ = fd_sm _ _ i + (if _ then fd_v s m 10 i 4 else 0)
      rw [if_pos (t.mpr e), show fd_v s m 10 i 4 = nI s * nI i - 40 from if_pos hi]
    · show _ = fd_sm _ _ i + (if _ then fd_v s m 10 i 4 else 0)
      rw [if_neg (fun z => e (t.mp z))]
theorem fd_lawOf {post : Int32 → St0 → Prop} {u : St0} (p0 p1 p2 p3 : Int32) (H : post 1 ()) : wpL_lawOf post 266 4256 u p0 p1 p2 p3 := by
  obtain ⟨s, hs, es⟩ := pk_andE p0 (m := 31) 5 rfl
  obtain ⟨m, hm, em⟩ := pk_andE p1 (m := 1) 1 rfl
  obtain ⟨a, ha, ea⟩ := pk_andE p2 (m := 15) 4 rfl
  obtain ⟨k, hk, ek⟩ := pk_andE p3 (m := 15) 4 rfl
  have ra : nI a - nI a / 10 * 10 = nI (a % 10) := pk_rem (d := 10) (by omega) (by omega) (by omega)
  have rk : nI k - nI k / 10 * 10 = nI (k % 10) := pk_rem (d := 10) (by omega) (by omega) (by omega)
  unfold wpL_lawOf
  refine ⟨by omega, by omega, 8, 446, by omega, by omega, ?_⟩
  unfold wpX_init
  dsimp only
  refine ⟨by omega, by omega, by omega, by omega, by omega, by omega, by omega, by omega, by omega, by omega, by omega, by omega, by omega, by omega, by omega, by omega, ?_⟩
  rw [es, em, ea, ek, ra, rk]
  refine nm_r (e' := nI (1 + s)) (by rw [show (1 : Int32) = nI 1 from rfl, nI_add]) (nm_r (e' := nI (2 + m)) (by rw [show (2 : Int32) = nI 2 from rfl, nI_add]) ⟨by decide, nm_e ⟨by decide, nm_e ?_⟩⟩)
  exact fd_45 (by omega) (by omega) (by omega) (by omega) (by omega) (fd_172 (by omega) (by omega) (by omega) (by omega) (by omega) (by omega) H)
theorem fd_cell {post : Int32 → Prop} {L : Nat} {xs : Nat → Int32} {u : St0} (i : Nat) (hi : i < 4) (hL : L ≤ 4) (H : ∀ r, post r) : wpL_cellAt post L xs u (nI i) :=
  pk_le L i (fun _ => H _) (fun z => ⟨pk_in i L z, H _⟩)
theorem i_vc (xs : Nat → Int32) (L : Nat) (hL : L ≤ 4) : wpL_law (fun r => r = 1) L xs := by
  unfold wpL_law
  exact fd_cell 0 (by omega) hL (fun r1 => fd_cell 1 (by omega) hL (fun r2 => fd_cell 2 (by omega) hL (fun r3 => fd_cell 3 (by omega) hL (fun r4 => ⟨266, 4256, by omega, by omega, fd_lawOf r1 r2 r3 r4 rfl⟩))))
end
