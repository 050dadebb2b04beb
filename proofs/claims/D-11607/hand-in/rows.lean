section
/-! the field of 128 elements and the two groups of points, on naturals; tables packed into one number each -/
def kz_LG : Nat := 0x69ed21ab1572bc915ae8a8498b0cb291815eb7db21a45948c1299f823e834b628b5cc3f05b3023569a1b585446ece968ab53fe8892d0ee428cb09331e5244d0b987e206509769e3612a805e9ce4de230d90d20b6605b902a6825411f0a15784456c19d4527c5032841eabed3084d666ab90d8e764ac5c968772767714c9c710a32cbd023292268851963d49f57a04654e381880703aa7006201c12663d3b03f1b21a4dc8153100e03100e06201c00700
def kz_EX : Nat := 0x61e3e7efffcfef2facaea2a2b2f23233373f273777f6777171794969e868686c7c4c6cedefe9edfdcded2dafa9adbd8d8dcc4c4e42424262e3e0e0e0e0f090d1d3d7dfc7c7e727a4a6aebe8e8ecfcccec2c2c2e22223272f3f0f0f0f8c8e82828282c3c0c0c0c0c0e020202020203070f1f3f7ffe7f797d6575151597919199b9f939bbbfb3bb8b8bca4b4f43434363e263676f7f4f6fee6f696d7d4d6dec6c6e626272121213171f0707070784868e9ebefe3e3f393d253575f474767e66761616171111193979f878787c6474141414161e0606060607010101010101
def kz_IV : Nat := 0x800d05a5b4885d5396bb1de78413e67eac2b3a75581e6bb2890e822b9c33c1143f35e8eac36c359e9ab21b7e31c282dde33b35217a9b017f0cdd3b99389e267c1e8b36943a56308bdd3c017be47ae0b4532badfdddca3cc1d991af889454be026e79ce6e7de94549716cfd561fd04080
def kz_T0 : Nat := 0xd50c8851d1181a553c450cd7cb67b0f60bcad27d28576bc4d065ef0267e23d271fc85d310a57bef57ddd2be4427d834ddce00f420102e52dbeb33153df8b46ca7ca93675d274cd6df130519863994b792c5b59cc65bcefc0611674c852544497706d18acfc752143b4f5c00053f094131d72ada5b70975e51b0842d9e0861d3b86657565fac032dbe39e466d13235bca7425d4e296429a0b504f60b3736f72e4e40400f5c736634b49e5be3877a4f4955c431682136711c8e526327b36d1c5ac4a8074966bdd43dfb61735984585565982a47cac914352c000
def kz_T1 : Nat := 0xaf32bc4eca075922503ba6ae25e1dc3d2ee83cfe3e4d83d02f72470177822b3e910e7213542ae08eb14e0ff08d3492aa74c09b60b1f3cbd5416c3ad11b1ff03eb46ee01a10ba2046c87a840529d0468062985b419e740e496d57110ada125437b4802389a4a448bdcaad15e46e2c72d1e1d098f1820d338d9531e67e88bf45da2a0b6000283ddd99af8e7e74c614d8e34a718102671e211c8d6ef0573cab822b24ad0e3ac8120df612702b3d73f25fe406467505bf1897460ca60c40d21a904642ed41a21b8f3ec87f3d139308a54bef310b09269574284a3cd2ebfbd14c823e82ab04dc0e6efbb022f05d524380bc980d0f8c3c86bad5c0517a86a360ef520101d54e56cb640ae4000
/-- force x to a number, then go on -/
noncomputable def kz_fc {α : Type} (x : Nat) (f : Nat → α) : α := Nat.rec (motive := fun _ => α) (f 0) (fun k _ => f (Nat.succ k)) x
theorem kz_fce {α : Type} (x : Nat) (f : Nat → α) : kz_fc x f = f x := by
  cases x <;> rfl
noncomputable def kz_all (n : Nat) (f : Nat → Bool) : Bool := Nat.rec (motive := fun _ => Bool) true (fun k r => and (f k) r) n
theorem kz_alls (n : Nat) (f : Nat → Bool) : kz_all (n + 1) f = (f n && kz_all n f) := rfl
theorem kz_alle {n : Nat} {f : Nat → Bool} (h : kz_all n f = true) {k : Nat} (hk : k < n) : f k = true := by
  induction n with
  | zero => exact absurd hk (by omega)
  | succ n ih =>
    rw [kz_alls, Bool.and_eq_true] at h
    by_cases e : k = n
    · rw [e]; exact h.1
    · exact ih h.2 (by omega)
/-- the product, by logarithms -/
def kz_tm (a b : Nat) : Nat := Nat.mod (Nat.shiftRight kz_EX (Nat.add (Nat.mod (Nat.shiftRight kz_LG (Nat.mul 11 a)) 2048) (Nat.mod (Nat.shiftRight kz_LG (Nat.mul 11 b)) 2048))) 128
theorem kz_tm_lt (a b : Nat) : kz_tm a b < 128 := Nat.mod_lt _ (by decide)
/-- the inverse -/
def kz_ti (a : Nat) : Nat := Nat.mod (Nat.shiftRight kz_IV (Nat.mul 7 a)) 128
theorem kz_ti_lt (a : Nat) : kz_ti a < 128 := Nat.mod_lt _ (by decide)
theorem kz_x7 {a b : Nat} (ha : a < 128) (hb : b < 128) : a ^^^ b < 128 := Nat.xor_lt_two_pow (n := 7) ha hb
/-- the loop of mul -/
def kz_sh (s : Nat) : Nat := if 2 * s < 128 then 2 * s else (2 * s) ^^^ 131
def kz_ml (b : Nat) : Nat → Nat → Nat → Nat → Nat
  | 0, _, x, _ => x
  | n + 1, i, x, s => kz_ml b n (i + 1) (if b / 2 ^ i % 2 = 1 then x ^^^ s else x) (kz_sh s)
theorem kz_sh_lt : ∀ s, s < 128 → kz_sh s < 128 := by decide +kernel
noncomputable def kz_k0 : Bool := kz_all 128 fun a => kz_all 128 fun b => Nat.beq (kz_ml b 7 0 0 a) (kz_tm a b)
theorem kz_k0_t : kz_k0 = true := by decide +kernel
theorem kz_mt {a b : Nat} (ha : a < 128) (hb : b < 128) : kz_ml b 7 0 0 a = kz_tm a b := Nat.eq_of_beq_eq_true (kz_alle (kz_alle kz_k0_t ha) hb)
/-- the loops of inverse, trace, root and squareRoot -/
def kz_ig : Nat → Nat → Nat → Nat
  | 0, x, _ => x
  | n + 1, x, q => kz_ig n (kz_tm x (kz_tm q q)) (kz_tm q q)
def kz_tg : Nat → Nat → Nat → Nat
  | 0, x, _ => x
  | n + 1, x, w => kz_tg n (x ^^^ w) (kz_tm w w)
def kz_rg : Nat → Nat → Nat → Nat
  | 0, x, _ => x
  | n + 1, x, w => kz_rg n (x ^^^ w) (kz_tm (kz_tm w w) (kz_tm w w))
def kz_qg : Nat → Nat → Nat
  | 0, x => x
  | n + 1, x => kz_qg n (kz_tm x x)
theorem kz_it : ∀ a, a < 128 → kz_ig 6 1 a = kz_ti a := by decide +kernel
def kz_tr (a : Nat) : Nat := kz_tg 7 0 a
def kz_ro (a : Nat) : Nat := kz_rg 4 0 a
def kz_qr (a : Nat) : Nat := kz_qg 6 a
theorem kz_tr_lt : ∀ a, a < 128 → kz_tr a < 128 := by decide +kernel
theorem kz_ro_lt : ∀ a, a < 128 → kz_ro a < 128 := by decide +kernel
theorem kz_qr_lt : ∀ a, a < 128 → kz_qr a < 128 := by decide +kernel
/-- points: 128 x + y; 16384 is the neutral one -/
def kz_on (c p : Nat) : Nat := if (kz_tm (p % 128) (p % 128) ^^^ kz_tm (p / 128) (p % 128)) = (kz_tm (kz_tm (p / 128) (p / 128)) (p / 128) ^^^ (if c = 1 then kz_tm (p / 128) (p / 128) else 0)) ^^^ 1 then 1 else 0
noncomputable def kz_tw2 (c x sl : Nat) : Nat := kz_fc ((kz_tm sl sl ^^^ sl) ^^^ c) (fun s => (s * 128) ||| (kz_tm x x ^^^ kz_tm (sl ^^^ 1) s))
noncomputable def kz_tw (c p : Nat) : Nat := if p = 16384 then 16384 else if p / 128 = 0 then 16384 else kz_fc (p / 128 ^^^ kz_tm (p % 128) (kz_ti (p / 128))) (fun sl => kz_tw2 c (p / 128) sl)
noncomputable def kz_ln (c x u y sl : Nat) : Nat := kz_fc ((((kz_tm sl sl ^^^ sl) ^^^ x) ^^^ u) ^^^ c) (fun s => (s * 128) ||| ((kz_tm sl (x ^^^ s) ^^^ s) ^^^ y))
noncomputable def kz_sum (c p q : Nat) : Nat := if p = 16384 then q else if q = 16384 then p else if p / 128 = q / 128 then (if p = q then kz_tw c p else 16384) else kz_fc (kz_tm ((p ^^^ q) % 128) (kz_ti (p / 128 ^^^ q / 128))) (fun sl => kz_ln c (p / 128) (q / 128) (p % 128) sl)
def kz_sq (p : Nat) : Nat := if p = 16384 then 16384 else (kz_tm (p / 128) (p / 128) * 128) ||| kz_tm (p % 128) (p % 128)
def kz_mi (p : Nat) : Nat := if p = 16384 then 16384 else p ^^^ (p / 128)
/-- halves; 32768 stands for none -/
def kz_hb3 (c q : Nat) : Nat := if kz_on c q = 0 then 32768 else q
def kz_hb2 (c sl w : Nat) : Nat := if w = 0 then 32768 else kz_hb3 c ((w * 128) ||| kz_tm (sl ^^^ w) w)
def kz_hb (c p sl : Nat) : Nat := kz_hb2 c sl (kz_qr (p % 128 ^^^ kz_tm (sl ^^^ 1) (p / 128)))
def kz_hf (c p w : Nat) : Nat := if p = 16384 then (if w = 0 then 1 else 16384) else if kz_tr (p / 128 ^^^ c) = 0 then kz_hb c p (kz_ro (p / 128 ^^^ c) ^^^ w) else 32768
/-- the candidate of firstAt at x -/
def kz_rt (c x : Nat) : Nat := (x ^^^ c) ^^^ kz_tm (kz_ti x) (kz_ti x)
def kz_fa (c x : Nat) : Nat := (x * 128) ||| kz_tm x (kz_ro (kz_rt c x))
/-- the tables of the points -/
def kz_N (c : Nat) : Nat := if c = 0 then 116 else 142
def kz_S (c : Nat) : Nat := if c = 0 then 65 else 103
def kz_TT (c : Nat) : Nat := if c = 0 then kz_T0 else kz_T1
def kz_T (c i : Nat) : Nat := Nat.mod (Nat.shiftRight (kz_TT c) (Nat.mul 15 i)) 32768
end
section
/-! what the tables hold: every fact is one closed computation -/
theorem kz_c2 {P : Nat → Prop} (h0 : P 0) (h1 : P 1) {c : Nat} (hc : c < 2) : P c := by
  match c, hc with
  | 0, _ => exact h0
  | 1, _ => exact h1
noncomputable def kz_k2 (c : Nat) : Bool := kz_all (kz_N c) fun i => kz_fc (kz_T c i) fun p => kz_all (kz_N c) fun j => Nat.beq (kz_sum c p (kz_T c j)) (kz_T c ((i + j) % kz_N c))
theorem kz_k2_0 : kz_k2 0 = true := by decide +kernel
theorem kz_k2_1 : kz_k2 1 = true := by decide +kernel
/-- the sum of two points of the table -/
theorem kz_F2 {c i j : Nat} (hc : c < 2) (hi : i < kz_N c) (hj : j < kz_N c) : kz_sum c (kz_T c i) (kz_T c j) = kz_T c ((i + j) % kz_N c) := by
  have h : kz_k2 c = true := kz_c2 (P := fun c => kz_k2 c = true) kz_k2_0 kz_k2_1 hc
  have h1 := kz_alle h hi
  rw [kz_fce] at h1
  exact Nat.eq_of_beq_eq_true (kz_alle h1 hj)
/-- a point of the table is a point; its square, its negative, its halves -/
noncomputable def kz_k1 (c : Nat) : Bool := kz_all (kz_N c) fun i => kz_fc (kz_T c i) fun p =>
  (Nat.beq p 16384 || (Nat.blt p 16384 && Nat.beq (kz_on c p) 1)) && Nat.beq (kz_sq p) (kz_T c (kz_S c * i % kz_N c)) && Nat.beq (kz_mi p) (kz_T c ((kz_N c - i) % kz_N c))
theorem kz_k1_0 : kz_k1 0 = true := by decide +kernel
theorem kz_k1_1 : kz_k1 1 = true := by decide +kernel
theorem kz_k1_c {c : Nat} (hc : c < 2) : kz_k1 c = true := kz_c2 (P := fun c => kz_k1 c = true) kz_k1_0 kz_k1_1 hc
theorem kz_F1 {c i : Nat} (hc : c < 2) (hi : i < kz_N c) : kz_T c i = 16384 ∨ (kz_T c i < 16384 ∧ kz_on c (kz_T c i) = 1) := by
  have h := kz_alle (kz_k1_c hc) hi
  rw [kz_fce, Bool.and_eq_true, Bool.and_eq_true, Bool.or_eq_true, Bool.and_eq_true, Nat.blt_eq] at h
  rcases h.1.1 with h | h
  · exact Or.inl (Nat.eq_of_beq_eq_true h)
  · exact Or.inr ⟨h.1, Nat.eq_of_beq_eq_true h.2⟩
theorem kz_Tle {c i : Nat} (hc : c < 2) (hi : i < kz_N c) : kz_T c i ≤ 16384 := by
  rcases kz_F1 hc hi with h | h
  · omega
  · omega
theorem kz_F3 {c i : Nat} (hc : c < 2) (hi : i < kz_N c) : kz_sq (kz_T c i) = kz_T c (kz_S c * i % kz_N c) := by
  have h := kz_alle (kz_k1_c hc) hi
  rw [kz_fce, Bool.and_eq_true, Bool.and_eq_true] at h
  exact Nat.eq_of_beq_eq_true h.1.2
theorem kz_F4 {c i : Nat} (hc : c < 2) (hi : i < kz_N c) : kz_mi (kz_T c i) = kz_T c ((kz_N c - i) % kz_N c) := by
  have h := kz_alle (kz_k1_c hc) hi
  rw [kz_fce, Bool.and_eq_true, Bool.and_eq_true] at h
  exact Nat.eq_of_beq_eq_true h.2
theorem kz_T_0 {c : Nat} (hc : c < 2) : kz_T c 0 = 16384 := kz_c2 (P := fun c => kz_T c 0 = 16384) (by decide +kernel) (by decide +kernel) hc
theorem kz_Npos {c : Nat} (hc : c < 2) : 1 < kz_N c := kz_c2 (P := fun c => 1 < kz_N c) (by decide) (by decide) hc
/-- halves -/
noncomputable def kz_k6 (c : Nat) : Bool := kz_all (kz_N c) fun i => kz_fc (kz_hf c (kz_T c i) 0) fun f => kz_fc (kz_hf c (kz_T c i) 1) fun s =>
  (Nat.beq f 32768 && Nat.beq s 32768) || (Nat.beq (i % 2) 0 && (
    (Nat.beq f (kz_T c (i / 2)) && Nat.beq s (kz_T c (i / 2 + kz_N c / 2))) || (Nat.beq s (kz_T c (i / 2)) && Nat.beq f (kz_T c (i / 2 + kz_N c / 2)))))
theorem kz_k6_0 : kz_k6 0 = true := by decide +kernel
theorem kz_k6_1 : kz_k6 1 = true := by decide +kernel
theorem kz_F6 {c i : Nat} (hc : c < 2) (hi : i < kz_N c) : (kz_hf c (kz_T c i) 0 = 32768 ∧ kz_hf c (kz_T c i) 1 = 32768) ∨
    ∃ a b, a < kz_N c ∧ b < kz_N c ∧ kz_hf c (kz_T c i) 0 = kz_T c a ∧ kz_hf c (kz_T c i) 1 = kz_T c b ∧ (a + a) % kz_N c = i ∧ (b + b) % kz_N c = i := by
  have h : kz_k6 c = true := kz_c2 (P := fun c => kz_k6 c = true) kz_k6_0 kz_k6_1 hc
  have h := kz_alle h hi
  have hn : kz_N c = 116 ∨ kz_N c = 142 := kz_c2 (P := fun c => kz_N c = 116 ∨ kz_N c = 142) (by decide) (by decide) hc
  rw [kz_fce, kz_fce, Bool.or_eq_true, Bool.and_eq_true, Bool.and_eq_true, Bool.or_eq_true, Bool.and_eq_true, Bool.and_eq_true] at h
  simp only [Nat.beq_eq] at h
  rcases h with h | ⟨h2, h | h⟩
  · exact Or.inl h
  · refine Or.inr ⟨_, _, ?_, ?_, h.1, h.2, ?_, ?_⟩ <;> rcases hn with e | e <;> rw [e] at hi ⊢ <;> omega
  · refine Or.inr ⟨_, _, ?_, ?_, h.2, h.1, ?_, ?_⟩ <;> rcases hn with e | e <;> rw [e] at hi ⊢ <;> omega
/-- the candidates of firstAt: an index is sought in the table -/
noncomputable def kz_has (c p : Nat) : Bool := Nat.rec (motive := fun _ => Bool) false (fun k r => or (Nat.beq (kz_T c k) p) r) (kz_N c)
theorem kz_hase {c p : Nat} (h : kz_has c p = true) : ∃ i, i < kz_N c ∧ kz_T c i = p := by
  have g : ∀ n, Nat.rec (motive := fun _ => Bool) false (fun k r => or (Nat.beq (kz_T c k) p) r) n = true → ∃ i, i < n ∧ kz_T c i = p := by
    intro n
    induction n with
    | zero => intro h; exact absurd (show false = true from h) (by decide)
    | succ n ih =>
      intro h
      have h' : (Nat.beq (kz_T c n) p || Nat.rec (motive := fun _ => Bool) false (fun k r => or (Nat.beq (kz_T c k) p) r) n) = true := h
      rw [Bool.or_eq_true] at h'
      rcases h' with h' | h'
      · exact ⟨n, by omega, Nat.eq_of_beq_eq_true h'⟩
      · obtain ⟨i, hi, e⟩ := ih h'
        exact ⟨i, by omega, e⟩
  exact g _ h
noncomputable def kz_k5 (c : Nat) : Bool := kz_all 128 fun x => Nat.beq x 0 || kz_fc (kz_tr (kz_rt c x)) fun t => !(Nat.beq t 0) || kz_fc (kz_fa c x) fun p => kz_has c p && kz_has c (p ^^^ x)
theorem kz_k5_0 : kz_k5 0 = true := by decide +kernel
theorem kz_k5_1 : kz_k5 1 = true := by decide +kernel
theorem kz_F5 {c x : Nat} (hc : c < 2) (hx : x < 128) (h0 : x ≠ 0) (ht : kz_tr (kz_rt c x) = 0) : (∃ i, i < kz_N c ∧ kz_T c i = kz_fa c x) ∧ ∃ i, i < kz_N c ∧ kz_T c i = kz_fa c x ^^^ x := by
  have h : kz_k5 c = true := kz_c2 (P := fun c => kz_k5 c = true) kz_k5_0 kz_k5_1 hc
  have h := kz_alle h hx
  rw [kz_fce, kz_fce, ht, Bool.or_eq_true] at h
  rcases h with h | h
  · exact absurd (Nat.eq_of_beq_eq_true h) h0
  · have h' : (kz_has c (kz_fa c x) && kz_has c (kz_fa c x ^^^ x)) = true := h
    rw [Bool.and_eq_true] at h'
    exact ⟨kz_hase h'.1, kz_hase h'.2⟩
theorem kz_F51 {c : Nat} (hc : c < 2) : ∃ i, i < kz_N c ∧ kz_T c i = 1 := kz_hase (kz_c2 (P := fun c => kz_has c 1 = true) (by decide +kernel) (by decide +kernel) hc)
end
section
/-! ints as naturals -/
theorem kz_xor (a b : Nat) : nI a ^^^ nI b = nI (a ^^^ b) := by
  apply Int32.toBitVec_inj.1
  show BitVec.ofNat 32 a ^^^ BitVec.ofNat 32 b = BitVec.ofNat 32 (a ^^^ b)
  exact BitVec.ofNat_xor.symm
theorem kz_or (a b : Nat) : nI a ||| nI b = nI (a ||| b) := by
  apply Int32.toBitVec_inj.1
  show BitVec.ofNat 32 a ||| BitVec.ofNat 32 b = BitVec.ofNat 32 (a ||| b)
  exact BitVec.ofNat_or.symm
theorem kz_shr {p : Nat} (h : p < 65536) : nI p >>> ((7 : Int32) &&& 31) = nI (p / 128) := pk_shrN (by omega) _ 7 (by decide)
theorem kz_and {p : Nat} (h : p < 65536) : nI p &&& 127 = nI (p % 128) := pk_andN (by omega) 7 (by decide)
theorem kz_shl {p : Nat} (h : p < 65536) : nI p <<< ((7 : Int32) &&& 31) = nI (p * 128) := pk_shlN _ 7 (by decide) (by omega)
theorem kz_cat {s t : Nat} (h : s < 65536) : (nI s <<< ((7 : Int32) &&& 31)) ||| nI t = nI ((s * 128) ||| t) := by
  rw [kz_shl h, kz_or]
theorem kz_sm : ∀ i, i < 7 → ((nI i &&& 31).toBitVec.smod 32).toNat = i := by decide +kernel
theorem kz_bit {b i : Nat} (hb : b < 128) (hi : i < 7) : (nI b >>> (nI i &&& 31)) &&& 1 = nI (b / 2 ^ i % 2) := by
  rw [pk_shrN (by omega) _ i (kz_sm i hi)]
  have h : b / 2 ^ i ≤ b := Nat.div_le_self _ _
  exact pk_andN (by omega) 1 (by decide)
/-! mul -/
theorem kz_w8 {post : Int32 → Prop} {f0 f1 f2 f3 f4 f5 f6 f7 : Int32} {a1 : Nat → Int32} {b : Nat} (hb : b < 128) : ∀ n i x s, i + n = 7 → x < 128 → s < 128 → post (nI (kz_ml b n i x s)) → wX_mul_8 post (nI b) f0 f1 f2 f3 f4 f5 f6 f7 a1 (n + 1) (nI x) (nI s) (nI i) := by
  intro n
  induction n with
  | zero =>
    intro i x s hi hx hs hp
    exact pk_le 7 i (fun _ => hp) (fun z => absurd z (by omega))
  | succ n ih =>
    intro i x s hi hx hs hp
    have J : ∀ x', x' < 128 → post (nI (kz_ml b n (i + 1) x' (kz_sh s))) → wX_mul_30 post (wX_mul_8 post (nI b) f0 f1 f2 f3 f4 f5 f6 f7 a1 (n + 1)) (nI b) (nI x') (nI s) (nI i) f0 f1 f2 f3 f4 f5 f6 f7 a1 := by
      intro x' hx' hp'
      unfold wX_mul_30
      refine nm_r (show nI s <<< ((1 : Int32) &&& 31) = nI (2 * s) by rw [pk_shlN _ 1 (by decide) (by omega), Nat.mul_comm, Nat.pow_one]) ?_
      refine pk_lt (2 * s) 128 (fun h => nm_r (nI_1 i) ?_) (fun h => nm_r (show nI (2 * s) ^^^ 131 = nI (2 * s ^^^ 131) from kz_xor _ 131) (nm_r (nI_1 i) ?_))
      · have e : kz_sh s = 2 * s := if_pos h
        rw [e] at hp'
        exact ih (i + 1) x' (2 * s) (by omega) hx' h hp'
      · have e : kz_sh s = 2 * s ^^^ 131 := if_neg (by omega)
        have l := kz_sh_lt s hs
        rw [e] at hp' l
        exact ih (i + 1) x' _ (by omega) hx' l hp'
    refine pk_le 7 i (fun z => absurd z (by omega)) (fun _ => ?_)
    by_cases h : b / 2 ^ i % 2 = 1
    · refine br_t (by rw [kz_bit hb (by omega), h]; rfl) (nm_r (kz_xor x s) (J _ (kz_x7 hx hs) ?_))
      have e : kz_ml b (n + 1) i x s = kz_ml b n (i + 1) (x ^^^ s) (kz_sh s) := by
        show kz_ml b n (i + 1) (if b / 2 ^ i % 2 = 1 then x ^^^ s else x) (kz_sh s) = _
        rw [if_pos h]
      rw [← e]; exact hp
    · refine br_f (by rw [kz_bit hb (by omega)]; exact fun z => h ((nI_eq (b := 1) (by omega) (by decide)).mp z)) (J _ hx ?_)
      have e : kz_ml b (n + 1) i x s = kz_ml b n (i + 1) x (kz_sh s) := by
        show kz_ml b n (i + 1) (if b / 2 ^ i % 2 = 1 then x ^^^ s else x) (kz_sh s) = _
        rw [if_neg h]
      rw [← e]; exact hp
theorem kz_mul {post : Int32 → Prop} {u : St2} {x y : Int32} (a b : Nat) (ha : a < 128) (hb : b < 128) (hx : x = nI a) (hy : y = nI b) (hp : post (nI (kz_tm a b))) : wpX_mul post u x y := by
  obtain ⟨f0, f1, f2, f3, f4, f5, f6, f7, a1⟩ := u
  subst hx hy
  rw [← kz_mt ha hb] at hp
  exact ⟨8, kz_w8 hb 7 0 0 a (by omega) (by omega) ha hp⟩
/-! inverse, trace, root, squareRoot -/
theorem kz_wi {post : Int32 → Prop} {f0 f1 f2 f3 f4 f5 f6 f7 : Int32} {a1 : Nat → Int32} : ∀ n i x q, i + n = 7 → x < 128 → q < 128 → post (nI (kz_ig n x q)) → wX_inverse_7 post f0 f1 f2 f3 f4 f5 f6 f7 a1 (n + 1) (nI x) (nI q) (nI i) := by
  intro n
  induction n with
  | zero =>
    intro i x q hi hx hq hp
    exact pk_le 7 i (fun _ => hp) (fun z => absurd z (by omega))
  | succ n ih =>
    intro i x q hi hx hq hp
    refine pk_le 7 i (fun z => absurd z (by omega)) (fun _ => ?_)
    exact kz_mul q q hq hq rfl rfl (kz_mul x _ hx (kz_tm_lt _ _) rfl rfl (nm_r (nI_1 i) (ih (i + 1) _ _ (by omega) (kz_tm_lt _ _) (kz_tm_lt _ _) hp)))
theorem kz_inv {post : Int32 → Prop} {u : St2} {x : Int32} (a : Nat) (ha : a < 128) (hx : x = nI a) (hp : post (nI (kz_ti a))) : wpX_inverse post u x := by
  obtain ⟨f0, f1, f2, f3, f4, f5, f6, f7, a1⟩ := u
  subst hx
  rw [← kz_it a ha] at hp
  exact ⟨7, kz_wi 6 1 1 a (by omega) (by omega) ha hp⟩
theorem kz_wt {post : Int32 → Prop} {f0 f1 f2 f3 f4 f5 f6 f7 : Int32} {a1 : Nat → Int32} : ∀ n i x q, i + n = 7 → x < 128 → q < 128 → post (nI (kz_tg n x q)) → wX_trace_7 post f0 f1 f2 f3 f4 f5 f6 f7 a1 (n + 1) (nI x) (nI q) (nI i) := by
  intro n
  induction n with
  | zero =>
    intro i x q hi hx hq hp
    exact pk_le 7 i (fun _ => hp) (fun z => absurd z (by omega))
  | succ n ih =>
    intro i x q hi hx hq hp
    refine pk_le 7 i (fun z => absurd z (by omega)) (fun _ => ?_)
    exact nm_r (kz_xor x q) (kz_mul q q hq hq rfl rfl (nm_r (nI_1 i) (ih (i + 1) _ _ (by omega) (kz_x7 hx hq) (kz_tm_lt _ _) hp)))
theorem kz_trace {post : Int32 → Prop} {u : St2} {x : Int32} (a : Nat) (ha : a < 128) (hx : x = nI a) (hp : post (nI (kz_tr a))) : wpX_trace post u x := by
  obtain ⟨f0, f1, f2, f3, f4, f5, f6, f7, a1⟩ := u
  subst hx
  exact ⟨8, kz_wt 7 0 0 a (by omega) (by omega) ha hp⟩
theorem kz_wr {post : Int32 → Prop} {f0 f1 f2 f3 f4 f5 f6 f7 : Int32} {a1 : Nat → Int32} : ∀ n i x q, i + n = 4 → x < 128 → q < 128 → post (nI (kz_rg n x q)) → wX_root_7 post f0 f1 f2 f3 f4 f5 f6 f7 a1 (n + 1) (nI x) (nI q) (nI i) := by
  intro n
  induction n with
  | zero =>
    intro i x q hi hx hq hp
    exact pk_le 4 i (fun _ => hp) (fun z => absurd z (by omega))
  | succ n ih =>
    intro i x q hi hx hq hp
    refine pk_le 4 i (fun z => absurd z (by omega)) (fun _ => ?_)
    exact nm_r (kz_xor x q) (kz_mul q q hq hq rfl rfl (kz_mul _ _ (kz_tm_lt _ _) (kz_tm_lt _ _) rfl rfl (nm_r (nI_1 i) (ih (i + 1) _ _ (by omega) (kz_x7 hx hq) (kz_tm_lt _ _) hp))))
theorem kz_root {post : Int32 → Prop} {u : St2} {x : Int32} (a : Nat) (ha : a < 128) (hx : x = nI a) (hp : post (nI (kz_ro a))) : wpX_root post u x := by
  obtain ⟨f0, f1, f2, f3, f4, f5, f6, f7, a1⟩ := u
  subst hx
  exact ⟨5, kz_wr 4 0 0 a (by omega) (by omega) ha hp⟩
theorem kz_wq {post : Int32 → Prop} {f0 f1 f2 f3 f4 f5 f6 f7 : Int32} {a1 : Nat → Int32} : ∀ n i x, i + n = 7 → x < 128 → post (nI (kz_qg n x)) → wX_squareRoot_4 post f0 f1 f2 f3 f4 f5 f6 f7 a1 (n + 1) (nI x) (nI i) := by
  intro n
  induction n with
  | zero =>
    intro i x hi hx hp
    exact pk_le 7 i (fun _ => hp) (fun z => absurd z (by omega))
  | succ n ih =>
    intro i x hi hx hp
    refine pk_le 7 i (fun z => absurd z (by omega)) (fun _ => ?_)
    exact kz_mul x x hx hx rfl rfl (nm_r (nI_1 i) (ih (i + 1) _ (by omega) (kz_tm_lt _ _) hp))
theorem kz_sqrt {post : Int32 → Prop} {u : St2} {x : Int32} (a : Nat) (ha : a < 128) (hx : x = nI a) (hp : post (nI (kz_qr a))) : wpX_squareRoot post u x := by
  obtain ⟨f0, f1, f2, f3, f4, f5, f6, f7, a1⟩ := u
  subst hx
  exact ⟨7, kz_wq 6 1 a (by omega) ha hp⟩
theorem kz_quo {post : Int32 → Prop} {u : St2} {x y : Int32} (a b : Nat) (ha : a < 128) (hb : b < 128) (hx : x = nI a) (hy : y = nI b) (hp : post (nI (kz_tm a (kz_ti b)))) : wpX_quotient post u x y := by
  obtain ⟨f0, f1, f2, f3, f4, f5, f6, f7, a1⟩ := u
  unfold wpX_quotient
  refine kz_inv b hb hy ?_
  exact kz_mul a _ ha (kz_ti_lt _) hx rfl hp
end
section
/-! points -/
abbrev kz_U : Type := Int32 × Int32 × Int32 × Int32 × Int32 × Int32 × Int32 × (Nat → Int32)
theorem kz_xor3 (a b c : Nat) : (nI a ^^^ nI b) ^^^ nI c = nI ((a ^^^ b) ^^^ c) := by
  rw [kz_xor, kz_xor]
theorem kz_xor5 (a b c d e : Nat) : (((nI a ^^^ nI b) ^^^ nI c) ^^^ nI d) ^^^ nI e = nI ((((a ^^^ b) ^^^ c) ^^^ d) ^^^ e) := by
  rw [kz_xor, kz_xor, kz_xor, kz_xor]
theorem kz_lt7 {a : Nat} (h : a < 128) : a < 2 ^ 31 := by omega
theorem kz_o59 {post : Int32 → Prop} {f0 f1 f2 f3 f4 f5 f6 f7 : Int32} {a1 : Nat → Int32} {a b z0 z1 : Nat} (ha : a < 128) (hb : b < 128) (h0 : z0 < 128) (h1 : z1 < 128) (h : post (nI (if (a ^^^ b) = (z1 ^^^ z0) ^^^ 1 then 1 else 0))) : wX_onCurve_59 post (nI a) (nI b) (nI z0) (nI z1) f0 f1 f2 f3 f4 f5 f6 f7 a1 := by
  unfold wX_onCurve_59
  refine nm_r (kz_xor3 z1 z0 1) ?_
  refine pk_eq (a ^^^ b) ((z1 ^^^ z0) ^^^ 1) (fun e => ?_) (fun e => ?_) (kz_xor a b) rfl (kz_lt7 (kz_x7 ha hb)) (kz_lt7 (kz_x7 (kz_x7 h1 h0) (by decide)))
  · rw [if_pos e] at h; exact h
  · rw [if_neg e] at h; exact h
theorem kz_onC {post : Int32 → Prop} {u : kz_U} {x : Int32} {c p : Nat} (hc : c < 2) (hp : p < 16384) (hx : x = nI p) (h : post (nI (kz_on c p))) : wpX_onCurve post (nI c, u) x := by
  obtain ⟨f1, f2, f3, f4, f5, f6, f7, a1⟩ := u
  subst hx
  have l1 : p / 128 < 128 := by omega
  have l2 : p % 128 < 128 := by omega
  refine nm_r (kz_shr (by omega)) (nm_r (kz_and (by omega)) ?_)
  refine kz_mul (p % 128) (p % 128) l2 l2 rfl rfl (kz_mul (p / 128) (p % 128) l1 l2 rfl rfl (kz_mul (p / 128) (p / 128) l1 l1 rfl rfl (kz_mul _ (p / 128) (kz_tm_lt _ _) l1 rfl rfl ?_)))
  unfold kz_on at h
  refine pk_eq c 1 (fun e => ?_) (fun e => ?_)
  · rw [if_pos e] at h
    exact kz_o59 (kz_tm_lt _ _) (kz_tm_lt _ _) (kz_tm_lt _ _) (kz_tm_lt _ _) h
  · rw [if_neg e] at h
    exact kz_o59 (z0 := 0) (kz_tm_lt _ _) (kz_tm_lt _ _) (by decide) (kz_tm_lt _ _) h
theorem kz_bad {post : Int32 → Prop} {u : kz_U} {c i : Nat} (hc : c < 2) (hi : i < kz_N c) (h : post 0) : wpX_bad post (nI c, u) (nI (kz_T c i)) := by
  obtain ⟨f1, f2, f3, f4, f5, f6, f7, a1⟩ := u
  have l := kz_Tle hc hi
  refine pk_eq (kz_T c i) 16384 (fun _ => h) (fun e => ?_)
  have g : kz_T c i < 16384 ∧ kz_on c (kz_T c i) = 1 := (kz_F1 hc hi).resolve_left e
  refine pk_lt (kz_T c i) 0 (fun z => absurd z (by omega)) (fun _ => pk_lt 16384 (kz_T c i) (fun z => absurd z (by omega)) (fun _ => ?_))
  refine kz_onC hc g.1 rfl ?_
  rw [g.2]
  exact br_f (by decide) h
theorem kz_twice {post : Int32 → Prop} {u : kz_U} {c p : Nat} (hc : c < 2) (hp : p ≤ 16384) (h : post (nI (kz_tw c p))) : wpX_twice post (nI c, u) (nI p) := by
  obtain ⟨f1, f2, f3, f4, f5, f6, f7, a1⟩ := u
  refine nm_r (kz_shr (by omega)) ?_
  refine pk_eq p 16384 (fun e => ?_) (fun e => ?_)
  · have e2 : kz_tw c p = 16384 := if_pos e
    rw [e2] at h; exact h
  · refine pk_eq (p / 128) 0 (fun e1 => ?_) (fun e1 => ?_)
    · have e2 : kz_tw c p = 16384 := by unfold kz_tw; rw [if_neg e, if_pos e1]
      rw [e2] at h; exact h
    · unfold kz_tw kz_tw2 at h
      rw [if_neg e, if_neg e1, kz_fce, kz_fce] at h
      have l1 : p / 128 < 128 := by omega
      have l2 : p % 128 < 128 := by omega
      have l3 : p / 128 ^^^ kz_tm (p % 128) (kz_ti (p / 128)) < 128 := kz_x7 l1 (kz_tm_lt _ _)
      have lc : c < 128 := by omega
      refine kz_quo (p % 128) (p / 128) l2 l1 (kz_and (by omega)) rfl (nm_r (kz_xor _ _) ?_)
      have l4 := kz_x7 (kz_x7 (kz_tm_lt (p / 128 ^^^ kz_tm (p % 128) (kz_ti (p / 128))) (p / 128 ^^^ kz_tm (p % 128) (kz_ti (p / 128)))) l3) lc
      refine kz_mul _ _ l3 l3 rfl rfl (nm_r (kz_xor3 _ _ c) (kz_mul _ _ l1 l1 rfl rfl (kz_mul _ _ (kz_x7 l3 (by decide : 1 < 128)) l4 (kz_xor _ 1) rfl (nm_r (kz_xor _ _) ?_))))
      show post _
      rw [kz_cat (by omega)]
      exact h
theorem kz_sumw {post : Int32 → Prop} {u : kz_U} {c p q : Nat} (hc : c < 2) (hp : p ≤ 16384) (hq : q ≤ 16384) (h : post (nI (kz_sum c p q))) : wpX_sum post (nI c, u) (nI p) (nI q) := by
  obtain ⟨f1, f2, f3, f4, f5, f6, f7, a1⟩ := u
  unfold kz_sum at h
  refine pk_eq p 16384 (fun e => ?_) (fun e => ?_)
  · rw [if_pos e] at h; exact h
  rw [if_neg e] at h
  refine pk_eq q 16384 (fun e1 => ?_) (fun e1 => ?_)
  · rw [if_pos e1] at h; exact h
  rw [if_neg e1] at h
  refine nm_r (kz_shr (by omega)) (nm_r (kz_shr (by omega)) ?_)
  refine pk_eq (p / 128) (q / 128) (fun e2 => ?_) (fun e2 => ?_)
  · rw [if_pos e2] at h
    refine pk_eq p q (fun e3 => ?_) (fun e3 => ?_)
    · rw [if_pos e3] at h; exact kz_twice hc hp h
    · rw [if_neg e3] at h; exact h
  rw [if_neg e2, kz_fce] at h
  unfold kz_ln at h
  rw [kz_fce] at h
  have l1 : p / 128 < 128 := by omega
  have l2 : q / 128 < 128 := by omega
  have lc : c < 128 := by omega
  have lx : p ^^^ q < 65536 := Nat.xor_lt_two_pow (n := 16) (by omega) (by omega)
  refine kz_quo ((p ^^^ q) % 128) (p / 128 ^^^ q / 128) (Nat.mod_lt _ (by decide)) (kz_x7 l1 l2) (by rw [kz_xor, kz_and lx]) (kz_xor _ _) ?_
  refine kz_mul _ _ (kz_tm_lt _ _) (kz_tm_lt _ _) rfl rfl (nm_r (kz_xor5 _ _ _ _ c) ?_)
  have l3 : (((kz_tm (kz_tm ((p ^^^ q) % 128) (kz_ti (p / 128 ^^^ q / 128))) (kz_tm ((p ^^^ q) % 128) (kz_ti (p / 128 ^^^ q / 128))) ^^^ kz_tm ((p ^^^ q) % 128) (kz_ti (p / 128 ^^^ q / 128))) ^^^ p / 128) ^^^ q / 128) ^^^ c < 128 := kz_x7 (kz_x7 (kz_x7 (kz_x7 (kz_tm_lt _ _) (kz_tm_lt _ _)) l1) l2) lc
  refine kz_mul _ _ (kz_tm_lt _ _) (kz_x7 l1 l3) rfl (kz_xor _ _) (nm_r (show _ = nI ((kz_tm _ _ ^^^ _) ^^^ p % 128) from by rw [kz_and (show p < 65536 by omega), kz_xor3]) ?_)
  show post _
  rw [kz_cat (by omega)]
  exact h
theorem kz_sumT {post : Int32 → Prop} {u : kz_U} {c i j : Nat} (hc : c < 2) (hi : i < kz_N c) (hj : j < kz_N c) (h : post (nI (kz_T c ((i + j) % kz_N c)))) : wpX_sum post (nI c, u) (nI (kz_T c i)) (nI (kz_T c j)) :=
  kz_sumw hc (kz_Tle hc hi) (kz_Tle hc hj) (by rw [kz_F2 hc hi hj]; exact h)
theorem kz_sqT {post : Int32 → Prop} {u : kz_U} {c i : Nat} (hc : c < 2) (hi : i < kz_N c) (h : post (nI (kz_T c (kz_S c * i % kz_N c)))) : wpX_squared post (nI c, u) (nI (kz_T c i)) := by
  obtain ⟨f1, f2, f3, f4, f5, f6, f7, a1⟩ := u
  have l := kz_Tle hc hi
  rw [← kz_F3 hc hi] at h
  generalize kz_T c i = p at h l
  unfold kz_sq at h
  refine pk_eq p 16384 (fun e => ?_) (fun e => ?_)
  · rw [if_pos e] at h; exact h
  · rw [if_neg e] at h
    refine kz_mul (p / 128) (p / 128) (by omega) (by omega) (kz_shr (by omega)) (kz_shr (by omega)) (kz_mul (p % 128) (p % 128) (by omega) (by omega) (kz_and (by omega)) (kz_and (by omega)) ?_)
    show post _
    rw [kz_cat (Nat.lt_trans (kz_tm_lt _ _) (by decide))]
    exact h
theorem kz_miT {post : Int32 → Prop} {u : kz_U} {c i : Nat} (hc : c < 2) (hi : i < kz_N c) (h : post (nI (kz_T c ((kz_N c - i) % kz_N c)))) : wpX_minus post (nI c, u) (nI (kz_T c i)) := by
  obtain ⟨f1, f2, f3, f4, f5, f6, f7, a1⟩ := u
  have l := kz_Tle hc hi
  rw [← kz_F4 hc hi] at h
  generalize kz_T c i = p at h l
  unfold kz_mi at h
  refine pk_eq p 16384 (fun e => ?_) (fun e => ?_)
  · rw [if_pos e] at h; exact h
  · rw [if_neg e, ← kz_xor, ← kz_shr (show p < 65536 by omega)] at h
    exact h
theorem kz_add {post : Int32 → Prop} {u : kz_U} {c i j : Nat} (hc : c < 2) (hi : i < kz_N c) (hj : j < kz_N c) (h : post (nI (kz_T c ((i + j) % kz_N c)))) : wpX_add post (nI c, u) (nI (kz_T c i)) (nI (kz_T c j)) := by
  obtain ⟨f1, f2, f3, f4, f5, f6, f7, a1⟩ := u
  unfold wpX_add
  refine kz_bad hc hi (br_t rfl ?_)
  refine kz_bad hc hj (br_t rfl ?_)
  exact kz_sumT hc hi hj h
theorem kz_square {post : Int32 → Prop} {u : kz_U} {c i : Nat} (hc : c < 2) (hi : i < kz_N c) (h : post (nI (kz_T c (kz_S c * i % kz_N c)))) : wpX_square post (nI c, u) (nI (kz_T c i)) := by
  obtain ⟨f1, f2, f3, f4, f5, f6, f7, a1⟩ := u
  unfold wpX_square
  refine kz_bad hc hi (br_t rfl ?_)
  exact kz_sqT hc hi h
theorem kz_negate {post : Int32 → Prop} {u : kz_U} {c i : Nat} (hc : c < 2) (hi : i < kz_N c) (h : post (nI (kz_T c ((kz_N c - i) % kz_N c)))) : wpX_negate post (nI c, u) (nI (kz_T c i)) := by
  obtain ⟨f1, f2, f3, f4, f5, f6, f7, a1⟩ := u
  unfold wpX_negate
  refine kz_bad hc hi (br_t rfl ?_)
  exact kz_miT hc hi h
theorem kz_isPoint {post : Int32 → Prop} {u : kz_U} {c i : Nat} (hc : c < 2) (hi : i < kz_N c) (h : post 1) : wpX_isPoint post (nI c, u) (nI (kz_T c i)) := by
  obtain ⟨f1, f2, f3, f4, f5, f6, f7, a1⟩ := u
  unfold wpX_isPoint
  exact kz_bad hc hi (br_t rfl h)
/-! halves -/
def kz_dc (r : Nat) : Int32 := if r = 32768 then -4 else nI r
theorem kz_dcN : kz_dc 32768 = -4 := if_pos rfl
theorem kz_dcS {q : Nat} (h : q ≤ 16384) : kz_dc q = nI q := if_neg (by omega)
theorem kz_catlt {s t : Nat} (hs : s < 128) (ht : t < 128) : (s * 128) ||| t < 16384 := Nat.or_lt_two_pow (n := 14) (by omega) (by omega)
theorem kz_hbw {post : Int32 → Prop} {u : kz_U} {y : Int32} {c p sl : Nat} (hc : c < 2) (hp : p < 16384) (hs : sl < 128) (hy : y = nI sl) (h : post (kz_dc (kz_hb c p sl))) : wpX_halfBy post (nI c, u) (nI p) y := by
  obtain ⟨f1, f2, f3, f4, f5, f6, f7, a1⟩ := u
  subst hy
  have l1 : p / 128 < 128 := by omega
  have l2 : p % 128 < 128 := by omega
  unfold kz_hb at h
  refine nm_r (kz_shr (by omega)) (nm_r (kz_and (by omega)) ?_)
  have l3 := kz_x7 l2 (kz_tm_lt (sl ^^^ 1) (p / 128))
  refine kz_mul (sl ^^^ 1) (p / 128) (kz_x7 hs (by decide)) l1 (kz_xor sl 1) rfl (nm_r (kz_xor _ _) (kz_sqrt _ l3 rfl ?_))
  have lw := kz_qr_lt _ l3
  generalize kz_qr (p % 128 ^^^ kz_tm (sl ^^^ 1) (p / 128)) = w at h lw
  unfold kz_hb2 at h
  refine pk_eq w 0 (fun e => ?_) (fun e => ?_)
  · rw [if_pos e, kz_dcN] at h; exact h
  rw [if_neg e] at h
  have lq := kz_catlt lw (kz_tm_lt (sl ^^^ w) w)
  refine kz_mul (sl ^^^ w) w (kz_x7 hs lw) lw (kz_xor sl w) rfl (nm_r (kz_cat (by omega)) (kz_onC hc lq rfl ?_))
  unfold kz_hb3 at h
  have lo : kz_on c (w * 128 ||| kz_tm (sl ^^^ w) w) < 2 ^ 31 := by
    unfold kz_on
    split <;> split <;> omega
  refine pk_eq (kz_on c (w * 128 ||| kz_tm (sl ^^^ w) w)) 0 (fun e => ?_) (fun e => ?_) rfl rfl lo
  · rw [if_pos e, kz_dcN] at h; exact h
  · rw [if_neg e, kz_dcS (by omega)] at h; exact h
theorem kz_hfw {post : Int32 → Prop} {u : kz_U} {y : Int32} {c p : Nat} (w : Nat) (hc : c < 2) (hp : p ≤ 16384) (hw : w < 2) (hy : y = nI w) (h : post (kz_dc (kz_hf c p w))) : wpX_halfOf post (nI c, u) (nI p) y := by
  obtain ⟨f1, f2, f3, f4, f5, f6, f7, a1⟩ := u
  subst hy
  unfold kz_hf at h
  refine pk_eq p 16384 (fun e => ?_) (fun e => ?_)
  · rw [if_pos e] at h
    refine pk_eq w 0 (fun e1 => ?_) (fun e1 => ?_)
    · rw [if_pos e1, kz_dcS (by decide)] at h; exact h
    · rw [if_neg e1, kz_dcS (by decide)] at h; exact h
  rw [if_neg e] at h
  have lr : p / 128 ^^^ c < 128 := kz_x7 (by omega) (by omega)
  refine nm_r (kz_shr (by omega)) (nm_r (kz_xor _ c) (kz_trace _ lr rfl ?_))
  have lt := kz_tr_lt _ lr
  refine pk_eq (kz_tr (p / 128 ^^^ c)) 0 (fun e1 => ?_) (fun e1 => ?_)
  · rw [if_pos e1] at h
    exact kz_root _ lr rfl (nm_r (kz_xor _ w) (kz_hbw hc (by omega) (kz_x7 (kz_ro_lt _ lr) (by omega)) rfl h))
  · rw [if_neg e1, kz_dcN] at h; exact h
theorem kz_halvesN {post : Int32 → Prop} {u : kz_U} {c i : Nat} (hc : c < 2) (hi : i < kz_N c) (g : kz_hf c (kz_T c i) 0 = 32768 ∧ kz_hf c (kz_T c i) 1 = 32768) (h : post 0) : wpX_halves post (nI c, u) (nI (kz_T c i)) := by
  obtain ⟨f1, f2, f3, f4, f5, f6, f7, a1⟩ := u
  unfold wpX_halves
  refine kz_bad hc hi (br_t rfl ?_)
  refine kz_hfw 0 hc (kz_Tle hc hi) (by decide) rfl ?_
  refine kz_hfw 1 hc (kz_Tle hc hi) (by decide) rfl ?_
  rw [g.1, g.2, kz_dcN]
  exact br_f (by decide) (br_f (by decide) h)
theorem kz_halfN {post : Int32 → Prop} {u : kz_U} {c i : Nat} (hc : c < 2) (hi : i < kz_N c) (g : kz_hf c (kz_T c i) 0 = 32768 ∧ kz_hf c (kz_T c i) 1 = 32768) (h : post (-4)) : wpX_half post (nI c, u) (nI (kz_T c i)) := by
  obtain ⟨f1, f2, f3, f4, f5, f6, f7, a1⟩ := u
  unfold wpX_half
  refine kz_bad hc hi (br_t rfl ?_)
  refine kz_hfw 0 hc (kz_Tle hc hi) (by decide) rfl ?_
  refine kz_hfw 1 hc (kz_Tle hc hi) (by decide) rfl ?_
  rw [g.1, g.2, kz_dcN]
  exact br_f (by decide) h
theorem kz_halvesS {post : Int32 → Prop} {u : kz_U} {c i a b : Nat} (hc : c < 2) (hi : i < kz_N c) (ha : a < kz_N c) (hb : b < kz_N c) (ga : kz_hf c (kz_T c i) 0 = kz_T c a) (gb : kz_hf c (kz_T c i) 1 = kz_T c b) (h : post 2) : wpX_halves post (nI c, u) (nI (kz_T c i)) := by
  obtain ⟨f1, f2, f3, f4, f5, f6, f7, a1⟩ := u
  have la := kz_Tle hc ha
  have lb := kz_Tle hc hb
  unfold wpX_halves
  refine kz_bad hc hi (br_t rfl ?_)
  refine kz_hfw 0 hc (kz_Tle hc hi) (by decide) rfl ?_
  refine kz_hfw 1 hc (kz_Tle hc hi) (by decide) rfl ?_
  rw [ga, gb, kz_dcS la, kz_dcS lb]
  exact br_t (nI_pos' (by omega)) (br_t (nI_pos' (by omega)) h)
theorem kz_halfS {post : Int32 → Prop} {u : kz_U} {c i a b : Nat} (hc : c < 2) (hi : i < kz_N c) (ha : a < kz_N c) (hb : b < kz_N c) (ga : kz_hf c (kz_T c i) 0 = kz_T c a) (gb : kz_hf c (kz_T c i) 1 = kz_T c b) (h1 : post (nI (kz_T c a))) (h2 : post (nI (kz_T c b))) : wpX_half post (nI c, u) (nI (kz_T c i)) := by
  obtain ⟨f1, f2, f3, f4, f5, f6, f7, a1⟩ := u
  have la := kz_Tle hc ha
  have lb := kz_Tle hc hb
  unfold wpX_half
  refine kz_bad hc hi (br_t rfl ?_)
  refine kz_hfw 0 hc (kz_Tle hc hi) (by decide) rfl ?_
  refine kz_hfw 1 hc (kz_Tle hc hi) (by decide) rfl ?_
  rw [ga, gb, kz_dcS la, kz_dcS lb]
  exact br_t (nI_pos' (by omega)) (br_f (nI_pos (by omega)) (br_c (fun _ => h2) (fun _ => h1)))
/-! next -/
theorem kz_f103 {post : Int32 → Prop} {f0 f1 f2 f3 f4 f5 f6 f7 y x9 x10 z : Int32} {a1 : Nat → Int32} (hn : post (-4)) (h9 : post x9) (h10 : post x10) (hz : post z) : wX_firstAt_103 post y x9 x10 z f0 f1 f2 f3 f4 f5 f6 f7 a1 :=
  br_c (fun _ => br_c (fun _ => br_c (fun _ => hn) (fun _ => h9)) (fun _ => br_c (fun _ => hn) (fun _ => h10))) (fun _ => hz)
theorem kz_first {post : Int32 → Prop} {u : kz_U} {y : Int32} {c x : Nat} (hc : c < 2) (hx : x < 128) (hn : post (-4)) (hi : ∀ i, i < kz_N c → post (nI (kz_T c i))) : wpX_firstAt post (nI c, u) (nI x) y := by
  obtain ⟨f1, f2, f3, f4, f5, f6, f7, a1⟩ := u
  refine pk_eq x 0 (fun e => br_c (fun _ => hn) (fun _ => ?_)) (fun e => ?_)
  · obtain ⟨i, h1, h2⟩ := kz_F51 hc
    have h3 := hi i h1
    rw [h2] at h3
    exact h3
  have lr : kz_rt c x < 128 := kz_x7 (kz_x7 hx (by omega)) (kz_tm_lt _ _)
  refine kz_inv x hx rfl (kz_mul _ _ (kz_ti_lt _) (kz_ti_lt _) rfl rfl (nm_r (e' := nI (kz_rt c x)) (kz_xor3 x c _) (kz_trace _ lr rfl ?_)))
  have lt := kz_tr_lt _ lr
  refine pk_eq (kz_tr (kz_rt c x)) 0 (fun ht => ?_) (fun _ => hn)
  obtain ⟨⟨i, i1, i2⟩, ⟨j, j1, j2⟩⟩ := kz_F5 hc hx e ht
  have h9 := hi i i1
  have h10 := hi j j1
  rw [i2] at h9
  rw [j2] at h10
  refine kz_root _ lr rfl (kz_mul x _ hx (kz_ro_lt _ lr) rfl rfl (nm_r (e' := nI (kz_fa c x)) (kz_cat (by omega)) (nm_r (kz_xor _ x) ?_)))
  exact br_c (fun _ => kz_f103 hn h9 h10 h10) (fun _ => kz_f103 hn h9 h10 h9)
theorem kz_nx {post : Int32 → Prop} {f1 f2 f3 f4 f5 f6 f7 y : Int32} {a1 : Nat → Int32} {c : Nat} (hc : c < 2) (hi : ∀ i, i < kz_N c → post (nI (kz_T c i))) : ∀ n x, x + n = 128 → wX_next_25 post y (nI c) f1 f2 f3 f4 f5 f6 f7 a1 (n + 1) (nI x) := by
  intro n
  induction n with
  | zero =>
    intro x hx
    refine pk_le 128 x (fun _ => ?_) (fun z => absurd z (by omega))
    have h := hi 0 (Nat.lt_trans (by decide) (kz_Npos hc))
    rw [kz_T_0 hc] at h
    exact h
  | succ n ih =>
    intro x hx
    refine pk_le 128 x (fun z => absurd z (by omega)) (fun _ => ?_)
    refine kz_first hc (by omega) (br_t (by decide) (nm_r (nI_1 x) (ih (x + 1) (by omega)))) (fun i hi' => br_f (nI_pos ?_) (hi i hi'))
    have l := kz_Tle hc hi'
    omega
theorem kz_next {post : Int32 → Prop} {u : kz_U} {x : Int32} {c : Nat} (s : Nat) (hc : c < 2) (hs : s < 16384) (hx : x = nI s) (hi : ∀ i, i < kz_N c → post (nI (kz_T c i))) : wpX_next post (nI c, u) x := by
  obtain ⟨f1, f2, f3, f4, f5, f6, f7, a1⟩ := u
  subst hx
  refine pk_le s 16384 (fun _ => pk_le 0 s (fun _ => nm_r (kz_shr (by omega)) ⟨128 - s / 128 + 1, kz_nx hc hi (128 - s / 128) (s / 128) (by omega)⟩) (fun z => absurd z (by omega))) (fun z => absurd z (by omega))
theorem kz_point {post : Int32 → Prop} {u : kz_U} {x : Int32} {c : Nat} (hc : c < 2) (hi : ∀ i, i < kz_N c → post (nI (kz_T c i))) : wpL_point post (nI c, u) x := by
  obtain ⟨f1, f2, f3, f4, f5, f6, f7, a1⟩ := u
  obtain ⟨j, hj, e⟩ := pk_andE x (m := 16383) 14 (by decide)
  unfold wpL_point
  refine kz_next j hc hj e (fun i h => br_c (fun _ => br_c (fun _ => ?_) (fun _ => hi i h)) (fun _ => hi i h))
  exact kz_next 0 hc (by decide) rfl hi
end
section
/-! the multiplier's recoding -/
def kz_m (c : Nat) : Int32 := if c = 0 then -1 else 1
def kz_A (c : Nat) : Int32 := if c = 0 then 9 else -11
def kz_rd (a b : Int32) : Int32 := if 0 ≤ 2 * a + b then (2 * a + b) / (2 * b) else if ((2 * a + b) / (2 * b) * 2) * b = 2 * a + b then (2 * a + b) / (2 * b) else (2 * a + b) / (2 * b) - 1
theorem kz_rdw {post : Int32 → Prop} {u : St2} {a b : Int32} (h1 : 1 ≤ b) (h2 : ¬ 2 * b = 0) (h : post (kz_rd a b)) : wpX_rounded post u a b := by
  obtain ⟨f0, f1, f2, f3, f4, f5, f6, f7, a1⟩ := u
  refine br_t h1 (nm_e ⟨h2, nm_e ?_⟩)
  unfold kz_rd at h
  by_cases g : 0 ≤ 2 * a + b
  · rw [if_pos g] at h; exact br_t g h
  · rw [if_neg g] at h
    by_cases g2 : ((2 * a + b) / (2 * b) * 2) * b = 2 * a + b
    · rw [if_pos g2] at h; exact br_f g (br_t g2 h)
    · rw [if_neg g2] at h; exact br_f g (br_f g2 h)
def kz_q0 (c : Nat) (k : Int32) : Int32 := kz_rd (k * (kz_A c + (kz_m c * 7))) (nI (kz_N c))
def kz_q1 (c : Nat) (k : Int32) : Int32 := kz_rd ((-k) * 7) (nI (kz_N c))
def kz_pa (c : Nat) (k : Int32) : Int32 := k - ((kz_q0 c k * kz_A c) - ((2 * kz_q1 c k) * 7))
def kz_pb (c : Nat) (k : Int32) : Int32 := -(((kz_q0 c k * 7) + (kz_q1 c k * kz_A c)) + ((kz_m c * kz_q1 c k) * 7))
theorem kz_nrm {c : Nat} (hc : c < 2) : ((kz_A c * kz_A c) + ((kz_m c * kz_A c) * 7)) + ((2 * 7) * 7) = nI (kz_N c) := kz_c2 (P := fun c => ((kz_A c * kz_A c) + ((kz_m c * kz_A c) * 7)) + ((2 * 7) * 7) = nI (kz_N c)) (by decide +kernel) (by decide +kernel) hc
theorem kz_N1 {c : Nat} (hc : c < 2) : 1 ≤ nI (kz_N c) := kz_c2 (P := fun c => 1 ≤ nI (kz_N c)) (by decide +kernel) (by decide +kernel) hc
theorem kz_N2 {c : Nat} (hc : c < 2) : ¬ 2 * nI (kz_N c) = 0 := kz_c2 (P := fun c => ¬ 2 * nI (kz_N c) = 0) (by decide +kernel) (by decide +kernel) hc
theorem kz_redw {post : St2 → Prop} {c : Nat} {pa pb d k : Int32} {a : Nat → Int32} (hc : c < 2) (h : post (nI c, nI (kz_N c), kz_m c, kz_A c, 7, kz_pa c k, kz_pb c k, d, a)) : wpX_reduce post (nI c, nI (kz_N c), kz_m c, kz_A c, 7, pa, pb, d, a) k :=
  nm_r (kz_nrm hc) (kz_rdw (kz_N1 hc) (kz_N2 hc) (kz_rdw (kz_N1 hc) (kz_N2 hc) (nm_e (nm_e h))))
def kz_dg (pa pb : Int32) : Int32 := if pa &&& 1 = 1 then 2 - ((pa - (2 * pb)) &&& 3) else 0
def kz_p1 (pa pb : Int32) : Int32 := if pa &&& 1 = 1 then pa - (2 - ((pa - (2 * pb)) &&& 3)) else pa
noncomputable def kz_fi {α : Type} (x : Int32) (f : Int32 → α) : α := kz_fc x.toBitVec.toNat (fun n => f (nI n))
theorem kz_nIt (x : Int32) : nI x.toBitVec.toNat = x := by
  apply Int32.toBitVec_inj.1
  show BitVec.ofNat 32 x.toBitVec.toNat = x.toBitVec
  simp
theorem kz_fie {α : Type} (x : Int32) (f : Int32 → α) : kz_fi x f = f x := by
  unfold kz_fi
  rw [kz_fce, kz_nIt]
noncomputable def kz_rl (m : Int32) : Nat → Int32 → Int32 → List Int32
  | 0, _, _ => []
  | n + 1, pa, pb => if pa = 0 ∧ pb = 0 then [] else kz_dg pa pb :: kz_fi (kz_p1 pa pb / 2) (fun h => kz_fi (pb + (m * h)) (fun q => kz_rl m n q (-h)))
theorem kz_rlz {m pa pb : Int32} {n : Nat} (h : pa = 0 ∧ pb = 0) : kz_rl m (n + 1) pa pb = [] := by
  unfold kz_rl
  rw [if_pos h]
theorem kz_rls {m pa pb : Int32} {n : Nat} (h : ¬ (pa = 0 ∧ pb = 0)) : kz_rl m (n + 1) pa pb = kz_dg pa pb :: kz_rl m n (pb + (m * (kz_p1 pa pb / 2))) (-(kz_p1 pa pb / 2)) := by
  rw [kz_rl, if_neg h, kz_fie, kz_fie]
theorem kz_rlen {m : Int32} : ∀ n pa pb, (kz_rl m n pa pb).length ≤ n := by
  intro n
  induction n with
  | zero => intro pa pb; exact Nat.le_refl 0
  | succ n ih =>
    intro pa pb
    by_cases z : pa = 0 ∧ pb = 0
    · rw [kz_rlz z]; exact Nat.zero_le _
    · rw [kz_rls z, List.length_cons]
      have := ih (pb + (m * (kz_p1 pa pb / 2))) (-(kz_p1 pa pb / 2))
      omega
theorem kz_w12 {post : St2 → Prop} {f0 f1 f2 f3 f4 : Int32} : ∀ n i pa pb a, i + n = 40 → (∀ pa' pb' a', (∀ j, j < i → a' j = a j) → (∀ j, j < (kz_rl f2 n pa pb).length → a' (i + j) = (kz_rl f2 n pa pb).getD j 0) → post (f0, f1, f2, f3, f4, pa', pb', nI (i + (kz_rl f2 n pa pb).length), a')) → wX_recode_12 post f0 f1 f2 f3 f4 (n + 1) (nI i) pa pb (nI i) a := by
  intro n
  induction n with
  | zero =>
    intro i pa pb a hi h
    exact pk_le 40 i (fun _ => h pa pb a (fun _ _ => rfl) (fun j hj => absurd hj (Nat.not_lt_zero j))) (fun z => absurd z (by omega))
  | succ n ih =>
    intro i pa pb a hi h
    refine pk_le 40 i (fun z => absurd z (by omega)) (fun _ => ?_)
    by_cases z : pa = 0 ∧ pb = 0
    · rw [kz_rlz z] at h
      exact br_t z.1 (br_t z.2 (h pa pb a (fun _ _ => rfl) (fun j hj => absurd hj (Nat.not_lt_zero j))))
    · rw [kz_rls z] at h
      have K : wX_recode_70 post (wX_recode_12 post f0 f1 f2 f3 f4 (n + 1)) (nI i) (kz_dg pa pb) f0 f1 f2 f3 f4 (kz_p1 pa pb) pb (nI i) a := by
        refine ⟨pk_in i 40 (by omega), nm_r (show upd a (nI i).toNatClampNeg (kz_dg pa pb) = upd a i (kz_dg pa pb) by rw [nI_clamp (show i < 2 ^ 31 by omega)]) (nm_r (nI_1 i) ⟨by decide, nm_e (nm_e (nm_e (nm_r (nI_1 i) ?_)))⟩)⟩
        refine ih (i + 1) _ _ _ (by omega) (fun pa' pb' a' h1 h2 => ?_)
        have h3 := h pa' pb' a' (fun j hj => by rw [h1 j (by omega), pk_un (by omega)]) (fun j hj => ?_)
        · rw [List.length_cons] at h3
          rw [show i + 1 + (kz_rl f2 n (pb + (f2 * (kz_p1 pa pb / 2))) (-(kz_p1 pa pb / 2))).length = i + ((kz_rl f2 n (pb + (f2 * (kz_p1 pa pb / 2))) (-(kz_p1 pa pb / 2))).length + 1) by omega]
          exact h3
        · cases j with
          | zero => rw [Nat.add_zero, h1 i (by omega), pk_us]; rfl
          | succ j =>
            rw [List.length_cons] at hj
            have h4 := h2 j (by omega)
            rw [show i + (j + 1) = i + 1 + j by omega, h4]
            rfl
      have J : wX_recode_32 post (wX_recode_12 post f0 f1 f2 f3 f4 (n + 1)) (nI i) f0 f1 f2 f3 f4 pa pb (nI i) a := by
        by_cases o : pa &&& 1 = 1
        · have e1 : kz_dg pa pb = 2 - ((pa - (2 * pb)) &&& 3) := if_pos o
          have e2 : kz_p1 pa pb = pa - (2 - ((pa - (2 * pb)) &&& 3)) := if_pos o
          rw [e1, e2] at K
          exact br_t o (nm_e (nm_e K))
        · have e1 : kz_dg pa pb = 0 := if_neg o
          have e2 : kz_p1 pa pb = pa := if_neg o
          rw [e1, e2] at K
          exact br_f o K
      by_cases z1 : pa = 0
      · exact br_t z1 (br_f (fun z2 => z ⟨z1, z2⟩) J)
      · exact br_f z1 J
noncomputable def kz_dl (c : Nat) (k : Int32) : List Int32 := kz_fi (kz_pa c k) fun pa => kz_fi (kz_pb c k) fun pb => kz_rl (kz_m c) 40 pa pb
theorem kz_dle (c : Nat) (k : Int32) : kz_dl c k = kz_rl (kz_m c) 40 (kz_pa c k) (kz_pb c k) := by
  unfold kz_dl
  rw [kz_fie, kz_fie]
theorem kz_recw {post : St2 → Prop} {c : Nat} {pa pb d k : Int32} {a : Nat → Int32} (hc : c < 2)
    (h : ∀ pa' pb' a', (∀ j, j < (kz_dl c k).length → a' j = (kz_dl c k).getD j 0) → post (nI c, nI (kz_N c), kz_m c, kz_A c, 7, pa', pb', nI (kz_dl c k).length, a')) :
    wpX_recode post (nI c, nI (kz_N c), kz_m c, kz_A c, 7, pa, pb, d, a) k := by
  rw [kz_dle] at h
  unfold wpX_recode
  refine kz_redw hc ⟨41, ?_⟩
  refine kz_w12 40 0 (kz_pa c k) (kz_pb c k) a (by omega) (fun pa' pb' a' _ h2 => ?_)
  have h3 := h pa' pb' a' (fun j hj => by have h4 := h2 j hj; rw [Nat.zero_add] at h4; exact h4)
  rw [Nat.zero_add]
  exact h3
/-- what a list of digits does to the exponent i -/
def kz_ev (c : Nat) : List Int32 → Nat → Nat
  | [], _ => 0
  | d :: L, i => if d = 1 then (kz_S c * kz_ev c L i % kz_N c + i) % kz_N c else if d = -1 then (kz_S c * kz_ev c L i % kz_N c + (kz_N c - i) % kz_N c) % kz_N c else kz_S c * kz_ev c L i % kz_N c
theorem kz_ml_lt {c : Nat} (hc : c < 2) (x : Nat) : x % kz_N c < kz_N c := Nat.mod_lt _ (Nat.lt_trans (by decide) (kz_Npos hc))
theorem kz_ev_lt {c : Nat} (hc : c < 2) (L : List Int32) (i : Nat) : kz_ev c L i < kz_N c := by
  cases L with
  | nil => rw [kz_ev]; exact Nat.lt_trans (by decide) (kz_Npos hc)
  | cons d L =>
    rw [kz_ev]
    split
    · exact kz_ml_lt hc _
    · split
      · exact kz_ml_lt hc _
      · exact kz_ml_lt hc _
theorem kz_Nv {c : Nat} (hc : c < 2) : kz_N c = 116 ∨ kz_N c = 142 := kz_c2 (P := fun c => kz_N c = 116 ∨ kz_N c = 142) (by decide) (by decide) hc
theorem kz_neg {N y i : Nat} (hN : N = 116 ∨ N = 142) (hi : i < N) : (y + (N - i)) % N = (y + (N - 1) * i) % N := by
  rcases hN with rfl | rfl
  · omega
  · omega
theorem kz_evl {c i : Nat} (hc : c < 2) (hi : i < kz_N c) : ∀ L, kz_ev c L i = kz_ev c L 1 * i % kz_N c := by
  intro L
  have h1 := kz_Npos hc
  induction L with
  | nil => rw [kz_ev, kz_ev, Nat.zero_mul, Nat.zero_mod]
  | cons d L ih =>
    have k : kz_S c * kz_ev c L i % kz_N c = (kz_S c * kz_ev c L 1 % kz_N c) * i % kz_N c := by
      rw [ih, Nat.mul_mod_mod, Nat.mod_mul_mod, Nat.mul_assoc]
    rw [kz_ev, kz_ev, k]
    split
    · rw [Nat.mod_add_mod, Nat.mod_mul_mod, Nat.add_mul, Nat.one_mul]
    · split
      · rw [Nat.mod_add_mod, Nat.add_mod_mod, Nat.mod_mul_mod, Nat.mod_eq_of_lt (show kz_N c - 1 < kz_N c by omega), Nat.add_mul]
        exact kz_neg (kz_Nv hc) hi
      · rfl
noncomputable def kz_k7 (c : Nat) : Bool := kz_all (2 * kz_N c - 1) fun t => Nat.beq (kz_ev c (kz_fi (nI t - nI (kz_N c - 1)) (fun k => kz_dl c k)) 1) ((t + 1) % kz_N c)
theorem kz_k7_0 : kz_k7 0 = true := by decide +kernel
theorem kz_k7_1 : kz_k7 1 = true := by decide +kernel
theorem kz_F7 {c t : Nat} (hc : c < 2) (ht : t < 2 * kz_N c - 1) : kz_ev c (kz_dl c (nI t - nI (kz_N c - 1))) 1 = (t + 1) % kz_N c := by
  have h : kz_k7 c = true := kz_c2 (P := fun c => kz_k7 c = true) kz_k7_0 kz_k7_1 hc
  have h := kz_alle h ht
  rw [kz_fie] at h
  exact Nat.eq_of_beq_eq_true h
end
section
/-! multiples -/
theorem kz_sub1 (x : Int32) : x + (-1) = x - 1 := by
  rw [Int32.sub_eq_add_neg]
theorem kz_w33 {post : Int32 → St2 → Prop} {f1 f2 f3 f4 f5 f6 f7 : Int32} {a1 : Nat → Int32} {c i : Nat} {L : List Int32} (hc : c < 2) (hi : i < kz_N c) (hL : L.length ≤ 40) (ha : ∀ j, j < L.length → a1 j = L.getD j 0) (h : post (nI (kz_T c (kz_ev c L i))) (nI c, f1, f2, f3, f4, f5, f6, f7, a1)) :
    ∀ j, j ≤ L.length → wX_multiplied_33 post (nI (kz_T c i)) (nI c) f1 f2 f3 f4 f5 f6 f7 a1 (j + 1) (nI (kz_T c (kz_ev c (L.drop j) i))) (nI j - 1) := by
  intro j
  induction j with
  | zero => intro _; exact br_t (by decide) h
  | succ j ih =>
    intro hj
    have hd : L.drop j = a1 j :: L.drop (j + 1) := by
      rw [ha j (by omega), List.drop_eq_getElem_cons (show j < L.length by omega), List.getD_eq_getElem?_getD, List.getElem?_eq_getElem (show j < L.length by omega)]
      rfl
    have ih' := ih (by omega)
    rw [hd, kz_ev] at ih'
    have le := kz_ev_lt hc (L.drop (j + 1)) i
    generalize kz_ev c (L.drop (j + 1)) i = e at ih' le
    rw [nI_pred]
    refine br_f (nI_pos (by omega)) (kz_sqT hc le ⟨pk_in j 40 (by omega), ?_⟩)
    rw [nI_clamp (show j < 2 ^ 31 by omega)]
    by_cases d1 : a1 j = 1
    · rw [if_pos d1] at ih'
      exact br_t d1 (kz_sumT hc (kz_ml_lt hc _) hi (nm_r (kz_sub1 _) ih'))
    · rw [if_neg d1] at ih'
      refine br_f d1 ⟨pk_in j 40 (by omega), ?_⟩
      by_cases d2 : a1 j = -1
      · rw [if_pos d2] at ih'
        exact br_t d2 (kz_miT hc hi (kz_sumT hc (kz_ml_lt hc _) (kz_ml_lt hc _) (nm_r (kz_sub1 _) ih')))
      · rw [if_neg d2] at ih'
        exact br_f d2 (nm_r (kz_sub1 _) ih')
theorem kz_w18 {post : Int32 → St2 → Prop} {c i : Nat} {pa pb d k : Int32} {a : Nat → Int32} (hc : c < 2) (hi : i < kz_N c)
    (h : ∀ pa' pb' d' a', post (nI (kz_T c (kz_ev c (kz_dl c k) i))) (nI c, nI (kz_N c), kz_m c, kz_A c, 7, pa', pb', d', a')) :
    wX_multiplied_18 post (nI (kz_T c i)) k (nI c) (nI (kz_N c)) (kz_m c) (kz_A c) 7 pa pb d a := by
  unfold wX_multiplied_18
  have hl : (kz_dl c k).length ≤ 40 := by rw [kz_dle]; exact kz_rlen _ _ _
  refine kz_recw hc (fun pa' pb' a' ha => nm_e ⟨(kz_dl c k).length + 1, ?_⟩)
  have g := kz_w33 (post := post) (f1 := nI (kz_N c)) (f2 := kz_m c) (f3 := kz_A c) (f4 := 7) (f5 := pa') (f6 := pb') (f7 := nI (kz_dl c k).length) hc hi hl ha (h pa' pb' _ a') (kz_dl c k).length (Nat.le_refl _)
  rw [List.drop_length] at g
  have e : kz_T c (kz_ev c [] i) = 16384 := kz_T_0 hc
  rw [e] at g
  exact g
/-- the exponent of a multiplier -/
def kz_e (c : Nat) (k : Int32) : Nat := (k.toInt % (kz_N c : Int)).toNat
theorem kz_bm0 {x : Int} (h1 : -100000000 ≤ x) (h2 : x ≤ 100000000) : x.bmod (2 ^ 32) = x := Int.bmod_eq_of_le (by omega) (by omega)
theorem kz_rem {N : Nat} (hN : N = 116 ∨ N = 142) {k : Int32} (h1 : -1000000 ≤ k.toInt) (h2 : k.toInt ≤ 1000000) : ∃ t, t < 2 * N - 1 ∧ k - k / nI N * nI N = nI t - nI (N - 1) ∧ (t + 1) % N = (k.toInt % (N : Int)).toNat := by
  have hn : (nI N).toInt = (N : Int) := nI_toInt (by omega)
  have ne : nI N ≠ -1 := by rcases hN with rfl | rfl <;> decide
  have hd : (k / nI N).toInt = k.toInt.tdiv N := by rw [Int32.toInt_div_of_ne_right _ _ ne, hn]
  have e := Int.tdiv_mul_add_tmod k.toInt N
  have r1 := Int.tmod_lt_of_pos k.toInt (b := N) (by omega)
  have r2 := Int.lt_tmod_of_pos k.toInt (b := N) (by omega)
  generalize k.toInt.tdiv N = q at hd e
  generalize k.toInt.tmod N = r at e r1 r2
  have hm : (k / nI N * nI N).toInt = q * N := by
    rw [Int32.toInt_mul, hd, hn]
    exact kz_bm0 (by omega) (by omega)
  have hs : (k - k / nI N * nI N).toInt = r := by
    rw [Int32.toInt_sub, hm, show k.toInt - q * N = r by omega]
    exact kz_bm0 (by omega) (by omega)
  refine ⟨(r + (N - 1)).toNat, by omega, ?_, ?_⟩
  · apply Int32.toInt_inj.mp
    rw [hs, pk_sub_toInt (by omega) (by omega)]
    omega
  · rcases hN with rfl | rfl
    · omega
    · omega
theorem kz_multd {post : Int32 → St2 → Prop} {c i : Nat} {pa pb d k : Int32} {a : Nat → Int32} (hc : c < 2) (hi : i < kz_N c) (h1 : -1000000 ≤ k.toInt) (h2 : k.toInt ≤ 1000000)
    (h : ∀ pa' pb' d' a', post (nI (kz_T c (kz_e c k * i % kz_N c))) (nI c, nI (kz_N c), kz_m c, kz_A c, 7, pa', pb', d', a')) :
    wpX_multiplied post (nI c, nI (kz_N c), kz_m c, kz_A c, 7, pa, pb, d, a) k (nI (kz_T c i)) := by
  have l := kz_Nv hc
  refine br_f (nI_nle (by omega) (by omega)) ⟨nI_ne0 (by omega) (by omega), ?_⟩
  obtain ⟨t, t1, t2, t3⟩ := kz_rem (kz_Nv hc) h1 h2
  rw [t2]
  refine kz_w18 hc hi ?_
  rw [kz_evl hc hi, kz_F7 hc t1, t3]
  exact h
theorem kz_bm {post : Int32 → Prop} {u : St2} {k : Int32} (h1 : -1000000 ≤ k.toInt) (h2 : k.toInt ≤ 1000000) (h : post 0) : wpX_badMultiplier post u k := by
  obtain ⟨f0, f1, f2, f3, f4, f5, f6, f7, a1⟩ := u
  have e1 : (-1000000 : Int32).toInt = -1000000 := by decide
  have e2 : (1000000 : Int32).toInt = 1000000 := by decide
  exact br_f (by rw [Int32.lt_iff_toInt_lt, e1]; omega) (br_t (by rw [Int32.le_iff_toInt_le, e2]; exact h2) h)
theorem kz_multiple {post : Int32 → St2 → Prop} {c i : Nat} {pa pb d k : Int32} {a : Nat → Int32} (hc : c < 2) (hi : i < kz_N c) (h1 : -1000000 ≤ k.toInt) (h2 : k.toInt ≤ 1000000)
    (h : ∀ pa' pb' d' a', post (nI (kz_T c (kz_e c k * i % kz_N c))) (nI c, nI (kz_N c), kz_m c, kz_A c, 7, pa', pb', d', a')) :
    wpX_multiple post (nI c, nI (kz_N c), kz_m c, kz_A c, 7, pa, pb, d, a) k (nI (kz_T c i)) := by
  unfold wpX_multiple
  refine kz_bad hc hi (br_t rfl ?_)
  refine kz_bm h1 h2 (br_t rfl ?_)
  exact kz_multd hc hi h1 h2 (fun pa' pb' d' a' => h pa' pb' d' a')
theorem kz_combine {post : Int32 → St2 → Prop} {c i j : Nat} {pa pb d k l : Int32} {a : Nat → Int32} (hc : c < 2) (hi : i < kz_N c) (hj : j < kz_N c) (h1 : -1000000 ≤ k.toInt) (h2 : k.toInt ≤ 1000000) (h3 : -1000000 ≤ l.toInt) (h4 : l.toInt ≤ 1000000)
    (h : ∀ pa' pb' d' a', post (nI (kz_T c ((kz_e c k * i % kz_N c + kz_e c l * j % kz_N c) % kz_N c))) (nI c, nI (kz_N c), kz_m c, kz_A c, 7, pa', pb', d', a')) :
    wpX_combine post (nI c, nI (kz_N c), kz_m c, kz_A c, 7, pa, pb, d, a) k (nI (kz_T c i)) l (nI (kz_T c j)) := by
  unfold wpX_combine
  refine kz_bad hc hi (br_t rfl ?_)
  refine kz_bad hc hj (br_t rfl ?_)
  refine kz_bm h1 h2 (br_t rfl ?_)
  refine kz_bm h3 h4 (br_t rfl ?_)
  refine kz_multd hc hi h1 h2 (fun pa1 pb1 d1 a1 => ?_)
  refine kz_multd hc hj h3 h4 (fun pa' pb' d' a' => ?_)
  exact kz_sumT hc (kz_ml_lt hc _) (kz_ml_lt hc _) (h pa' pb' d' a')
end
section
/-! the constructor -/
theorem kz_ini1 {post : St2 → Prop} {mc ms kc ks : Nat} {f1 f2 f3 f4 f5 f6 f7 : Int32} {a : Nat → Int32} (H : post (1, 142, 1, -11, 7, f5, f6, f7, a)) : wX_init_36 post mc ms 1 kc ks 1 f1 f2 f3 f4 f5 f6 f7 a :=
  ⟨8, br_f (by decide) (nm_r (e' := (0 : Int32)) (by decide) (nm_r (e' := (1 : Int32)) (by decide) (nm_r (e' := (1 : Int32)) (by decide) (br_f (by decide) (nm_r (e' := (-2 : Int32)) (by decide) (nm_r (e' := (1 : Int32)) (by decide) (nm_r (e' := (2 : Int32)) (by decide) (br_f (by decide) (nm_r (e' := (-2 : Int32)) (by decide) (nm_r (e' := (-1 : Int32)) (by decide) (nm_r (e' := (3 : Int32)) (by decide) (br_f (by decide) (nm_r (e' := (2 : Int32)) (by decide) (nm_r (e' := (-3 : Int32)) (by decide) (nm_r (e' := (4 : Int32)) (by decide) (br_f (by decide) (nm_r (e' := (6 : Int32)) (by decide) (nm_r (e' := (-1 : Int32)) (by decide) (nm_r (e' := (5 : Int32)) (by decide) (br_f (by decide) (nm_r (e' := (2 : Int32)) (by decide) (nm_r (e' := (5 : Int32)) (by decide) (nm_r (e' := (6 : Int32)) (by decide) (br_f (by decide) (nm_r (e' := (-10 : Int32)) (by decide) (nm_r (e' := (7 : Int32)) (by decide) (nm_r (e' := (7 : Int32)) (by decide) (br_t (by decide) (nm_r (e' := (-11 : Int32)) (by decide) (nm_r (e' := (142 : Int32)) (by decide) H))))))))))))))))))))))))))))))⟩
theorem kz_ini0 {post : St2 → Prop} {mc ms kc ks : Nat} {f1 f2 f3 f4 f5 f6 f7 : Int32} {a : Nat → Int32} (H : post (0, 116, -1, 9, 7, f5, f6, f7, a)) : wX_init_36 post mc ms (-1) kc ks 0 f1 f2 f3 f4 f5 f6 f7 a :=
  ⟨8, br_f (by decide) (nm_r (e' := (0 : Int32)) (by decide) (nm_r (e' := (1 : Int32)) (by decide) (nm_r (e' := (1 : Int32)) (by decide) (br_f (by decide) (nm_r (e' := (-2 : Int32)) (by decide) (nm_r (e' := (-1 : Int32)) (by decide) (nm_r (e' := (2 : Int32)) (by decide) (br_f (by decide) (nm_r (e' := (2 : Int32)) (by decide) (nm_r (e' := (-1 : Int32)) (by decide) (nm_r (e' := (3 : Int32)) (by decide) (br_f (by decide) (nm_r (e' := (2 : Int32)) (by decide) (nm_r (e' := (3 : Int32)) (by decide) (nm_r (e' := (4 : Int32)) (by decide) (br_f (by decide) (nm_r (e' := (-6 : Int32)) (by decide) (nm_r (e' := (-1 : Int32)) (by decide) (nm_r (e' := (5 : Int32)) (by decide) (br_f (by decide) (nm_r (e' := (2 : Int32)) (by decide) (nm_r (e' := (-5 : Int32)) (by decide) (nm_r (e' := (6 : Int32)) (by decide) (br_f (by decide) (nm_r (e' := (10 : Int32)) (by decide) (nm_r (e' := (7 : Int32)) (by decide) (nm_r (e' := (7 : Int32)) (by decide) (br_t (by decide) (nm_r (e' := (9 : Int32)) (by decide) (nm_r (e' := (116 : Int32)) (by decide) H))))))))))))))))))))))))))))))⟩
theorem kz_le0 {x : Int32} (h : 1 ≤ x) : ¬ x ≤ 0 := by
  rw [Int32.le_iff_toInt_le] at h ⊢
  have e1 : (1 : Int32).toInt = 1 := by decide
  have e2 : (0 : Int32).toInt = 0 := by decide
  omega
theorem kz_le1 {x : Int32} (h : ¬ 1 ≤ x) : x ≤ 0 := by
  rw [Int32.le_iff_toInt_le] at h ⊢
  have e1 : (1 : Int32).toInt = 1 := by decide
  have e2 : (0 : Int32).toInt = 0 := by decide
  omega
theorem kz_init {post : St2 → Prop} {mc ms : Nat} {x : Int32} (h1 : 1 ≤ mc) (h2 : 40 ≤ ms)
    (h : ∀ c pa pb d a, c < 2 → (x ≤ 0 ∧ c = 0 ∨ ¬ x ≤ 0 ∧ c = 1) → post (nI c, nI (kz_N c), kz_m c, kz_A c, 7, pa, pb, d, a)) : wpX_init post mc ms (0, 0, 0, 0, 0, 0, 0, 0) x :=
  ⟨h1, h2, br_c (fun e => br_t e (kz_ini1 (h 1 0 0 0 _ (by decide) (Or.inr ⟨kz_le0 e, rfl⟩)))) (fun e => br_f e (kz_ini0 (h 0 0 0 0 _ (by decide) (Or.inl ⟨kz_le1 e, rfl⟩))))⟩
end
section
/-! the law -/
theorem kz_kb (x : Int32) : -262144 ≤ ((x &&& 524287) - 262144).toInt ∧ ((x &&& 524287) - 262144).toInt ≤ 262143 := by
  obtain ⟨j, hj, e⟩ := pk_andE x (m := 524287) 19 (by decide)
  have h : ((x &&& 524287) - 262144).toInt = (j : Int) - (262144 : Nat) := by
    rw [e]
    exact pk_sub_toInt (b := 262144) (by omega) (by decide)
  rw [h]
  omega
theorem kz_sumI {x y : Int32} (h1 : -262144 ≤ x.toInt) (h2 : x.toInt ≤ 262143) (h3 : -262144 ≤ y.toInt) (h4 : y.toInt ≤ 262143) : (x + y).toInt = x.toInt + y.toInt := by
  rw [Int32.toInt_add]
  exact kz_bm0 (by omega) (by omega)
theorem kz_eN {N : Nat} {x y : Int} (hN : N = 116 ∨ N = 142) : ((x + y) % (N : Int)).toNat = ((x % (N : Int)).toNat + (y % (N : Int)).toNat) % N := by
  rcases hN with rfl | rfl
  · omega
  · omega
theorem kz_add_e {c : Nat} (hc : c < 2) {x y : Int32} (h : (x + y).toInt = x.toInt + y.toInt) : kz_e c (x + y) = (kz_e c x + kz_e c y) % kz_N c := by
  unfold kz_e
  rw [h]
  exact kz_eN (kz_Nv hc)
theorem kz_cnt {c : Nat} (hc : c < 2) : kz_e c (nI (kz_N c)) = 0 ∧ (nI (kz_N c)).toInt = (kz_N c : Int) := by
  have l := kz_Nv hc
  have e : (nI (kz_N c)).toInt = (kz_N c : Int) := nI_toInt (by omega)
  refine ⟨?_, e⟩
  unfold kz_e
  rw [e, Int.emod_self]
  rfl
/-- a + b times i -/
theorem kz_L1 (N a b i : Nat) : (a + b) % N * i % N = (a * i % N + b * i % N) % N := by
  rw [Nat.mod_mul_mod, Nat.add_mul, Nat.add_mod]
theorem kz_L2 (N a i j : Nat) : a * ((i + j) % N) % N = (a * i % N + a * j % N) % N := by
  rw [Nat.mul_mod_mod, Nat.mul_add, Nat.add_mod]
theorem kz_L3 (N S a b i : Nat) : S * ((a * i % N + b * i % N) % N) % N = (a + b) % N * (S * i % N) % N := by
  rw [← kz_L1, Nat.mul_mod_mod, Nat.mul_mod_mod, Nat.mul_left_comm]
noncomputable def kz_k9 (c : Nat) : Bool := kz_all (kz_N c) fun i => Nat.beq ((kz_S c * (kz_S c * i % kz_N c) % kz_N c + (i + i) % kz_N c) % kz_N c) (if c = 0 then (kz_N c - kz_S c * i % kz_N c) % kz_N c else kz_S c * i % kz_N c)
theorem kz_L4 {c i : Nat} (hc : c < 2) (hi : i < kz_N c) : (kz_S c * (kz_S c * i % kz_N c) % kz_N c + (i + i) % kz_N c) % kz_N c = (if c = 0 then (kz_N c - kz_S c * i % kz_N c) % kz_N c else kz_S c * i % kz_N c) := by
  have h : kz_k9 c = true := kz_c2 (P := fun c => kz_k9 c = true) (by decide +kernel) (by decide +kernel) hc
  exact Nat.eq_of_beq_eq_true (kz_alle h hi)
theorem kz_n4 {n : Nat} (h : n ≤ 16384) : ¬ nI n = -4 := by
  intro e
  have e1 := congrArg Int32.toInt e
  rw [nI_toInt (by omega)] at e1
  have e2 : (-4 : Int32).toInt = -4 := by decide
  omega
theorem kz_343 {post : Int32 → St0 → Prop} {mc ms kc ks c i s : Nat} {x8 x9 x10 x28 x29 z pa pb d : Int32} {a : Nat → Int32} (hc : c < 2) (hi : i < kz_N c) (hs : s < kz_N c) (h1 : -262144 ≤ x8.toInt) (h2 : x8.toInt ≤ 262143) (h3 : -262144 ≤ x9.toInt) (h4 : x9.toInt ≤ 262143)
    (h10 : x10 = nI (kz_T c ((kz_e c x8 * i % kz_N c + kz_e c x9 * i % kz_N c) % kz_N c))) (h28 : x28 = x29) (H : post 1 ()) :
    wL_lawOf_343 post mc ms (nI (kz_T c i)) x8 x9 x10 (nI (kz_T c i)) (nI (kz_T c s)) x28 x29 z z kc ks (nI c) (nI (kz_N c)) (kz_m c) (kz_A c) 7 pa pb d a :=
  br_t rfl (br_t rfl (kz_isPoint hc hs (br_f (by decide) (br_t h28 (kz_combine hc hi hi (by omega) (by omega) (by omega) (by omega) (fun _ _ _ _ => br_t h10.symm H))))))
theorem kz_321 {post : Int32 → St0 → Prop} {mc ms kc ks : Nat} {x6 x8 x9 x10 x24 x25 x26 x27 x28 x29 f0 f1 f2 f3 f4 f5 f6 f7 : Int32} {a : Nat → Int32} (hh : x24 = 0 ∧ x25 = -4 ∨ x24 = 2 ∧ ¬ x25 = -4)
    (H : ∀ z, wL_lawOf_343 post mc ms x6 x8 x9 x10 x26 x27 x28 x29 z z kc ks f0 f1 f2 f3 f4 f5 f6 f7 a) : wL_lawOf_321 post mc ms x6 x8 x9 x10 x24 x25 x26 x27 x28 x29 kc ks f0 f1 f2 f3 f4 f5 f6 f7 a := by
  rcases hh with ⟨h, g⟩ | ⟨h, g⟩
  · exact br_t h (br_t g (H 1))
  · exact br_f (by rw [h]; decide) (br_f g (H 0))
theorem kz_292 {post : Int32 → St0 → Prop} {mc ms kc ks c i : Nat} {x8 x9 x10 x24 x25 x26 x27 x28 x29 z0 z1 pa pb d : Int32} {a : Nat → Int32} (hc : c < 2) (hi : i < kz_N c) (hz : z1 = z0) (hh : x24 = 0 ∧ x25 = -4 ∨ x24 = 2 ∧ ¬ x25 = -4)
    (H : ∀ z pa' pb' d' a', wL_lawOf_343 post mc ms (nI (kz_T c i)) x8 x9 x10 x26 x27 x28 x29 z z kc ks (nI c) (nI (kz_N c)) (kz_m c) (kz_A c) 7 pa' pb' d' a') :
    wL_lawOf_292 post mc ms (nI (kz_T c i)) x8 x9 x10 (nI (kz_N c)) x24 x25 x26 x27 x28 x29 z0 z1 kc ks (nI c) (nI (kz_N c)) (kz_m c) (kz_A c) 7 pa pb d a := by
  have l := kz_Nv hc
  have e := (kz_cnt hc).2
  refine br_t hz (kz_multiple hc hi (by omega) (by omega) (fun pa' pb' d' a' => ?_))
  have e0 : nI (kz_T c (kz_e c (nI (kz_N c)) * i % kz_N c)) = 16384 := by
    rw [(kz_cnt hc).1, Nat.zero_mul, Nat.zero_mod, kz_T_0 hc]
    rfl
  refine br_t e0 ?_
  have K := kz_321 hh (fun z => H z pa' pb' d' a')
  by_cases h0 : x24 = 0
  · exact br_t h0 K
  · exact br_f h0 (br_t (by rcases hh with h | h; exact absurd h.1 h0; exact h.1) K)
theorem kz_229 {post : Int32 → St0 → Prop} {mc ms kc ks c i : Nat} {x0 x8 x9 x15 x17 x24 x25 pa pb d : Int32} {a : Nat → Int32} (hc : c < 2) (hi : i < kz_N c) (hx : x0 ≤ 0 ∧ c = 0 ∨ ¬ x0 ≤ 0 ∧ c = 1) (h1 : -262144 ≤ x8.toInt) (h2 : x8.toInt ≤ 262143) (h3 : -262144 ≤ x9.toInt) (h4 : x9.toInt ≤ 262143)
    (h15 : x15 = x17) (hh : x24 = 0 ∧ x25 = -4 ∨ x24 = 2 ∧ ¬ x25 = -4) (H : post 1 ()) :
    wL_lawOf_229 post mc ms x0 (nI (kz_T c i)) x8 x9 (nI (kz_T c (kz_e c (x8 + x9) * i % kz_N c))) (nI (kz_T c ((kz_e c x8 * i % kz_N c + kz_e c x9 * i % kz_N c) % kz_N c))) x15 x17 (nI (kz_T c (kz_S c * i % kz_N c)))
      (nI (kz_T c ((kz_S c * (kz_S c * i % kz_N c) % kz_N c + (i + i) % kz_N c) % kz_N c))) (nI (kz_T c ((kz_N c - kz_S c * i % kz_N c) % kz_N c))) (nI (kz_N c)) x24 x25 (nI (kz_T c i)) kc ks (nI c) (nI (kz_N c)) (kz_m c) (kz_A c) 7 pa pb d a := by
  have hs := kz_sumI h1 h2 h3 h4
  have he := kz_add_e hc hs
  have m1 := kz_ml_lt hc (kz_e c x8 * i % kz_N c + kz_e c x9 * i % kz_N c)
  have m2 := kz_ml_lt hc (kz_S c * i)
  unfold wL_lawOf_229
  refine kz_add hc m1 m2 ?_
  refine kz_square hc m1 ?_
  refine kz_multiple hc m2 (by omega) (by omega) (fun pa' pb' d' a' => ?_)
  have e10 : nI (kz_T c (kz_e c (x8 + x9) * i % kz_N c)) = nI (kz_T c ((kz_e c x8 * i % kz_N c + kz_e c x9 * i % kz_N c) % kz_N c)) := by
    rw [he, kz_L1]
  have e28 : nI (kz_T c (kz_S c * ((kz_e c x8 * i % kz_N c + kz_e c x9 * i % kz_N c) % kz_N c) % kz_N c)) = nI (kz_T c (kz_e c (x8 + x9) * (kz_S c * i % kz_N c) % kz_N c)) := by
    rw [he, kz_L3]
  have m3 := kz_ml_lt hc ((kz_e c x8 * i % kz_N c + kz_e c x9 * i % kz_N c) % kz_N c + kz_S c * i % kz_N c)
  refine br_t e10 (br_t h15 (br_c (fun g => ?_) (fun g => ?_)))
  · refine kz_292 hc hi ?_ hh (fun z pa1 pb1 d1 a1 => kz_343 hc hi m3 h1 h2 h3 h4 e10 e28 H)
    have c0 : c = 0 := by rcases hx with h | h; exact h.2; exact absurd g h.1
    rw [kz_L4 hc hi, if_pos c0]
  · refine kz_292 hc hi ?_ hh (fun z pa1 pb1 d1 a1 => kz_343 hc hi m3 h1 h2 h3 h4 e10 e28 H)
    have c1 : ¬ c = 0 := by rcases hx with h | h; exact absurd h.1 g; omega
    rw [kz_L4 hc hi, if_neg c1]
theorem kz_pts {post : Int32 → Prop} {f0 f1 f2 f3 f4 f5 f6 f7 : Int32} {a : Nat → Int32} (h : post f1) : wpX_points post (f0, f1, f2, f3, f4, f5, f6, f7, a) := h
theorem kz_lawOf {post : Int32 → St0 → Prop} {p0 p1 p2 p3 p4 : Int32} (H : post 1 ()) : wpL_lawOf post 2 49 () p0 p1 p2 p3 p4 := by
  unfold wpL_lawOf
  refine ⟨by omega, by omega, 1, 40, by omega, by omega, kz_init (by omega) (by omega) (fun c pa pb d a hc hx => ?_)⟩
  refine kz_point hc (fun i hi => ?_)
  refine kz_point hc (fun j hj => ?_)
  intro x8 e8 x9 e9
  have b8 := kz_kb p3
  have b9 := kz_kb p4
  rw [← e8] at b8
  rw [← e9] at b9
  obtain ⟨h1, h2⟩ := b8
  obtain ⟨h3, h4⟩ := b9
  have hs := kz_sumI h1 h2 h3 h4
  have M : ∀ x, x % kz_N c < kz_N c := kz_ml_lt hc
  refine kz_multiple hc hi (by omega) (by omega) (fun pa1 pb1 d1 a1 => ?_)
  refine kz_multiple hc hi (by omega) (by omega) (fun pa2 pb2 d2 a2 => ?_)
  refine kz_multiple hc hi (by omega) (by omega) (fun pa3 pb3 d3 a3 => ?_)
  refine kz_add hc (M _) (M _) ?_
  refine kz_add hc hi hj ?_
  refine kz_multiple hc (M _) (by omega) (by omega) (fun pa4 pb4 d4 a4 => ?_)
  refine kz_multiple hc hj (by omega) (by omega) (fun pa5 pb5 d5 a5 => ?_)
  refine kz_add hc (M _) (M _) ?_
  refine kz_square hc hi ?_
  refine kz_square hc (M _) ?_
  refine kz_add hc hi hi ?_
  refine kz_add hc (M _) (M _) ?_
  refine kz_negate hc (M _) ?_
  have h15 : nI (kz_T c (kz_e c x8 * ((i + j) % kz_N c) % kz_N c)) = nI (kz_T c ((kz_e c x8 * i % kz_N c + kz_e c x8 * j % kz_N c) % kz_N c)) := by
    rw [kz_L2]
  refine kz_pts ?_
  rcases kz_F6 hc hi with g | ⟨p, q, hp, hq, gp, gq, ep, eq⟩
  · refine kz_halvesN hc hi g ?_
    refine kz_halfN hc hi g ?_
    exact br_t (by decide) (kz_229 hc hi hx h1 h2 h3 h4 h15 (Or.inl ⟨rfl, rfl⟩) H)
  · refine kz_halvesS hc hi hp hq gp gq ?_
    have lp := kz_Tle hc hp
    have lq := kz_Tle hc hq
    refine kz_halfS hc hi hp hq gp gq ?_ ?_
    · refine br_f (nI_pos (by omega)) (kz_add hc hp hp ?_)
      rw [ep]
      exact kz_229 hc hi hx h1 h2 h3 h4 h15 (Or.inr ⟨rfl, kz_n4 (by omega)⟩) H
    · refine br_f (nI_pos (by omega)) (kz_add hc hq hq ?_)
      rw [eq]
      exact kz_229 hc hi hx h1 h2 h3 h4 h15 (Or.inr ⟨rfl, kz_n4 (by omega)⟩) H
theorem kz_cell {post : Int32 → Prop} {L : Nat} {xs : Nat → Int32} {u : St0} {y : Int32} (hL : L ≤ 5) (k : Nat) (hk : k < 5) (hy : y = nI k) (h : ∀ r, post r) : wpL_cellAt post L xs u y :=
  pk_le L k (fun _ => h 0) (fun z => ⟨pk_in k L z hy, h _⟩) rfl hy
theorem i_vc (xs : Nat → Int32) (L : Nat) (hL : L ≤ 5) : wpL_law (fun r => r = 1) L xs := by
  unfold wpL_law
  refine kz_cell hL 0 (by decide) rfl (fun r1 => ?_)
  refine kz_cell hL 1 (by decide) rfl (fun r2 => ?_)
  refine kz_cell hL 2 (by decide) rfl (fun r3 => ?_)
  refine kz_cell hL 3 (by decide) rfl (fun r4 => ?_)
  refine kz_cell hL 4 (by decide) rfl (fun r5 => ?_)
  exact ⟨2, 49, by omega, by omega, kz_lawOf rfl⟩
end
